section
-- ===== PART A: goes FIRST, ahead of the names: the tables' words, and 'selects' of the private methods out of them =====
/-- a private method of a class that the tables say can be made, by its rows of tables_1 -/
def lw_okq (q : MethodName × Nat) : Prop := (q.1.cls ≠ "java/lang/invoke/MethodHandle" ∧ q.1.cls ≠ "java/lang/invoke/VarHandle") ∧ Cond.instantiable q.1.cls q.2 ∈ tables_1 ∧ Cond.privateMethod q.1 ∈ tables_1 ∧ Cond.instanceMethod q.1 ∈ tables_1
set_option maxRecDepth 100000
theorem lw_p0 : lw_okq (⟨"ChainDesk", "countOf", "(I)I"⟩, 7) := ⟨⟨by decide +kernel, by decide +kernel⟩, List.mem_of_getElem? (i := 4) rfl, List.mem_of_getElem? (i := 51) rfl, List.mem_of_getElem? (i := 52) rfl⟩
theorem lw_p1 : lw_okq (⟨"ChainDesk", "simplexAt", "(II)I"⟩, 7) := ⟨⟨by decide +kernel, by decide +kernel⟩, List.mem_of_getElem? (i := 4) rfl, List.mem_of_getElem? (i := 62) rfl, List.mem_of_getElem? (i := 63) rfl⟩
theorem lw_p2 : lw_okq (⟨"ChainDesk", "isChain", "(II)Z"⟩, 7) := ⟨⟨by decide +kernel, by decide +kernel⟩, List.mem_of_getElem? (i := 4) rfl, List.mem_of_getElem? (i := 70) rfl, List.mem_of_getElem? (i := 71) rfl⟩
theorem lw_p3 : lw_okq (⟨"ChainDesk", "boundaryOf", "(II)I"⟩, 7) := ⟨⟨by decide +kernel, by decide +kernel⟩, List.mem_of_getElem? (i := 4) rfl, List.mem_of_getElem? (i := 74) rfl, List.mem_of_getElem? (i := 75) rfl⟩
theorem lw_p4 : lw_okq (⟨"ChainDesk", "facesOf", "(I)I"⟩, 7) := ⟨⟨by decide +kernel, by decide +kernel⟩, List.mem_of_getElem? (i := 4) rfl, List.mem_of_getElem? (i := 78) rfl, List.mem_of_getElem? (i := 79) rfl⟩
theorem lw_p5 : lw_okq (⟨"ChainDesk", "placeOf", "(I)I"⟩, 7) := ⟨⟨by decide +kernel, by decide +kernel⟩, List.mem_of_getElem? (i := 4) rfl, List.mem_of_getElem? (i := 82) rfl, List.mem_of_getElem? (i := 83) rfl⟩
theorem lw_p6 : lw_okq (⟨"ChainDesk", "eliminate", "(I)V"⟩, 7) := ⟨⟨by decide +kernel, by decide +kernel⟩, List.mem_of_getElem? (i := 4) rfl, List.mem_of_getElem? (i := 90) rfl, List.mem_of_getElem? (i := 91) rfl⟩
theorem lw_p7 : lw_okq (⟨"ChainDesk", "reduce", "(I)V"⟩, 7) := ⟨⟨by decide +kernel, by decide +kernel⟩, List.mem_of_getElem? (i := 4) rfl, List.mem_of_getElem? (i := 94) rfl, List.mem_of_getElem? (i := 95) rfl⟩
theorem lw_p8 : lw_okq (⟨"ChainDesk", "addCycle", "(I)V"⟩, 7) := ⟨⟨by decide +kernel, by decide +kernel⟩, List.mem_of_getElem? (i := 4) rfl, List.mem_of_getElem? (i := 98) rfl, List.mem_of_getElem? (i := 99) rfl⟩
theorem lw_p9 : lw_okq (⟨"ChainDeskModel", "noChain", "(II)Z"⟩, 2) := ⟨⟨by decide +kernel, by decide +kernel⟩, List.mem_of_getElem? (i := 121) rfl, List.mem_of_getElem? (i := 160) rfl, List.mem_of_getElem? (i := 161) rfl⟩
theorem lw_p10 : lw_okq (⟨"ChainDeskModel", "chains", "(I)I"⟩, 2) := ⟨⟨by decide +kernel, by decide +kernel⟩, List.mem_of_getElem? (i := 121) rfl, List.mem_of_getElem? (i := 164) rfl, List.mem_of_getElem? (i := 165) rfl⟩
theorem lw_p11 : lw_okq (⟨"ChainDeskModel", "boundaryOf", "(II)I"⟩, 2) := ⟨⟨by decide +kernel, by decide +kernel⟩, List.mem_of_getElem? (i := 121) rfl, List.mem_of_getElem? (i := 169) rfl, List.mem_of_getElem? (i := 170) rfl⟩
theorem lw_p12 : lw_okq (⟨"ChainDeskModel", "odd", "(III)Z"⟩, 2) := ⟨⟨by decide +kernel, by decide +kernel⟩, List.mem_of_getElem? (i := 121) rfl, List.mem_of_getElem? (i := 174) rfl, List.mem_of_getElem? (i := 175) rfl⟩
theorem lw_p13 : lw_okq (⟨"ChainDeskModel", "mark", "(I)I"⟩, 2) := ⟨⟨by decide +kernel, by decide +kernel⟩, List.mem_of_getElem? (i := 121) rfl, List.mem_of_getElem? (i := 182) rfl, List.mem_of_getElem? (i := 183) rfl⟩
def lw_privs_1 : List (MethodName × Nat) := [(⟨"ChainDesk", "countOf", "(I)I"⟩, 7), (⟨"ChainDesk", "simplexAt", "(II)I"⟩, 7), (⟨"ChainDesk", "isChain", "(II)Z"⟩, 7), (⟨"ChainDesk", "boundaryOf", "(II)I"⟩, 7), (⟨"ChainDesk", "facesOf", "(I)I"⟩, 7), (⟨"ChainDesk", "placeOf", "(I)I"⟩, 7), (⟨"ChainDesk", "eliminate", "(I)V"⟩, 7), (⟨"ChainDesk", "reduce", "(I)V"⟩, 7), (⟨"ChainDesk", "addCycle", "(I)V"⟩, 7), (⟨"ChainDeskModel", "noChain", "(II)Z"⟩, 2), (⟨"ChainDeskModel", "chains", "(I)I"⟩, 2), (⟨"ChainDeskModel", "boundaryOf", "(II)I"⟩, 2), (⟨"ChainDeskModel", "odd", "(III)Z"⟩, 2), (⟨"ChainDeskModel", "mark", "(I)I"⟩, 2)]
theorem lw_r1 : ∀ q ∈ lw_privs_1, lw_okq q := List.forall_mem_cons.mpr ⟨lw_p0, List.forall_mem_cons.mpr ⟨lw_p1, List.forall_mem_cons.mpr ⟨lw_p2, List.forall_mem_cons.mpr ⟨lw_p3, List.forall_mem_cons.mpr ⟨lw_p4, List.forall_mem_cons.mpr ⟨lw_p5, List.forall_mem_cons.mpr ⟨lw_p6, List.forall_mem_cons.mpr ⟨lw_p7, List.forall_mem_cons.mpr ⟨lw_p8, List.forall_mem_cons.mpr ⟨lw_p9, List.forall_mem_cons.mpr ⟨lw_p10, List.forall_mem_cons.mpr ⟨lw_p11, List.forall_mem_cons.mpr ⟨lw_p12, List.forall_mem_cons.mpr ⟨lw_p13, fun _ h => absurd h List.not_mem_nil⟩⟩⟩⟩⟩⟩⟩⟩⟩⟩⟩⟩⟩⟩
def lw_privs : List (MethodName × Nat) := lw_privs_1
def lw_tbl : List Cond := k2_sels lw_privs ++ tables_1
theorem lw_privs_ok : ∀ q ∈ lw_privs, lw_okq q := lw_r1
-- ===== ONE list of words for every method: the tables' words that hold all through a run =====
def lw_all : List Cond := lw_tbl.filter goodWord
/-- a word of the tables by its place: claim/WORDS.tsv -/
theorem lw_w {w : Cond} (i : Nat) (h : lw_tbl[i]? = some w) (g : goodWord w = true) : w ∈ lw_all := List.mem_filter.mpr ⟨List.mem_of_getElem? h, g⟩
theorem lw_all_tbl {w : Cond} (h : w ∈ lw_all) : w ∈ lw_tbl := (List.mem_filter.mp h).1
theorem lw_self : GoodIn lw_all lw_all := fun w h => ⟨h, good_of_word (List.mem_filter.mp h).2⟩
/-- a class's field words, by their places -/
theorem lw_in (ws : List Cond) (ps : List Nat) (hp : ws = ps.filterMap (fun i => lw_tbl[i]?)) (hg : ws.all goodWord = true) : ∀ w ∈ ws, w ∈ lw_all := by
  intro w h
  have h1 := List.all_eq_true.mp hg w h
  rw [hp] at h
  obtain ⟨i, -, hi⟩ := List.mem_filterMap.mp h
  exact lw_w i hi h1
/-- the words of a contract for the method y with code b, L locals, answer r -/
abbrev ws_ (y : MethodName) (b : ByteArray) (L : Nat) (r : Option FieldType) : List Cond := Cond.code y b L r :: lw_all
theorem lw_meth {y : MethodName} {b : ByteArray} {L : Nat} {r : Option FieldType} (h : Cond.code y b L r ∈ lw_all) : GoodIn lw_all (ws_ y b L r) := by
  intro w hw
  rcases List.mem_cons.mp hw with e | e
  · rw [e]
    exact lw_self _ h
  · exact lw_self _ e
theorem lw_app {a c : List Cond} (ha : ∀ w ∈ a, w ∈ lw_all) (hc : GoodIn lw_all c) : GoodIn lw_all (a ++ c) := by
  intro w hw
  rcases List.mem_append.mp hw with e | e
  · exact lw_self w (ha w e)
  · exact hc w e
/-- what a call through an object asks: cwV n hts (lw_V ..) -/
theorem lw_V {own : String} {idx : Nat} {C : String} {y : MethodName} {b : ByteArray} {L : Nat} {r : Option FieldType} (h1 : Cond.methodLink own idx y ∈ lw_all) (h2 : Cond.instanceMethod y ∈ lw_all) (h3 : Cond.selects C y y ∈ lw_all) (h4 : Cond.initialized C ∈ lw_all) (h5 : Cond.code y b L r ∈ lw_all) : GoodIn lw_all (wsV own idx C y (ws_ y b L r)) := by
  refine lw_app ?_ (lw_meth h5)
  intro w hw
  simp only [List.mem_cons, List.not_mem_nil, or_false] at hw
  rcases hw with e | e | e | e
  · rw [e]; exact h1
  · rw [e]; exact h2
  · rw [e]; exact h3
  · rw [e]; exact h4
/-- what a static call asks: va_cwS n hts (lw_S ..) -/
theorem lw_S {own : String} {idx : Nat} {y : MethodName} {b : ByteArray} {L : Nat} {r : Option FieldType} (h1 : Cond.methodLink own idx y ∈ lw_all) (h2 : Cond.static y ∈ lw_all) (h3 : Cond.initialized y.cls ∈ lw_all) (h4 : Cond.code y b L r ∈ lw_all) : GoodIn lw_all (va_wsS own idx y (ws_ y b L r)) := by
  refine lw_app ?_ (lw_meth h4)
  intro w hw
  simp only [List.mem_cons, List.not_mem_nil, or_false] at hw
  rcases hw with e | e | e
  · rw [e]; exact h1
  · rw [e]; exact h2
  · rw [e]; exact h3
/-- the words of a contract for a method WITH HANDLERS (hh: its table) -/
abbrev wsW_ (y : MethodName) (b : ByteArray) (L : Nat) (r : Option FieldType) (hh : List (Nat × Nat × Nat × Nat)) : List Cond := Cond.codeWith y b L r hh :: lw_all
theorem lw_methW {y : MethodName} {b : ByteArray} {L : Nat} {r : Option FieldType} {hh : List (Nat × Nat × Nat × Nat)} (h : Cond.codeWith y b L r hh ∈ lw_all) : GoodIn lw_all (wsW_ y b L r hh) := by
  intro w hw
  rcases List.mem_cons.mp hw with e | e
  · rw [e]
    exact lw_self _ h
  · exact lw_self _ e
/-- any list of words by their places (lw_in), good -/
theorem lw_good {ws : List Cond} (h : ∀ w ∈ ws, w ∈ lw_all) : GoodIn lw_all ws := fun w hw => lw_self w (h w hw)
/-- what a call of a method with handlers asks: vx_cwVW n hts (lw_VW ..), vx_cwSW n hts (lw_SW ..) -/
theorem lw_VW {own : String} {idx : Nat} {C : String} {y : MethodName} {b : ByteArray} {L : Nat} {r : Option FieldType} {hh : List (Nat × Nat × Nat × Nat)} (h1 : Cond.methodLink own idx y ∈ lw_all) (h2 : Cond.instanceMethod y ∈ lw_all) (h3 : Cond.selects C y y ∈ lw_all) (h4 : Cond.initialized C ∈ lw_all) (h5 : Cond.codeWith y b L r hh ∈ lw_all) : GoodIn lw_all (wsV own idx C y (wsW_ y b L r hh)) := by
  refine lw_app ?_ (lw_methW h5)
  intro w hw
  simp only [List.mem_cons, List.not_mem_nil, or_false] at hw
  rcases hw with e | e | e | e
  · rw [e]; exact h1
  · rw [e]; exact h2
  · rw [e]; exact h3
  · rw [e]; exact h4
theorem lw_SW {own : String} {idx : Nat} {y : MethodName} {b : ByteArray} {L : Nat} {r : Option FieldType} {hh : List (Nat × Nat × Nat × Nat)} (h1 : Cond.methodLink own idx y ∈ lw_all) (h2 : Cond.static y ∈ lw_all) (h3 : Cond.initialized y.cls ∈ lw_all) (h4 : Cond.codeWith y b L r hh ∈ lw_all) : GoodIn lw_all (va_wsS own idx y (wsW_ y b L r hh)) := by
  refine lw_app ?_ (lw_methW h4)
  intro w hw
  simp only [List.mem_cons, List.not_mem_nil, or_false] at hw
  rcases hw with e | e | e
  · rw [e]; exact h1
  · rw [e]; exact h2
  · rw [e]; exact h3
/-- a word by its place in its run of the tables -/
theorem lw_at {r : List Cond} (hr : ∀ w ∈ r, w ∈ lw_tbl) {w : Cond} (i : Nat) (h : r[i]? = some w) : w ∈ lw_tbl := hr w (List.mem_of_getElem? h)
theorem lw_g {w : Cond} (h : w ∈ lw_tbl) (g : goodWord w = true) : w ∈ lw_all := List.mem_filter.mpr ⟨h, g⟩
theorem lw_ms : ∀ w ∈ k2_sels lw_privs, w ∈ lw_tbl := fun w h => show w ∈ k2_sels lw_privs ++ tables_1 from List.mem_append_left _ h
theorem lw_m0 : ∀ w ∈ tables_1, w ∈ lw_tbl := fun w h => show w ∈ k2_sels lw_privs ++ tables_1 from List.mem_append_right (k2_sels lw_privs) h
theorem qs0 : (Cond.selects "ChainDesk" ⟨"ChainDesk", "countOf", "(I)I"⟩ ⟨"ChainDesk", "countOf", "(I)I"⟩) ∈ lw_all := lw_g (lw_at lw_ms 0 rfl) rfl
theorem qs1 : (Cond.selects "ChainDesk" ⟨"ChainDesk", "simplexAt", "(II)I"⟩ ⟨"ChainDesk", "simplexAt", "(II)I"⟩) ∈ lw_all := lw_g (lw_at lw_ms 1 rfl) rfl
theorem qs2 : (Cond.selects "ChainDesk" ⟨"ChainDesk", "isChain", "(II)Z"⟩ ⟨"ChainDesk", "isChain", "(II)Z"⟩) ∈ lw_all := lw_g (lw_at lw_ms 2 rfl) rfl
theorem qs3 : (Cond.selects "ChainDesk" ⟨"ChainDesk", "boundaryOf", "(II)I"⟩ ⟨"ChainDesk", "boundaryOf", "(II)I"⟩) ∈ lw_all := lw_g (lw_at lw_ms 3 rfl) rfl
theorem qs4 : (Cond.selects "ChainDesk" ⟨"ChainDesk", "facesOf", "(I)I"⟩ ⟨"ChainDesk", "facesOf", "(I)I"⟩) ∈ lw_all := lw_g (lw_at lw_ms 4 rfl) rfl
theorem qs5 : (Cond.selects "ChainDesk" ⟨"ChainDesk", "placeOf", "(I)I"⟩ ⟨"ChainDesk", "placeOf", "(I)I"⟩) ∈ lw_all := lw_g (lw_at lw_ms 5 rfl) rfl
theorem qs6 : (Cond.selects "ChainDesk" ⟨"ChainDesk", "eliminate", "(I)V"⟩ ⟨"ChainDesk", "eliminate", "(I)V"⟩) ∈ lw_all := lw_g (lw_at lw_ms 6 rfl) rfl
theorem qs7 : (Cond.selects "ChainDesk" ⟨"ChainDesk", "reduce", "(I)V"⟩ ⟨"ChainDesk", "reduce", "(I)V"⟩) ∈ lw_all := lw_g (lw_at lw_ms 7 rfl) rfl
theorem qs8 : (Cond.selects "ChainDesk" ⟨"ChainDesk", "addCycle", "(I)V"⟩ ⟨"ChainDesk", "addCycle", "(I)V"⟩) ∈ lw_all := lw_g (lw_at lw_ms 8 rfl) rfl
theorem qs9 : (Cond.selects "ChainDeskModel" ⟨"ChainDeskModel", "noChain", "(II)Z"⟩ ⟨"ChainDeskModel", "noChain", "(II)Z"⟩) ∈ lw_all := lw_g (lw_at lw_ms 9 rfl) rfl
theorem qs10 : (Cond.selects "ChainDeskModel" ⟨"ChainDeskModel", "chains", "(I)I"⟩ ⟨"ChainDeskModel", "chains", "(I)I"⟩) ∈ lw_all := lw_g (lw_at lw_ms 10 rfl) rfl
theorem qs11 : (Cond.selects "ChainDeskModel" ⟨"ChainDeskModel", "boundaryOf", "(II)I"⟩ ⟨"ChainDeskModel", "boundaryOf", "(II)I"⟩) ∈ lw_all := lw_g (lw_at lw_ms 11 rfl) rfl
theorem qs12 : (Cond.selects "ChainDeskModel" ⟨"ChainDeskModel", "odd", "(III)Z"⟩ ⟨"ChainDeskModel", "odd", "(III)Z"⟩) ∈ lw_all := lw_g (lw_at lw_ms 12 rfl) rfl
theorem qs13 : (Cond.selects "ChainDeskModel" ⟨"ChainDeskModel", "mark", "(I)I"⟩ ⟨"ChainDeskModel", "mark", "(I)I"⟩) ∈ lw_all := lw_g (lw_at lw_ms 13 rfl) rfl
end
section
/-! ChainDesk -/
set_option maxRecDepth 100000
def RX0 : String := "ChainDesk"
def TX0 : u_T := fun k => match k with
  | 0 => ("ChainDesk", "held", "[Z", true)
  | 1 => ("ChainDesk", "row", "[I", true)
  | 2 => ("ChainDesk", "origin", "[I", true)
  | 3 => ("ChainDesk", "cycle", "[I", true)
  | 4 => ("ChainDesk", "rank", "I", false)
  | 5 => ("ChainDesk", "left", "I", false)
  | _ => ("ChainDesk", "taken", "I", false)
def tyX0 : Nat → FieldType := fun k => match k with
  | 0 => .array .boolean
  | 1 => .array .int
  | 2 => .array .int
  | 3 => .array .int
  | 4 => .int
  | 5 => .int
  | _ => .int
abbrev wsX00 : List Cond := u_ws RX0 TX0 7
theorem nmX0 : ∀ a, a < 7 → ∀ b, b < 7 → a ≠ b → (TX0 a).2.1 ≠ (TX0 b).2.1 := by decide +kernel
theorem tyX0_ok : ∀ k, k < 7 → parseFieldDescriptor (TX0 k).2.2.1 = some (tyX0 k) := by decide +kernel
abbrev cX0_init : ByteArray := prog_1_method_1_code
def yX0_init : MethodName := ⟨RX0, "<init>", "()V"⟩
theorem dX0_init_0 : decode cX0_init 0 = .ok (.aload_n 0, 1) := by decide +kernel
theorem dX0_init_1 : decode cX0_init 1 = .ok (.invokespecial 1, 3) := by decide +kernel
theorem dX0_init_4 : decode cX0_init 4 = .ok (.aload_n 0, 1) := by decide +kernel
theorem dX0_init_5 : decode cX0_init 5 = .ok (.bipush 32, 2) := by decide +kernel
theorem dX0_init_7 : decode cX0_init 7 = .ok (.newarray .boolean, 2) := by decide +kernel
theorem dX0_init_9 : decode cX0_init 9 = .ok (.putfield 7, 3) := by decide +kernel
theorem dX0_init_12 : decode cX0_init 12 = .ok (.aload_n 0, 1) := by decide +kernel
theorem dX0_init_13 : decode cX0_init 13 = .ok (.bipush 10, 2) := by decide +kernel
theorem dX0_init_15 : decode cX0_init 15 = .ok (.newarray .int, 2) := by decide +kernel
theorem dX0_init_17 : decode cX0_init 17 = .ok (.putfield 13, 3) := by decide +kernel
theorem dX0_init_20 : decode cX0_init 20 = .ok (.aload_n 0, 1) := by decide +kernel
theorem dX0_init_21 : decode cX0_init 21 = .ok (.bipush 10, 2) := by decide +kernel
theorem dX0_init_23 : decode cX0_init 23 = .ok (.newarray .int, 2) := by decide +kernel
theorem dX0_init_25 : decode cX0_init 25 = .ok (.putfield 17, 3) := by decide +kernel
theorem dX0_init_28 : decode cX0_init 28 = .ok (.aload_n 0, 1) := by decide +kernel
theorem dX0_init_29 : decode cX0_init 29 = .ok (.bipush 10, 2) := by decide +kernel
theorem dX0_init_31 : decode cX0_init 31 = .ok (.newarray .int, 2) := by decide +kernel
theorem dX0_init_33 : decode cX0_init 33 = .ok (.putfield 20, 3) := by decide +kernel
theorem dX0_init_36 : decode cX0_init 36 = .ok (.return_, 1) := by decide +kernel
abbrev cX0_add : ByteArray := prog_1_method_2_code
def yX0_add : MethodName := ⟨RX0, "add", "(I)I"⟩
theorem dX0_add_0 : decode cX0_add 0 = .ok (.iload_n 1, 1) := by decide +kernel
theorem dX0_add_1 : decode cX0_add 1 = .ok (.iconst 1, 1) := by decide +kernel
theorem dX0_add_2 : decode cX0_add 2 = .ok (.if_icmp .lt 9, 3) := by decide +kernel
theorem dX0_add_5 : decode cX0_add 5 = .ok (.iload_n 1, 1) := by decide +kernel
theorem dX0_add_6 : decode cX0_add 6 = .ok (.bipush 31, 2) := by decide +kernel
theorem dX0_add_8 : decode cX0_add 8 = .ok (.if_icmp .le 5, 3) := by decide +kernel
theorem dX0_add_11 : decode cX0_add 11 = .ok (.iconst (-1), 1) := by decide +kernel
theorem dX0_add_12 : decode cX0_add 12 = .ok (.ireturn, 1) := by decide +kernel
theorem dX0_add_13 : decode cX0_add 13 = .ok (.iconst 0, 1) := by decide +kernel
theorem dX0_add_14 : decode cX0_add 14 = .ok (.istore_n 2, 1) := by decide +kernel
theorem dX0_add_15 : decode cX0_add 15 = .ok (.iconst 1, 1) := by decide +kernel
theorem dX0_add_16 : decode cX0_add 16 = .ok (.istore_n 3, 1) := by decide +kernel
theorem dX0_add_17 : decode cX0_add 17 = .ok (.iload_n 3, 1) := by decide +kernel
theorem dX0_add_18 : decode cX0_add 18 = .ok (.bipush 32, 2) := by decide +kernel
theorem dX0_add_20 : decode cX0_add 20 = .ok (.if_icmp .ge 36, 3) := by decide +kernel
theorem dX0_add_23 : decode cX0_add 23 = .ok (.iload_n 3, 1) := by decide +kernel
theorem dX0_add_24 : decode cX0_add 24 = .ok (.iload_n 1, 1) := by decide +kernel
theorem dX0_add_25 : decode cX0_add 25 = .ok (.iconst (-1), 1) := by decide +kernel
theorem dX0_add_26 : decode cX0_add 26 = .ok (.ixor, 1) := by decide +kernel
theorem dX0_add_27 : decode cX0_add 27 = .ok (.iand, 1) := by decide +kernel
theorem dX0_add_28 : decode cX0_add 28 = .ok (.ifCond .ne 22, 3) := by decide +kernel
theorem dX0_add_31 : decode cX0_add 31 = .ok (.aload_n 0, 1) := by decide +kernel
theorem dX0_add_32 : decode cX0_add 32 = .ok (.getfield 7, 3) := by decide +kernel
theorem dX0_add_35 : decode cX0_add 35 = .ok (.iload_n 3, 1) := by decide +kernel
theorem dX0_add_36 : decode cX0_add 36 = .ok (.baload, 1) := by decide +kernel
theorem dX0_add_37 : decode cX0_add 37 = .ok (.ifCond .ne 13, 3) := by decide +kernel
theorem dX0_add_40 : decode cX0_add 40 = .ok (.aload_n 0, 1) := by decide +kernel
theorem dX0_add_41 : decode cX0_add 41 = .ok (.getfield 7, 3) := by decide +kernel
theorem dX0_add_44 : decode cX0_add 44 = .ok (.iload_n 3, 1) := by decide +kernel
theorem dX0_add_45 : decode cX0_add 45 = .ok (.iconst 1, 1) := by decide +kernel
theorem dX0_add_46 : decode cX0_add 46 = .ok (.bastore, 1) := by decide +kernel
theorem dX0_add_47 : decode cX0_add 47 = .ok (.iinc 2 1, 3) := by decide +kernel
theorem dX0_add_50 : decode cX0_add 50 = .ok (.iinc 3 1, 3) := by decide +kernel
theorem dX0_add_53 : decode cX0_add 53 = .ok (.goto (-36), 3) := by decide +kernel
theorem dX0_add_56 : decode cX0_add 56 = .ok (.iload_n 2, 1) := by decide +kernel
theorem dX0_add_57 : decode cX0_add 57 = .ok (.ireturn, 1) := by decide +kernel
abbrev cX0_remove : ByteArray := prog_1_method_3_code
def yX0_remove : MethodName := ⟨RX0, "remove", "(I)I"⟩
theorem dX0_remove_0 : decode cX0_remove 0 = .ok (.iload_n 1, 1) := by decide +kernel
theorem dX0_remove_1 : decode cX0_remove 1 = .ok (.iconst 1, 1) := by decide +kernel
theorem dX0_remove_2 : decode cX0_remove 2 = .ok (.if_icmp .lt 9, 3) := by decide +kernel
theorem dX0_remove_5 : decode cX0_remove 5 = .ok (.iload_n 1, 1) := by decide +kernel
theorem dX0_remove_6 : decode cX0_remove 6 = .ok (.bipush 31, 2) := by decide +kernel
theorem dX0_remove_8 : decode cX0_remove 8 = .ok (.if_icmp .le 5, 3) := by decide +kernel
theorem dX0_remove_11 : decode cX0_remove 11 = .ok (.iconst (-1), 1) := by decide +kernel
theorem dX0_remove_12 : decode cX0_remove 12 = .ok (.ireturn, 1) := by decide +kernel
theorem dX0_remove_13 : decode cX0_remove 13 = .ok (.iconst 0, 1) := by decide +kernel
theorem dX0_remove_14 : decode cX0_remove 14 = .ok (.istore_n 2, 1) := by decide +kernel
theorem dX0_remove_15 : decode cX0_remove 15 = .ok (.iconst 1, 1) := by decide +kernel
theorem dX0_remove_16 : decode cX0_remove 16 = .ok (.istore_n 3, 1) := by decide +kernel
theorem dX0_remove_17 : decode cX0_remove 17 = .ok (.iload_n 3, 1) := by decide +kernel
theorem dX0_remove_18 : decode cX0_remove 18 = .ok (.bipush 32, 2) := by decide +kernel
theorem dX0_remove_20 : decode cX0_remove 20 = .ok (.if_icmp .ge 36, 3) := by decide +kernel
theorem dX0_remove_23 : decode cX0_remove 23 = .ok (.iload_n 1, 1) := by decide +kernel
theorem dX0_remove_24 : decode cX0_remove 24 = .ok (.iload_n 3, 1) := by decide +kernel
theorem dX0_remove_25 : decode cX0_remove 25 = .ok (.iconst (-1), 1) := by decide +kernel
theorem dX0_remove_26 : decode cX0_remove 26 = .ok (.ixor, 1) := by decide +kernel
theorem dX0_remove_27 : decode cX0_remove 27 = .ok (.iand, 1) := by decide +kernel
theorem dX0_remove_28 : decode cX0_remove 28 = .ok (.ifCond .ne 22, 3) := by decide +kernel
theorem dX0_remove_31 : decode cX0_remove 31 = .ok (.aload_n 0, 1) := by decide +kernel
theorem dX0_remove_32 : decode cX0_remove 32 = .ok (.getfield 7, 3) := by decide +kernel
theorem dX0_remove_35 : decode cX0_remove 35 = .ok (.iload_n 3, 1) := by decide +kernel
theorem dX0_remove_36 : decode cX0_remove 36 = .ok (.baload, 1) := by decide +kernel
theorem dX0_remove_37 : decode cX0_remove 37 = .ok (.ifCond .eq 13, 3) := by decide +kernel
theorem dX0_remove_40 : decode cX0_remove 40 = .ok (.aload_n 0, 1) := by decide +kernel
theorem dX0_remove_41 : decode cX0_remove 41 = .ok (.getfield 7, 3) := by decide +kernel
theorem dX0_remove_44 : decode cX0_remove 44 = .ok (.iload_n 3, 1) := by decide +kernel
theorem dX0_remove_45 : decode cX0_remove 45 = .ok (.iconst 0, 1) := by decide +kernel
theorem dX0_remove_46 : decode cX0_remove 46 = .ok (.bastore, 1) := by decide +kernel
theorem dX0_remove_47 : decode cX0_remove 47 = .ok (.iinc 2 1, 3) := by decide +kernel
theorem dX0_remove_50 : decode cX0_remove 50 = .ok (.iinc 3 1, 3) := by decide +kernel
theorem dX0_remove_53 : decode cX0_remove 53 = .ok (.goto (-36), 3) := by decide +kernel
theorem dX0_remove_56 : decode cX0_remove 56 = .ok (.iload_n 2, 1) := by decide +kernel
theorem dX0_remove_57 : decode cX0_remove 57 = .ok (.ireturn, 1) := by decide +kernel
abbrev cX0_count : ByteArray := prog_1_method_4_code
def yX0_count : MethodName := ⟨RX0, "count", "(I)I"⟩
theorem dX0_count_0 : decode cX0_count 0 = .ok (.iload_n 1, 1) := by decide +kernel
theorem dX0_count_1 : decode cX0_count 1 = .ok (.invokestatic 23, 3) := by decide +kernel
theorem dX0_count_4 : decode cX0_count 4 = .ok (.ifCond .eq 11, 3) := by decide +kernel
theorem dX0_count_7 : decode cX0_count 7 = .ok (.aload_n 0, 1) := by decide +kernel
theorem dX0_count_8 : decode cX0_count 8 = .ok (.iload_n 1, 1) := by decide +kernel
theorem dX0_count_9 : decode cX0_count 9 = .ok (.invokevirtual 27, 3) := by decide +kernel
theorem dX0_count_12 : decode cX0_count 12 = .ok (.goto 4, 3) := by decide +kernel
theorem dX0_count_15 : decode cX0_count 15 = .ok (.iconst (-1), 1) := by decide +kernel
theorem dX0_count_16 : decode cX0_count 16 = .ok (.ireturn, 1) := by decide +kernel
abbrev cX0_isDimension : ByteArray := prog_1_method_12_code
def yX0_isDimension : MethodName := ⟨RX0, "isDimension", "(I)Z"⟩
theorem dX0_isDimension_0 : decode cX0_isDimension 0 = .ok (.iload_n 0, 1) := by decide +kernel
theorem dX0_isDimension_1 : decode cX0_isDimension 1 = .ok (.ifCond .lt 12, 3) := by decide +kernel
theorem dX0_isDimension_4 : decode cX0_isDimension 4 = .ok (.iload_n 0, 1) := by decide +kernel
theorem dX0_isDimension_5 : decode cX0_isDimension 5 = .ok (.iconst 4, 1) := by decide +kernel
theorem dX0_isDimension_6 : decode cX0_isDimension 6 = .ok (.if_icmp .gt 7, 3) := by decide +kernel
theorem dX0_isDimension_9 : decode cX0_isDimension 9 = .ok (.iconst 1, 1) := by decide +kernel
theorem dX0_isDimension_10 : decode cX0_isDimension 10 = .ok (.goto 4, 3) := by decide +kernel
theorem dX0_isDimension_13 : decode cX0_isDimension 13 = .ok (.iconst 0, 1) := by decide +kernel
theorem dX0_isDimension_14 : decode cX0_isDimension 14 = .ok (.ireturn, 1) := by decide +kernel
abbrev cX0_countOf : ByteArray := prog_1_method_14_code
def yX0_countOf : MethodName := ⟨RX0, "countOf", "(I)I"⟩
theorem dX0_countOf_0 : decode cX0_countOf 0 = .ok (.iconst 0, 1) := by decide +kernel
theorem dX0_countOf_1 : decode cX0_countOf 1 = .ok (.istore_n 2, 1) := by decide +kernel
theorem dX0_countOf_2 : decode cX0_countOf 2 = .ok (.iconst 1, 1) := by decide +kernel
theorem dX0_countOf_3 : decode cX0_countOf 3 = .ok (.istore_n 3, 1) := by decide +kernel
theorem dX0_countOf_4 : decode cX0_countOf 4 = .ok (.iload_n 3, 1) := by decide +kernel
theorem dX0_countOf_5 : decode cX0_countOf 5 = .ok (.bipush 32, 2) := by decide +kernel
theorem dX0_countOf_7 : decode cX0_countOf 7 = .ok (.if_icmp .ge 36, 3) := by decide +kernel
theorem dX0_countOf_10 : decode cX0_countOf 10 = .ok (.iload_n 2, 1) := by decide +kernel
theorem dX0_countOf_11 : decode cX0_countOf 11 = .ok (.aload_n 0, 1) := by decide +kernel
theorem dX0_countOf_12 : decode cX0_countOf 12 = .ok (.getfield 7, 3) := by decide +kernel
theorem dX0_countOf_15 : decode cX0_countOf 15 = .ok (.iload_n 3, 1) := by decide +kernel
theorem dX0_countOf_16 : decode cX0_countOf 16 = .ok (.baload, 1) := by decide +kernel
theorem dX0_countOf_17 : decode cX0_countOf 17 = .ok (.ifCond .eq 17, 3) := by decide +kernel
theorem dX0_countOf_20 : decode cX0_countOf 20 = .ok (.iload_n 3, 1) := by decide +kernel
theorem dX0_countOf_21 : decode cX0_countOf 21 = .ok (.invokestatic 59, 3) := by decide +kernel
theorem dX0_countOf_24 : decode cX0_countOf 24 = .ok (.iload_n 1, 1) := by decide +kernel
theorem dX0_countOf_25 : decode cX0_countOf 25 = .ok (.iconst 1, 1) := by decide +kernel
theorem dX0_countOf_26 : decode cX0_countOf 26 = .ok (.iadd, 1) := by decide +kernel
theorem dX0_countOf_27 : decode cX0_countOf 27 = .ok (.if_icmp .ne 7, 3) := by decide +kernel
theorem dX0_countOf_30 : decode cX0_countOf 30 = .ok (.iconst 1, 1) := by decide +kernel
theorem dX0_countOf_31 : decode cX0_countOf 31 = .ok (.goto 4, 3) := by decide +kernel
theorem dX0_countOf_34 : decode cX0_countOf 34 = .ok (.iconst 0, 1) := by decide +kernel
theorem dX0_countOf_35 : decode cX0_countOf 35 = .ok (.iadd, 1) := by decide +kernel
theorem dX0_countOf_36 : decode cX0_countOf 36 = .ok (.istore_n 2, 1) := by decide +kernel
theorem dX0_countOf_37 : decode cX0_countOf 37 = .ok (.iinc 3 1, 3) := by decide +kernel
theorem dX0_countOf_40 : decode cX0_countOf 40 = .ok (.goto (-36), 3) := by decide +kernel
theorem dX0_countOf_43 : decode cX0_countOf 43 = .ok (.iload_n 2, 1) := by decide +kernel
theorem dX0_countOf_44 : decode cX0_countOf 44 = .ok (.ireturn, 1) := by decide +kernel
abbrev cX0_points : ByteArray := prog_1_method_13_code
def yX0_points : MethodName := ⟨RX0, "points", "(I)I"⟩
theorem dX0_points_0 : decode cX0_points 0 = .ok (.iconst 0, 1) := by decide +kernel
theorem dX0_points_1 : decode cX0_points 1 = .ok (.istore_n 1, 1) := by decide +kernel
theorem dX0_points_2 : decode cX0_points 2 = .ok (.iconst 0, 1) := by decide +kernel
theorem dX0_points_3 : decode cX0_points 3 = .ok (.istore_n 2, 1) := by decide +kernel
theorem dX0_points_4 : decode cX0_points 4 = .ok (.iload_n 2, 1) := by decide +kernel
theorem dX0_points_5 : decode cX0_points 5 = .ok (.iconst 5, 1) := by decide +kernel
theorem dX0_points_6 : decode cX0_points 6 = .ok (.if_icmp .ge 17, 3) := by decide +kernel
theorem dX0_points_9 : decode cX0_points 9 = .ok (.iload_n 1, 1) := by decide +kernel
theorem dX0_points_10 : decode cX0_points 10 = .ok (.iload_n 0, 1) := by decide +kernel
theorem dX0_points_11 : decode cX0_points 11 = .ok (.iload_n 2, 1) := by decide +kernel
theorem dX0_points_12 : decode cX0_points 12 = .ok (.iushr, 1) := by decide +kernel
theorem dX0_points_13 : decode cX0_points 13 = .ok (.iconst 1, 1) := by decide +kernel
theorem dX0_points_14 : decode cX0_points 14 = .ok (.iand, 1) := by decide +kernel
theorem dX0_points_15 : decode cX0_points 15 = .ok (.iadd, 1) := by decide +kernel
theorem dX0_points_16 : decode cX0_points 16 = .ok (.istore_n 1, 1) := by decide +kernel
theorem dX0_points_17 : decode cX0_points 17 = .ok (.iinc 2 1, 3) := by decide +kernel
theorem dX0_points_20 : decode cX0_points 20 = .ok (.goto (-16), 3) := by decide +kernel
theorem dX0_points_23 : decode cX0_points 23 = .ok (.iload_n 1, 1) := by decide +kernel
theorem dX0_points_24 : decode cX0_points 24 = .ok (.ireturn, 1) := by decide +kernel
abbrev cX0_simplex : ByteArray := prog_1_method_5_code
def yX0_simplex : MethodName := ⟨RX0, "simplex", "(II)I"⟩
theorem dX0_simplex_0 : decode cX0_simplex 0 = .ok (.iload_n 1, 1) := by decide +kernel
theorem dX0_simplex_1 : decode cX0_simplex 1 = .ok (.invokestatic 23, 3) := by decide +kernel
theorem dX0_simplex_4 : decode cX0_simplex 4 = .ok (.ifCond .eq 25, 3) := by decide +kernel
theorem dX0_simplex_7 : decode cX0_simplex 7 = .ok (.iload_n 2, 1) := by decide +kernel
theorem dX0_simplex_8 : decode cX0_simplex 8 = .ok (.ifCond .lt 21, 3) := by decide +kernel
theorem dX0_simplex_11 : decode cX0_simplex 11 = .ok (.iload_n 2, 1) := by decide +kernel
theorem dX0_simplex_12 : decode cX0_simplex 12 = .ok (.aload_n 0, 1) := by decide +kernel
theorem dX0_simplex_13 : decode cX0_simplex 13 = .ok (.iload_n 1, 1) := by decide +kernel
theorem dX0_simplex_14 : decode cX0_simplex 14 = .ok (.invokevirtual 27, 3) := by decide +kernel
theorem dX0_simplex_17 : decode cX0_simplex 17 = .ok (.if_icmp .ge 12, 3) := by decide +kernel
theorem dX0_simplex_20 : decode cX0_simplex 20 = .ok (.aload_n 0, 1) := by decide +kernel
theorem dX0_simplex_21 : decode cX0_simplex 21 = .ok (.iload_n 1, 1) := by decide +kernel
theorem dX0_simplex_22 : decode cX0_simplex 22 = .ok (.iload_n 2, 1) := by decide +kernel
theorem dX0_simplex_23 : decode cX0_simplex 23 = .ok (.invokevirtual 31, 3) := by decide +kernel
theorem dX0_simplex_26 : decode cX0_simplex 26 = .ok (.goto 4, 3) := by decide +kernel
theorem dX0_simplex_29 : decode cX0_simplex 29 = .ok (.iconst (-1), 1) := by decide +kernel
theorem dX0_simplex_30 : decode cX0_simplex 30 = .ok (.ireturn, 1) := by decide +kernel
abbrev cX0_simplexAt : ByteArray := prog_1_method_15_code
def yX0_simplexAt : MethodName := ⟨RX0, "simplexAt", "(II)I"⟩
theorem dX0_simplexAt_0 : decode cX0_simplexAt 0 = .ok (.iload_n 2, 1) := by decide +kernel
theorem dX0_simplexAt_1 : decode cX0_simplexAt 1 = .ok (.istore_n 3, 1) := by decide +kernel
theorem dX0_simplexAt_2 : decode cX0_simplexAt 2 = .ok (.iconst 1, 1) := by decide +kernel
theorem dX0_simplexAt_3 : decode cX0_simplexAt 3 = .ok (.istore 4, 2) := by decide +kernel
theorem dX0_simplexAt_5 : decode cX0_simplexAt 5 = .ok (.iload 4, 2) := by decide +kernel
theorem dX0_simplexAt_7 : decode cX0_simplexAt 7 = .ok (.bipush 32, 2) := by decide +kernel
theorem dX0_simplexAt_9 : decode cX0_simplexAt 9 = .ok (.if_icmp .ge 40, 3) := by decide +kernel
theorem dX0_simplexAt_12 : decode cX0_simplexAt 12 = .ok (.aload_n 0, 1) := by decide +kernel
theorem dX0_simplexAt_13 : decode cX0_simplexAt 13 = .ok (.getfield 7, 3) := by decide +kernel
theorem dX0_simplexAt_16 : decode cX0_simplexAt 16 = .ok (.iload 4, 2) := by decide +kernel
theorem dX0_simplexAt_18 : decode cX0_simplexAt 18 = .ok (.baload, 1) := by decide +kernel
theorem dX0_simplexAt_19 : decode cX0_simplexAt 19 = .ok (.ifCond .eq 24, 3) := by decide +kernel
theorem dX0_simplexAt_22 : decode cX0_simplexAt 22 = .ok (.iload 4, 2) := by decide +kernel
theorem dX0_simplexAt_24 : decode cX0_simplexAt 24 = .ok (.invokestatic 59, 3) := by decide +kernel
theorem dX0_simplexAt_27 : decode cX0_simplexAt 27 = .ok (.iload_n 1, 1) := by decide +kernel
theorem dX0_simplexAt_28 : decode cX0_simplexAt 28 = .ok (.iconst 1, 1) := by decide +kernel
theorem dX0_simplexAt_29 : decode cX0_simplexAt 29 = .ok (.iadd, 1) := by decide +kernel
theorem dX0_simplexAt_30 : decode cX0_simplexAt 30 = .ok (.if_icmp .ne 13, 3) := by decide +kernel
theorem dX0_simplexAt_33 : decode cX0_simplexAt 33 = .ok (.iload_n 3, 1) := by decide +kernel
theorem dX0_simplexAt_34 : decode cX0_simplexAt 34 = .ok (.ifCond .ne 6, 3) := by decide +kernel
theorem dX0_simplexAt_37 : decode cX0_simplexAt 37 = .ok (.iload 4, 2) := by decide +kernel
theorem dX0_simplexAt_39 : decode cX0_simplexAt 39 = .ok (.ireturn, 1) := by decide +kernel
theorem dX0_simplexAt_40 : decode cX0_simplexAt 40 = .ok (.iinc 3 (-1), 3) := by decide +kernel
theorem dX0_simplexAt_43 : decode cX0_simplexAt 43 = .ok (.iinc 4 1, 3) := by decide +kernel
theorem dX0_simplexAt_46 : decode cX0_simplexAt 46 = .ok (.goto (-41), 3) := by decide +kernel
theorem dX0_simplexAt_49 : decode cX0_simplexAt 49 = .ok (.iconst (-1), 1) := by decide +kernel
theorem dX0_simplexAt_50 : decode cX0_simplexAt 50 = .ok (.ireturn, 1) := by decide +kernel
abbrev cX0_boundary : ByteArray := prog_1_method_6_code
def yX0_boundary : MethodName := ⟨RX0, "boundary", "(II)I"⟩
theorem dX0_boundary_0 : decode cX0_boundary 0 = .ok (.aload_n 0, 1) := by decide +kernel
theorem dX0_boundary_1 : decode cX0_boundary 1 = .ok (.iload_n 1, 1) := by decide +kernel
theorem dX0_boundary_2 : decode cX0_boundary 2 = .ok (.iload_n 2, 1) := by decide +kernel
theorem dX0_boundary_3 : decode cX0_boundary 3 = .ok (.invokevirtual 35, 3) := by decide +kernel
theorem dX0_boundary_6 : decode cX0_boundary 6 = .ok (.ifCond .eq 12, 3) := by decide +kernel
theorem dX0_boundary_9 : decode cX0_boundary 9 = .ok (.aload_n 0, 1) := by decide +kernel
theorem dX0_boundary_10 : decode cX0_boundary 10 = .ok (.iload_n 1, 1) := by decide +kernel
theorem dX0_boundary_11 : decode cX0_boundary 11 = .ok (.iload_n 2, 1) := by decide +kernel
theorem dX0_boundary_12 : decode cX0_boundary 12 = .ok (.invokevirtual 39, 3) := by decide +kernel
theorem dX0_boundary_15 : decode cX0_boundary 15 = .ok (.goto 4, 3) := by decide +kernel
theorem dX0_boundary_18 : decode cX0_boundary 18 = .ok (.iconst (-1), 1) := by decide +kernel
theorem dX0_boundary_19 : decode cX0_boundary 19 = .ok (.ireturn, 1) := by decide +kernel
abbrev cX0_isChain : ByteArray := prog_1_method_17_code
def yX0_isChain : MethodName := ⟨RX0, "isChain", "(II)Z"⟩
theorem dX0_isChain_0 : decode cX0_isChain 0 = .ok (.iload_n 1, 1) := by decide +kernel
theorem dX0_isChain_1 : decode cX0_isChain 1 = .ok (.invokestatic 23, 3) := by decide +kernel
theorem dX0_isChain_4 : decode cX0_isChain 4 = .ok (.ifCond .eq 22, 3) := by decide +kernel
theorem dX0_isChain_7 : decode cX0_isChain 7 = .ok (.iload_n 2, 1) := by decide +kernel
theorem dX0_isChain_8 : decode cX0_isChain 8 = .ok (.ifCond .lt 18, 3) := by decide +kernel
theorem dX0_isChain_11 : decode cX0_isChain 11 = .ok (.iload_n 2, 1) := by decide +kernel
theorem dX0_isChain_12 : decode cX0_isChain 12 = .ok (.iconst 1, 1) := by decide +kernel
theorem dX0_isChain_13 : decode cX0_isChain 13 = .ok (.aload_n 0, 1) := by decide +kernel
theorem dX0_isChain_14 : decode cX0_isChain 14 = .ok (.iload_n 1, 1) := by decide +kernel
theorem dX0_isChain_15 : decode cX0_isChain 15 = .ok (.invokevirtual 27, 3) := by decide +kernel
theorem dX0_isChain_18 : decode cX0_isChain 18 = .ok (.ishl, 1) := by decide +kernel
theorem dX0_isChain_19 : decode cX0_isChain 19 = .ok (.if_icmp .ge 7, 3) := by decide +kernel
theorem dX0_isChain_22 : decode cX0_isChain 22 = .ok (.iconst 1, 1) := by decide +kernel
theorem dX0_isChain_23 : decode cX0_isChain 23 = .ok (.goto 4, 3) := by decide +kernel
theorem dX0_isChain_26 : decode cX0_isChain 26 = .ok (.iconst 0, 1) := by decide +kernel
theorem dX0_isChain_27 : decode cX0_isChain 27 = .ok (.ireturn, 1) := by decide +kernel
abbrev cX0_boundaryOf : ByteArray := prog_1_method_18_code
def yX0_boundaryOf : MethodName := ⟨RX0, "boundaryOf", "(II)I"⟩
theorem dX0_boundaryOf_0 : decode cX0_boundaryOf 0 = .ok (.iconst 0, 1) := by decide +kernel
theorem dX0_boundaryOf_1 : decode cX0_boundaryOf 1 = .ok (.istore_n 3, 1) := by decide +kernel
theorem dX0_boundaryOf_2 : decode cX0_boundaryOf 2 = .ok (.iconst 0, 1) := by decide +kernel
theorem dX0_boundaryOf_3 : decode cX0_boundaryOf 3 = .ok (.istore 4, 2) := by decide +kernel
theorem dX0_boundaryOf_5 : decode cX0_boundaryOf 5 = .ok (.iload 4, 2) := by decide +kernel
theorem dX0_boundaryOf_7 : decode cX0_boundaryOf 7 = .ok (.bipush 10, 2) := by decide +kernel
theorem dX0_boundaryOf_9 : decode cX0_boundaryOf 9 = .ok (.if_icmp .ge 40, 3) := by decide +kernel
theorem dX0_boundaryOf_12 : decode cX0_boundaryOf 12 = .ok (.iload_n 1, 1) := by decide +kernel
theorem dX0_boundaryOf_13 : decode cX0_boundaryOf 13 = .ok (.ifCond .le 30, 3) := by decide +kernel
theorem dX0_boundaryOf_16 : decode cX0_boundaryOf 16 = .ok (.iload_n 2, 1) := by decide +kernel
theorem dX0_boundaryOf_17 : decode cX0_boundaryOf 17 = .ok (.iload 4, 2) := by decide +kernel
theorem dX0_boundaryOf_19 : decode cX0_boundaryOf 19 = .ok (.iushr, 1) := by decide +kernel
theorem dX0_boundaryOf_20 : decode cX0_boundaryOf 20 = .ok (.iconst 1, 1) := by decide +kernel
theorem dX0_boundaryOf_21 : decode cX0_boundaryOf 21 = .ok (.iand, 1) := by decide +kernel
theorem dX0_boundaryOf_22 : decode cX0_boundaryOf 22 = .ok (.ifCond .eq 21, 3) := by decide +kernel
theorem dX0_boundaryOf_25 : decode cX0_boundaryOf 25 = .ok (.aload_n 0, 1) := by decide +kernel
theorem dX0_boundaryOf_26 : decode cX0_boundaryOf 26 = .ok (.iload_n 1, 1) := by decide +kernel
theorem dX0_boundaryOf_27 : decode cX0_boundaryOf 27 = .ok (.iload 4, 2) := by decide +kernel
theorem dX0_boundaryOf_29 : decode cX0_boundaryOf 29 = .ok (.invokevirtual 31, 3) := by decide +kernel
theorem dX0_boundaryOf_32 : decode cX0_boundaryOf 32 = .ok (.istore 5, 2) := by decide +kernel
theorem dX0_boundaryOf_34 : decode cX0_boundaryOf 34 = .ok (.iload_n 3, 1) := by decide +kernel
theorem dX0_boundaryOf_35 : decode cX0_boundaryOf 35 = .ok (.aload_n 0, 1) := by decide +kernel
theorem dX0_boundaryOf_36 : decode cX0_boundaryOf 36 = .ok (.iload 5, 2) := by decide +kernel
theorem dX0_boundaryOf_38 : decode cX0_boundaryOf 38 = .ok (.invokevirtual 62, 3) := by decide +kernel
theorem dX0_boundaryOf_41 : decode cX0_boundaryOf 41 = .ok (.ixor, 1) := by decide +kernel
theorem dX0_boundaryOf_42 : decode cX0_boundaryOf 42 = .ok (.istore_n 3, 1) := by decide +kernel
theorem dX0_boundaryOf_43 : decode cX0_boundaryOf 43 = .ok (.iinc 4 1, 3) := by decide +kernel
theorem dX0_boundaryOf_46 : decode cX0_boundaryOf 46 = .ok (.goto (-41), 3) := by decide +kernel
theorem dX0_boundaryOf_49 : decode cX0_boundaryOf 49 = .ok (.iload_n 3, 1) := by decide +kernel
theorem dX0_boundaryOf_50 : decode cX0_boundaryOf 50 = .ok (.ireturn, 1) := by decide +kernel
abbrev cX0_facesOf : ByteArray := prog_1_method_19_code
def yX0_facesOf : MethodName := ⟨RX0, "facesOf", "(I)I"⟩
theorem dX0_facesOf_0 : decode cX0_facesOf 0 = .ok (.iconst 0, 1) := by decide +kernel
theorem dX0_facesOf_1 : decode cX0_facesOf 1 = .ok (.istore_n 2, 1) := by decide +kernel
theorem dX0_facesOf_2 : decode cX0_facesOf 2 = .ok (.iconst 0, 1) := by decide +kernel
theorem dX0_facesOf_3 : decode cX0_facesOf 3 = .ok (.istore_n 3, 1) := by decide +kernel
theorem dX0_facesOf_4 : decode cX0_facesOf 4 = .ok (.iload_n 3, 1) := by decide +kernel
theorem dX0_facesOf_5 : decode cX0_facesOf 5 = .ok (.iconst 5, 1) := by decide +kernel
theorem dX0_facesOf_6 : decode cX0_facesOf 6 = .ok (.if_icmp .ge 37, 3) := by decide +kernel
theorem dX0_facesOf_9 : decode cX0_facesOf 9 = .ok (.iload_n 1, 1) := by decide +kernel
theorem dX0_facesOf_10 : decode cX0_facesOf 10 = .ok (.iload_n 3, 1) := by decide +kernel
theorem dX0_facesOf_11 : decode cX0_facesOf 11 = .ok (.iushr, 1) := by decide +kernel
theorem dX0_facesOf_12 : decode cX0_facesOf 12 = .ok (.iconst 1, 1) := by decide +kernel
theorem dX0_facesOf_13 : decode cX0_facesOf 13 = .ok (.iand, 1) := by decide +kernel
theorem dX0_facesOf_14 : decode cX0_facesOf 14 = .ok (.ifCond .eq 23, 3) := by decide +kernel
theorem dX0_facesOf_17 : decode cX0_facesOf 17 = .ok (.aload_n 0, 1) := by decide +kernel
theorem dX0_facesOf_18 : decode cX0_facesOf 18 = .ok (.iload_n 1, 1) := by decide +kernel
theorem dX0_facesOf_19 : decode cX0_facesOf 19 = .ok (.iconst 1, 1) := by decide +kernel
theorem dX0_facesOf_20 : decode cX0_facesOf 20 = .ok (.iload_n 3, 1) := by decide +kernel
theorem dX0_facesOf_21 : decode cX0_facesOf 21 = .ok (.ishl, 1) := by decide +kernel
theorem dX0_facesOf_22 : decode cX0_facesOf 22 = .ok (.iconst (-1), 1) := by decide +kernel
theorem dX0_facesOf_23 : decode cX0_facesOf 23 = .ok (.ixor, 1) := by decide +kernel
theorem dX0_facesOf_24 : decode cX0_facesOf 24 = .ok (.iand, 1) := by decide +kernel
theorem dX0_facesOf_25 : decode cX0_facesOf 25 = .ok (.invokevirtual 65, 3) := by decide +kernel
theorem dX0_facesOf_28 : decode cX0_facesOf 28 = .ok (.istore 4, 2) := by decide +kernel
theorem dX0_facesOf_30 : decode cX0_facesOf 30 = .ok (.iload_n 2, 1) := by decide +kernel
theorem dX0_facesOf_31 : decode cX0_facesOf 31 = .ok (.iconst 1, 1) := by decide +kernel
theorem dX0_facesOf_32 : decode cX0_facesOf 32 = .ok (.iload 4, 2) := by decide +kernel
theorem dX0_facesOf_34 : decode cX0_facesOf 34 = .ok (.ishl, 1) := by decide +kernel
theorem dX0_facesOf_35 : decode cX0_facesOf 35 = .ok (.ixor, 1) := by decide +kernel
theorem dX0_facesOf_36 : decode cX0_facesOf 36 = .ok (.istore_n 2, 1) := by decide +kernel
theorem dX0_facesOf_37 : decode cX0_facesOf 37 = .ok (.iinc 3 1, 3) := by decide +kernel
theorem dX0_facesOf_40 : decode cX0_facesOf 40 = .ok (.goto (-36), 3) := by decide +kernel
theorem dX0_facesOf_43 : decode cX0_facesOf 43 = .ok (.iload_n 2, 1) := by decide +kernel
theorem dX0_facesOf_44 : decode cX0_facesOf 44 = .ok (.ireturn, 1) := by decide +kernel
abbrev cX0_placeOf : ByteArray := prog_1_method_16_code
def yX0_placeOf : MethodName := ⟨RX0, "placeOf", "(I)I"⟩
theorem dX0_placeOf_0 : decode cX0_placeOf 0 = .ok (.iload_n 1, 1) := by decide +kernel
theorem dX0_placeOf_1 : decode cX0_placeOf 1 = .ok (.invokestatic 59, 3) := by decide +kernel
theorem dX0_placeOf_4 : decode cX0_placeOf 4 = .ok (.istore_n 2, 1) := by decide +kernel
theorem dX0_placeOf_5 : decode cX0_placeOf 5 = .ok (.iconst 0, 1) := by decide +kernel
theorem dX0_placeOf_6 : decode cX0_placeOf 6 = .ok (.istore_n 3, 1) := by decide +kernel
theorem dX0_placeOf_7 : decode cX0_placeOf 7 = .ok (.iconst 1, 1) := by decide +kernel
theorem dX0_placeOf_8 : decode cX0_placeOf 8 = .ok (.istore 4, 2) := by decide +kernel
theorem dX0_placeOf_10 : decode cX0_placeOf 10 = .ok (.iload 4, 2) := by decide +kernel
theorem dX0_placeOf_12 : decode cX0_placeOf 12 = .ok (.iload_n 1, 1) := by decide +kernel
theorem dX0_placeOf_13 : decode cX0_placeOf 13 = .ok (.if_icmp .ge 36, 3) := by decide +kernel
theorem dX0_placeOf_16 : decode cX0_placeOf 16 = .ok (.iload_n 3, 1) := by decide +kernel
theorem dX0_placeOf_17 : decode cX0_placeOf 17 = .ok (.aload_n 0, 1) := by decide +kernel
theorem dX0_placeOf_18 : decode cX0_placeOf 18 = .ok (.getfield 7, 3) := by decide +kernel
theorem dX0_placeOf_21 : decode cX0_placeOf 21 = .ok (.iload 4, 2) := by decide +kernel
theorem dX0_placeOf_23 : decode cX0_placeOf 23 = .ok (.baload, 1) := by decide +kernel
theorem dX0_placeOf_24 : decode cX0_placeOf 24 = .ok (.ifCond .eq 16, 3) := by decide +kernel
theorem dX0_placeOf_27 : decode cX0_placeOf 27 = .ok (.iload 4, 2) := by decide +kernel
theorem dX0_placeOf_29 : decode cX0_placeOf 29 = .ok (.invokestatic 59, 3) := by decide +kernel
theorem dX0_placeOf_32 : decode cX0_placeOf 32 = .ok (.iload_n 2, 1) := by decide +kernel
theorem dX0_placeOf_33 : decode cX0_placeOf 33 = .ok (.if_icmp .ne 7, 3) := by decide +kernel
theorem dX0_placeOf_36 : decode cX0_placeOf 36 = .ok (.iconst 1, 1) := by decide +kernel
theorem dX0_placeOf_37 : decode cX0_placeOf 37 = .ok (.goto 4, 3) := by decide +kernel
theorem dX0_placeOf_40 : decode cX0_placeOf 40 = .ok (.iconst 0, 1) := by decide +kernel
theorem dX0_placeOf_41 : decode cX0_placeOf 41 = .ok (.iadd, 1) := by decide +kernel
theorem dX0_placeOf_42 : decode cX0_placeOf 42 = .ok (.istore_n 3, 1) := by decide +kernel
theorem dX0_placeOf_43 : decode cX0_placeOf 43 = .ok (.iinc 4 1, 3) := by decide +kernel
theorem dX0_placeOf_46 : decode cX0_placeOf 46 = .ok (.goto (-36), 3) := by decide +kernel
theorem dX0_placeOf_49 : decode cX0_placeOf 49 = .ok (.iload_n 3, 1) := by decide +kernel
theorem dX0_placeOf_50 : decode cX0_placeOf 50 = .ok (.ireturn, 1) := by decide +kernel
abbrev cX0_holes : ByteArray := prog_1_method_7_code
def yX0_holes : MethodName := ⟨RX0, "holes", "(I)I"⟩
theorem dX0_holes_0 : decode cX0_holes 0 = .ok (.iload_n 1, 1) := by decide +kernel
theorem dX0_holes_1 : decode cX0_holes 1 = .ok (.invokestatic 23, 3) := by decide +kernel
theorem dX0_holes_4 : decode cX0_holes 4 = .ok (.ifCond .ne 5, 3) := by decide +kernel
theorem dX0_holes_7 : decode cX0_holes 7 = .ok (.iconst (-1), 1) := by decide +kernel
theorem dX0_holes_8 : decode cX0_holes 8 = .ok (.ireturn, 1) := by decide +kernel
theorem dX0_holes_9 : decode cX0_holes 9 = .ok (.aload_n 0, 1) := by decide +kernel
theorem dX0_holes_10 : decode cX0_holes 10 = .ok (.iload_n 1, 1) := by decide +kernel
theorem dX0_holes_11 : decode cX0_holes 11 = .ok (.invokevirtual 27, 3) := by decide +kernel
theorem dX0_holes_14 : decode cX0_holes 14 = .ok (.istore_n 2, 1) := by decide +kernel
theorem dX0_holes_15 : decode cX0_holes 15 = .ok (.aload_n 0, 1) := by decide +kernel
theorem dX0_holes_16 : decode cX0_holes 16 = .ok (.iload_n 1, 1) := by decide +kernel
theorem dX0_holes_17 : decode cX0_holes 17 = .ok (.invokevirtual 42, 3) := by decide +kernel
theorem dX0_holes_20 : decode cX0_holes 20 = .ok (.iload_n 2, 1) := by decide +kernel
theorem dX0_holes_21 : decode cX0_holes 21 = .ok (.aload_n 0, 1) := by decide +kernel
theorem dX0_holes_22 : decode cX0_holes 22 = .ok (.getfield 46, 3) := by decide +kernel
theorem dX0_holes_25 : decode cX0_holes 25 = .ok (.isub, 1) := by decide +kernel
theorem dX0_holes_26 : decode cX0_holes 26 = .ok (.istore_n 2, 1) := by decide +kernel
theorem dX0_holes_27 : decode cX0_holes 27 = .ok (.aload_n 0, 1) := by decide +kernel
theorem dX0_holes_28 : decode cX0_holes 28 = .ok (.iload_n 1, 1) := by decide +kernel
theorem dX0_holes_29 : decode cX0_holes 29 = .ok (.iconst 1, 1) := by decide +kernel
theorem dX0_holes_30 : decode cX0_holes 30 = .ok (.iadd, 1) := by decide +kernel
theorem dX0_holes_31 : decode cX0_holes 31 = .ok (.invokevirtual 42, 3) := by decide +kernel
theorem dX0_holes_34 : decode cX0_holes 34 = .ok (.iload_n 2, 1) := by decide +kernel
theorem dX0_holes_35 : decode cX0_holes 35 = .ok (.aload_n 0, 1) := by decide +kernel
theorem dX0_holes_36 : decode cX0_holes 36 = .ok (.getfield 46, 3) := by decide +kernel
theorem dX0_holes_39 : decode cX0_holes 39 = .ok (.isub, 1) := by decide +kernel
theorem dX0_holes_40 : decode cX0_holes 40 = .ok (.ireturn, 1) := by decide +kernel
abbrev cX0_eliminate : ByteArray := prog_1_method_20_code
def yX0_eliminate : MethodName := ⟨RX0, "eliminate", "(I)V"⟩
theorem dX0_eliminate_0 : decode cX0_eliminate 0 = .ok (.aload_n 0, 1) := by decide +kernel
theorem dX0_eliminate_1 : decode cX0_eliminate 1 = .ok (.iconst 0, 1) := by decide +kernel
theorem dX0_eliminate_2 : decode cX0_eliminate 2 = .ok (.putfield 46, 3) := by decide +kernel
theorem dX0_eliminate_5 : decode cX0_eliminate 5 = .ok (.iconst 0, 1) := by decide +kernel
theorem dX0_eliminate_6 : decode cX0_eliminate 6 = .ok (.istore_n 2, 1) := by decide +kernel
theorem dX0_eliminate_7 : decode cX0_eliminate 7 = .ok (.iload_n 2, 1) := by decide +kernel
theorem dX0_eliminate_8 : decode cX0_eliminate 8 = .ok (.bipush 10, 2) := by decide +kernel
theorem dX0_eliminate_10 : decode cX0_eliminate 10 = .ok (.if_icmp .ge 30, 3) := by decide +kernel
theorem dX0_eliminate_13 : decode cX0_eliminate 13 = .ok (.aload_n 0, 1) := by decide +kernel
theorem dX0_eliminate_14 : decode cX0_eliminate 14 = .ok (.getfield 13, 3) := by decide +kernel
theorem dX0_eliminate_17 : decode cX0_eliminate 17 = .ok (.iload_n 2, 1) := by decide +kernel
theorem dX0_eliminate_18 : decode cX0_eliminate 18 = .ok (.iconst 0, 1) := by decide +kernel
theorem dX0_eliminate_19 : decode cX0_eliminate 19 = .ok (.iastore, 1) := by decide +kernel
theorem dX0_eliminate_20 : decode cX0_eliminate 20 = .ok (.aload_n 0, 1) := by decide +kernel
theorem dX0_eliminate_21 : decode cX0_eliminate 21 = .ok (.getfield 17, 3) := by decide +kernel
theorem dX0_eliminate_24 : decode cX0_eliminate 24 = .ok (.iload_n 2, 1) := by decide +kernel
theorem dX0_eliminate_25 : decode cX0_eliminate 25 = .ok (.iconst 0, 1) := by decide +kernel
theorem dX0_eliminate_26 : decode cX0_eliminate 26 = .ok (.iastore, 1) := by decide +kernel
theorem dX0_eliminate_27 : decode cX0_eliminate 27 = .ok (.aload_n 0, 1) := by decide +kernel
theorem dX0_eliminate_28 : decode cX0_eliminate 28 = .ok (.getfield 20, 3) := by decide +kernel
theorem dX0_eliminate_31 : decode cX0_eliminate 31 = .ok (.iload_n 2, 1) := by decide +kernel
theorem dX0_eliminate_32 : decode cX0_eliminate 32 = .ok (.iconst 0, 1) := by decide +kernel
theorem dX0_eliminate_33 : decode cX0_eliminate 33 = .ok (.iastore, 1) := by decide +kernel
theorem dX0_eliminate_34 : decode cX0_eliminate 34 = .ok (.iinc 2 1, 3) := by decide +kernel
theorem dX0_eliminate_37 : decode cX0_eliminate 37 = .ok (.goto (-30), 3) := by decide +kernel
theorem dX0_eliminate_40 : decode cX0_eliminate 40 = .ok (.iload_n 1, 1) := by decide +kernel
theorem dX0_eliminate_41 : decode cX0_eliminate 41 = .ok (.iconst 4, 1) := by decide +kernel
theorem dX0_eliminate_42 : decode cX0_eliminate 42 = .ok (.if_icmp .le 7, 3) := by decide +kernel
theorem dX0_eliminate_45 : decode cX0_eliminate 45 = .ok (.iconst 0, 1) := by decide +kernel
theorem dX0_eliminate_46 : decode cX0_eliminate 46 = .ok (.goto 8, 3) := by decide +kernel
theorem dX0_eliminate_49 : decode cX0_eliminate 49 = .ok (.aload_n 0, 1) := by decide +kernel
theorem dX0_eliminate_50 : decode cX0_eliminate 50 = .ok (.iload_n 1, 1) := by decide +kernel
theorem dX0_eliminate_51 : decode cX0_eliminate 51 = .ok (.invokevirtual 27, 3) := by decide +kernel
theorem dX0_eliminate_54 : decode cX0_eliminate 54 = .ok (.istore_n 2, 1) := by decide +kernel
theorem dX0_eliminate_55 : decode cX0_eliminate 55 = .ok (.iconst 0, 1) := by decide +kernel
theorem dX0_eliminate_56 : decode cX0_eliminate 56 = .ok (.istore_n 3, 1) := by decide +kernel
theorem dX0_eliminate_57 : decode cX0_eliminate 57 = .ok (.iload_n 3, 1) := by decide +kernel
theorem dX0_eliminate_58 : decode cX0_eliminate 58 = .ok (.iload_n 2, 1) := by decide +kernel
theorem dX0_eliminate_59 : decode cX0_eliminate 59 = .ok (.if_icmp .ge 96, 3) := by decide +kernel
theorem dX0_eliminate_62 : decode cX0_eliminate 62 = .ok (.aload_n 0, 1) := by decide +kernel
theorem dX0_eliminate_63 : decode cX0_eliminate 63 = .ok (.iload_n 1, 1) := by decide +kernel
theorem dX0_eliminate_64 : decode cX0_eliminate 64 = .ok (.iconst 1, 1) := by decide +kernel
theorem dX0_eliminate_65 : decode cX0_eliminate 65 = .ok (.iload_n 3, 1) := by decide +kernel
theorem dX0_eliminate_66 : decode cX0_eliminate 66 = .ok (.ishl, 1) := by decide +kernel
theorem dX0_eliminate_67 : decode cX0_eliminate 67 = .ok (.invokevirtual 39, 3) := by decide +kernel
theorem dX0_eliminate_70 : decode cX0_eliminate 70 = .ok (.istore 4, 2) := by decide +kernel
theorem dX0_eliminate_72 : decode cX0_eliminate 72 = .ok (.aload_n 0, 1) := by decide +kernel
theorem dX0_eliminate_73 : decode cX0_eliminate 73 = .ok (.iload 4, 2) := by decide +kernel
theorem dX0_eliminate_75 : decode cX0_eliminate 75 = .ok (.invokevirtual 50, 3) := by decide +kernel
theorem dX0_eliminate_78 : decode cX0_eliminate 78 = .ok (.aload_n 0, 1) := by decide +kernel
theorem dX0_eliminate_79 : decode cX0_eliminate 79 = .ok (.dup, 1) := by decide +kernel
theorem dX0_eliminate_80 : decode cX0_eliminate 80 = .ok (.getfield 56, 3) := by decide +kernel
theorem dX0_eliminate_83 : decode cX0_eliminate 83 = .ok (.iconst 1, 1) := by decide +kernel
theorem dX0_eliminate_84 : decode cX0_eliminate 84 = .ok (.iload_n 3, 1) := by decide +kernel
theorem dX0_eliminate_85 : decode cX0_eliminate 85 = .ok (.ishl, 1) := by decide +kernel
theorem dX0_eliminate_86 : decode cX0_eliminate 86 = .ok (.ixor, 1) := by decide +kernel
theorem dX0_eliminate_87 : decode cX0_eliminate 87 = .ok (.putfield 56, 3) := by decide +kernel
theorem dX0_eliminate_90 : decode cX0_eliminate 90 = .ok (.aload_n 0, 1) := by decide +kernel
theorem dX0_eliminate_91 : decode cX0_eliminate 91 = .ok (.getfield 53, 3) := by decide +kernel
theorem dX0_eliminate_94 : decode cX0_eliminate 94 = .ok (.ifCond .ne 14, 3) := by decide +kernel
theorem dX0_eliminate_97 : decode cX0_eliminate 97 = .ok (.aload_n 0, 1) := by decide +kernel
theorem dX0_eliminate_98 : decode cX0_eliminate 98 = .ok (.aload_n 0, 1) := by decide +kernel
theorem dX0_eliminate_99 : decode cX0_eliminate 99 = .ok (.getfield 56, 3) := by decide +kernel
theorem dX0_eliminate_102 : decode cX0_eliminate 102 = .ok (.invokevirtual 68, 3) := by decide +kernel
theorem dX0_eliminate_105 : decode cX0_eliminate 105 = .ok (.goto 44, 3) := by decide +kernel
theorem dX0_eliminate_108 : decode cX0_eliminate 108 = .ok (.aload_n 0, 1) := by decide +kernel
theorem dX0_eliminate_109 : decode cX0_eliminate 109 = .ok (.getfield 53, 3) := by decide +kernel
theorem dX0_eliminate_112 : decode cX0_eliminate 112 = .ok (.invokestatic 71, 3) := by decide +kernel
theorem dX0_eliminate_115 : decode cX0_eliminate 115 = .ok (.istore 5, 2) := by decide +kernel
theorem dX0_eliminate_117 : decode cX0_eliminate 117 = .ok (.aload_n 0, 1) := by decide +kernel
theorem dX0_eliminate_118 : decode cX0_eliminate 118 = .ok (.getfield 13, 3) := by decide +kernel
theorem dX0_eliminate_121 : decode cX0_eliminate 121 = .ok (.iload 5, 2) := by decide +kernel
theorem dX0_eliminate_123 : decode cX0_eliminate 123 = .ok (.aload_n 0, 1) := by decide +kernel
theorem dX0_eliminate_124 : decode cX0_eliminate 124 = .ok (.getfield 53, 3) := by decide +kernel
theorem dX0_eliminate_127 : decode cX0_eliminate 127 = .ok (.iastore, 1) := by decide +kernel
theorem dX0_eliminate_128 : decode cX0_eliminate 128 = .ok (.aload_n 0, 1) := by decide +kernel
theorem dX0_eliminate_129 : decode cX0_eliminate 129 = .ok (.getfield 17, 3) := by decide +kernel
theorem dX0_eliminate_132 : decode cX0_eliminate 132 = .ok (.iload 5, 2) := by decide +kernel
theorem dX0_eliminate_134 : decode cX0_eliminate 134 = .ok (.aload_n 0, 1) := by decide +kernel
theorem dX0_eliminate_135 : decode cX0_eliminate 135 = .ok (.getfield 56, 3) := by decide +kernel
theorem dX0_eliminate_138 : decode cX0_eliminate 138 = .ok (.iastore, 1) := by decide +kernel
theorem dX0_eliminate_139 : decode cX0_eliminate 139 = .ok (.aload_n 0, 1) := by decide +kernel
theorem dX0_eliminate_140 : decode cX0_eliminate 140 = .ok (.dup, 1) := by decide +kernel
theorem dX0_eliminate_141 : decode cX0_eliminate 141 = .ok (.getfield 46, 3) := by decide +kernel
theorem dX0_eliminate_144 : decode cX0_eliminate 144 = .ok (.iconst 1, 1) := by decide +kernel
theorem dX0_eliminate_145 : decode cX0_eliminate 145 = .ok (.iadd, 1) := by decide +kernel
theorem dX0_eliminate_146 : decode cX0_eliminate 146 = .ok (.putfield 46, 3) := by decide +kernel
theorem dX0_eliminate_149 : decode cX0_eliminate 149 = .ok (.iinc 3 1, 3) := by decide +kernel
theorem dX0_eliminate_152 : decode cX0_eliminate 152 = .ok (.goto (-95), 3) := by decide +kernel
theorem dX0_eliminate_155 : decode cX0_eliminate 155 = .ok (.return_, 1) := by decide +kernel
end
section
set_option maxRecDepth 100000
abbrev cX0_reduce : ByteArray := prog_1_method_21_code
def yX0_reduce : MethodName := ⟨RX0, "reduce", "(I)V"⟩
theorem dX0_reduce_0 : decode cX0_reduce 0 = .ok (.aload_n 0, 1) := by decide +kernel
theorem dX0_reduce_1 : decode cX0_reduce 1 = .ok (.iload_n 1, 1) := by decide +kernel
theorem dX0_reduce_2 : decode cX0_reduce 2 = .ok (.putfield 53, 3) := by decide +kernel
theorem dX0_reduce_5 : decode cX0_reduce 5 = .ok (.aload_n 0, 1) := by decide +kernel
theorem dX0_reduce_6 : decode cX0_reduce 6 = .ok (.iconst 0, 1) := by decide +kernel
theorem dX0_reduce_7 : decode cX0_reduce 7 = .ok (.putfield 56, 3) := by decide +kernel
theorem dX0_reduce_10 : decode cX0_reduce 10 = .ok (.bipush 9, 2) := by decide +kernel
theorem dX0_reduce_12 : decode cX0_reduce 12 = .ok (.istore_n 2, 1) := by decide +kernel
theorem dX0_reduce_13 : decode cX0_reduce 13 = .ok (.iload_n 2, 1) := by decide +kernel
theorem dX0_reduce_14 : decode cX0_reduce 14 = .ok (.ifCond .lt 59, 3) := by decide +kernel
theorem dX0_reduce_17 : decode cX0_reduce 17 = .ok (.aload_n 0, 1) := by decide +kernel
theorem dX0_reduce_18 : decode cX0_reduce 18 = .ok (.getfield 13, 3) := by decide +kernel
theorem dX0_reduce_21 : decode cX0_reduce 21 = .ok (.iload_n 2, 1) := by decide +kernel
theorem dX0_reduce_22 : decode cX0_reduce 22 = .ok (.iaload, 1) := by decide +kernel
theorem dX0_reduce_23 : decode cX0_reduce 23 = .ok (.ifCond .eq 44, 3) := by decide +kernel
theorem dX0_reduce_26 : decode cX0_reduce 26 = .ok (.aload_n 0, 1) := by decide +kernel
theorem dX0_reduce_27 : decode cX0_reduce 27 = .ok (.getfield 53, 3) := by decide +kernel
theorem dX0_reduce_30 : decode cX0_reduce 30 = .ok (.iload_n 2, 1) := by decide +kernel
theorem dX0_reduce_31 : decode cX0_reduce 31 = .ok (.iushr, 1) := by decide +kernel
theorem dX0_reduce_32 : decode cX0_reduce 32 = .ok (.iconst 1, 1) := by decide +kernel
theorem dX0_reduce_33 : decode cX0_reduce 33 = .ok (.iand, 1) := by decide +kernel
theorem dX0_reduce_34 : decode cX0_reduce 34 = .ok (.ifCond .eq 33, 3) := by decide +kernel
theorem dX0_reduce_37 : decode cX0_reduce 37 = .ok (.aload_n 0, 1) := by decide +kernel
theorem dX0_reduce_38 : decode cX0_reduce 38 = .ok (.dup, 1) := by decide +kernel
theorem dX0_reduce_39 : decode cX0_reduce 39 = .ok (.getfield 53, 3) := by decide +kernel
theorem dX0_reduce_42 : decode cX0_reduce 42 = .ok (.aload_n 0, 1) := by decide +kernel
theorem dX0_reduce_43 : decode cX0_reduce 43 = .ok (.getfield 13, 3) := by decide +kernel
theorem dX0_reduce_46 : decode cX0_reduce 46 = .ok (.iload_n 2, 1) := by decide +kernel
theorem dX0_reduce_47 : decode cX0_reduce 47 = .ok (.iaload, 1) := by decide +kernel
theorem dX0_reduce_48 : decode cX0_reduce 48 = .ok (.ixor, 1) := by decide +kernel
theorem dX0_reduce_49 : decode cX0_reduce 49 = .ok (.putfield 53, 3) := by decide +kernel
theorem dX0_reduce_52 : decode cX0_reduce 52 = .ok (.aload_n 0, 1) := by decide +kernel
theorem dX0_reduce_53 : decode cX0_reduce 53 = .ok (.dup, 1) := by decide +kernel
theorem dX0_reduce_54 : decode cX0_reduce 54 = .ok (.getfield 56, 3) := by decide +kernel
theorem dX0_reduce_57 : decode cX0_reduce 57 = .ok (.aload_n 0, 1) := by decide +kernel
theorem dX0_reduce_58 : decode cX0_reduce 58 = .ok (.getfield 17, 3) := by decide +kernel
theorem dX0_reduce_61 : decode cX0_reduce 61 = .ok (.iload_n 2, 1) := by decide +kernel
theorem dX0_reduce_62 : decode cX0_reduce 62 = .ok (.iaload, 1) := by decide +kernel
theorem dX0_reduce_63 : decode cX0_reduce 63 = .ok (.ixor, 1) := by decide +kernel
theorem dX0_reduce_64 : decode cX0_reduce 64 = .ok (.putfield 56, 3) := by decide +kernel
theorem dX0_reduce_67 : decode cX0_reduce 67 = .ok (.iinc 2 (-1), 3) := by decide +kernel
theorem dX0_reduce_70 : decode cX0_reduce 70 = .ok (.goto (-57), 3) := by decide +kernel
theorem dX0_reduce_73 : decode cX0_reduce 73 = .ok (.return_, 1) := by decide +kernel
abbrev cX0_addCycle : ByteArray := prog_1_method_22_code
def yX0_addCycle : MethodName := ⟨RX0, "addCycle", "(I)V"⟩
theorem dX0_addCycle_0 : decode cX0_addCycle 0 = .ok (.iload_n 1, 1) := by decide +kernel
theorem dX0_addCycle_1 : decode cX0_addCycle 1 = .ok (.istore_n 2, 1) := by decide +kernel
theorem dX0_addCycle_2 : decode cX0_addCycle 2 = .ok (.bipush 9, 2) := by decide +kernel
theorem dX0_addCycle_4 : decode cX0_addCycle 4 = .ok (.istore_n 3, 1) := by decide +kernel
theorem dX0_addCycle_5 : decode cX0_addCycle 5 = .ok (.iload_n 3, 1) := by decide +kernel
theorem dX0_addCycle_6 : decode cX0_addCycle 6 = .ok (.ifCond .lt 43, 3) := by decide +kernel
theorem dX0_addCycle_9 : decode cX0_addCycle 9 = .ok (.iload_n 2, 1) := by decide +kernel
theorem dX0_addCycle_10 : decode cX0_addCycle 10 = .ok (.iload_n 3, 1) := by decide +kernel
theorem dX0_addCycle_11 : decode cX0_addCycle 11 = .ok (.iushr, 1) := by decide +kernel
theorem dX0_addCycle_12 : decode cX0_addCycle 12 = .ok (.iconst 1, 1) := by decide +kernel
theorem dX0_addCycle_13 : decode cX0_addCycle 13 = .ok (.iand, 1) := by decide +kernel
theorem dX0_addCycle_14 : decode cX0_addCycle 14 = .ok (.ifCond .eq 29, 3) := by decide +kernel
theorem dX0_addCycle_17 : decode cX0_addCycle 17 = .ok (.aload_n 0, 1) := by decide +kernel
theorem dX0_addCycle_18 : decode cX0_addCycle 18 = .ok (.getfield 20, 3) := by decide +kernel
theorem dX0_addCycle_21 : decode cX0_addCycle 21 = .ok (.iload_n 3, 1) := by decide +kernel
theorem dX0_addCycle_22 : decode cX0_addCycle 22 = .ok (.iaload, 1) := by decide +kernel
theorem dX0_addCycle_23 : decode cX0_addCycle 23 = .ok (.ifCond .ne 11, 3) := by decide +kernel
theorem dX0_addCycle_26 : decode cX0_addCycle 26 = .ok (.aload_n 0, 1) := by decide +kernel
theorem dX0_addCycle_27 : decode cX0_addCycle 27 = .ok (.getfield 20, 3) := by decide +kernel
theorem dX0_addCycle_30 : decode cX0_addCycle 30 = .ok (.iload_n 3, 1) := by decide +kernel
theorem dX0_addCycle_31 : decode cX0_addCycle 31 = .ok (.iload_n 2, 1) := by decide +kernel
theorem dX0_addCycle_32 : decode cX0_addCycle 32 = .ok (.iastore, 1) := by decide +kernel
theorem dX0_addCycle_33 : decode cX0_addCycle 33 = .ok (.return_, 1) := by decide +kernel
theorem dX0_addCycle_34 : decode cX0_addCycle 34 = .ok (.iload_n 2, 1) := by decide +kernel
theorem dX0_addCycle_35 : decode cX0_addCycle 35 = .ok (.aload_n 0, 1) := by decide +kernel
theorem dX0_addCycle_36 : decode cX0_addCycle 36 = .ok (.getfield 20, 3) := by decide +kernel
theorem dX0_addCycle_39 : decode cX0_addCycle 39 = .ok (.iload_n 3, 1) := by decide +kernel
theorem dX0_addCycle_40 : decode cX0_addCycle 40 = .ok (.iaload, 1) := by decide +kernel
theorem dX0_addCycle_41 : decode cX0_addCycle 41 = .ok (.ixor, 1) := by decide +kernel
theorem dX0_addCycle_42 : decode cX0_addCycle 42 = .ok (.istore_n 2, 1) := by decide +kernel
theorem dX0_addCycle_43 : decode cX0_addCycle 43 = .ok (.iinc 3 (-1), 3) := by decide +kernel
theorem dX0_addCycle_46 : decode cX0_addCycle 46 = .ok (.goto (-41), 3) := by decide +kernel
theorem dX0_addCycle_49 : decode cX0_addCycle 49 = .ok (.return_, 1) := by decide +kernel
abbrev cX0_highest : ByteArray := prog_1_method_23_code
def yX0_highest : MethodName := ⟨RX0, "highest", "(I)I"⟩
theorem dX0_highest_0 : decode cX0_highest 0 = .ok (.iconst 0, 1) := by decide +kernel
theorem dX0_highest_1 : decode cX0_highest 1 = .ok (.istore_n 1, 1) := by decide +kernel
theorem dX0_highest_2 : decode cX0_highest 2 = .ok (.iconst 0, 1) := by decide +kernel
theorem dX0_highest_3 : decode cX0_highest 3 = .ok (.istore_n 2, 1) := by decide +kernel
theorem dX0_highest_4 : decode cX0_highest 4 = .ok (.iload_n 2, 1) := by decide +kernel
theorem dX0_highest_5 : decode cX0_highest 5 = .ok (.bipush 10, 2) := by decide +kernel
theorem dX0_highest_7 : decode cX0_highest 7 = .ok (.if_icmp .ge 23, 3) := by decide +kernel
theorem dX0_highest_10 : decode cX0_highest 10 = .ok (.iload_n 0, 1) := by decide +kernel
theorem dX0_highest_11 : decode cX0_highest 11 = .ok (.iload_n 2, 1) := by decide +kernel
theorem dX0_highest_12 : decode cX0_highest 12 = .ok (.iushr, 1) := by decide +kernel
theorem dX0_highest_13 : decode cX0_highest 13 = .ok (.iconst 1, 1) := by decide +kernel
theorem dX0_highest_14 : decode cX0_highest 14 = .ok (.iand, 1) := by decide +kernel
theorem dX0_highest_15 : decode cX0_highest 15 = .ok (.ifCond .eq 7, 3) := by decide +kernel
theorem dX0_highest_18 : decode cX0_highest 18 = .ok (.iload_n 2, 1) := by decide +kernel
theorem dX0_highest_19 : decode cX0_highest 19 = .ok (.goto 4, 3) := by decide +kernel
theorem dX0_highest_22 : decode cX0_highest 22 = .ok (.iload_n 1, 1) := by decide +kernel
theorem dX0_highest_23 : decode cX0_highest 23 = .ok (.istore_n 1, 1) := by decide +kernel
theorem dX0_highest_24 : decode cX0_highest 24 = .ok (.iinc 2 1, 3) := by decide +kernel
theorem dX0_highest_27 : decode cX0_highest 27 = .ok (.goto (-23), 3) := by decide +kernel
theorem dX0_highest_30 : decode cX0_highest 30 = .ok (.iload_n 1, 1) := by decide +kernel
theorem dX0_highest_31 : decode cX0_highest 31 = .ok (.ireturn, 1) := by decide +kernel
abbrev cX0_filled : ByteArray := prog_1_method_8_code
def yX0_filled : MethodName := ⟨RX0, "filled", "(II)I"⟩
theorem dX0_filled_0 : decode cX0_filled 0 = .ok (.aload_n 0, 1) := by decide +kernel
theorem dX0_filled_1 : decode cX0_filled 1 = .ok (.iload_n 1, 1) := by decide +kernel
theorem dX0_filled_2 : decode cX0_filled 2 = .ok (.iload_n 2, 1) := by decide +kernel
theorem dX0_filled_3 : decode cX0_filled 3 = .ok (.invokevirtual 35, 3) := by decide +kernel
theorem dX0_filled_6 : decode cX0_filled 6 = .ok (.ifCond .ne 5, 3) := by decide +kernel
theorem dX0_filled_9 : decode cX0_filled 9 = .ok (.iconst (-1), 1) := by decide +kernel
theorem dX0_filled_10 : decode cX0_filled 10 = .ok (.ireturn, 1) := by decide +kernel
theorem dX0_filled_11 : decode cX0_filled 11 = .ok (.aload_n 0, 1) := by decide +kernel
theorem dX0_filled_12 : decode cX0_filled 12 = .ok (.iload_n 1, 1) := by decide +kernel
theorem dX0_filled_13 : decode cX0_filled 13 = .ok (.iconst 1, 1) := by decide +kernel
theorem dX0_filled_14 : decode cX0_filled 14 = .ok (.iadd, 1) := by decide +kernel
theorem dX0_filled_15 : decode cX0_filled 15 = .ok (.invokevirtual 42, 3) := by decide +kernel
theorem dX0_filled_18 : decode cX0_filled 18 = .ok (.aload_n 0, 1) := by decide +kernel
theorem dX0_filled_19 : decode cX0_filled 19 = .ok (.iload_n 2, 1) := by decide +kernel
theorem dX0_filled_20 : decode cX0_filled 20 = .ok (.invokevirtual 50, 3) := by decide +kernel
theorem dX0_filled_23 : decode cX0_filled 23 = .ok (.aload_n 0, 1) := by decide +kernel
theorem dX0_filled_24 : decode cX0_filled 24 = .ok (.getfield 53, 3) := by decide +kernel
theorem dX0_filled_27 : decode cX0_filled 27 = .ok (.ifCond .ne 7, 3) := by decide +kernel
theorem dX0_filled_30 : decode cX0_filled 30 = .ok (.iconst 1, 1) := by decide +kernel
theorem dX0_filled_31 : decode cX0_filled 31 = .ok (.goto 4, 3) := by decide +kernel
theorem dX0_filled_34 : decode cX0_filled 34 = .ok (.iconst 0, 1) := by decide +kernel
theorem dX0_filled_35 : decode cX0_filled 35 = .ok (.ireturn, 1) := by decide +kernel
abbrev cX0_filling : ByteArray := prog_1_method_9_code
def yX0_filling : MethodName := ⟨RX0, "filling", "(II)I"⟩
theorem dX0_filling_0 : decode cX0_filling 0 = .ok (.aload_n 0, 1) := by decide +kernel
theorem dX0_filling_1 : decode cX0_filling 1 = .ok (.iload_n 1, 1) := by decide +kernel
theorem dX0_filling_2 : decode cX0_filling 2 = .ok (.iload_n 2, 1) := by decide +kernel
theorem dX0_filling_3 : decode cX0_filling 3 = .ok (.invokevirtual 35, 3) := by decide +kernel
theorem dX0_filling_6 : decode cX0_filling 6 = .ok (.ifCond .ne 5, 3) := by decide +kernel
theorem dX0_filling_9 : decode cX0_filling 9 = .ok (.iconst (-1), 1) := by decide +kernel
theorem dX0_filling_10 : decode cX0_filling 10 = .ok (.ireturn, 1) := by decide +kernel
theorem dX0_filling_11 : decode cX0_filling 11 = .ok (.aload_n 0, 1) := by decide +kernel
theorem dX0_filling_12 : decode cX0_filling 12 = .ok (.iload_n 1, 1) := by decide +kernel
theorem dX0_filling_13 : decode cX0_filling 13 = .ok (.iconst 1, 1) := by decide +kernel
theorem dX0_filling_14 : decode cX0_filling 14 = .ok (.iadd, 1) := by decide +kernel
theorem dX0_filling_15 : decode cX0_filling 15 = .ok (.invokevirtual 42, 3) := by decide +kernel
theorem dX0_filling_18 : decode cX0_filling 18 = .ok (.aload_n 0, 1) := by decide +kernel
theorem dX0_filling_19 : decode cX0_filling 19 = .ok (.iload_n 2, 1) := by decide +kernel
theorem dX0_filling_20 : decode cX0_filling 20 = .ok (.invokevirtual 50, 3) := by decide +kernel
theorem dX0_filling_23 : decode cX0_filling 23 = .ok (.aload_n 0, 1) := by decide +kernel
theorem dX0_filling_24 : decode cX0_filling 24 = .ok (.getfield 53, 3) := by decide +kernel
theorem dX0_filling_27 : decode cX0_filling 27 = .ok (.ifCond .eq 6, 3) := by decide +kernel
theorem dX0_filling_30 : decode cX0_filling 30 = .ok (.bipush (-2), 2) := by decide +kernel
theorem dX0_filling_32 : decode cX0_filling 32 = .ok (.ireturn, 1) := by decide +kernel
theorem dX0_filling_33 : decode cX0_filling 33 = .ok (.aload_n 0, 1) := by decide +kernel
theorem dX0_filling_34 : decode cX0_filling 34 = .ok (.getfield 56, 3) := by decide +kernel
theorem dX0_filling_37 : decode cX0_filling 37 = .ok (.istore_n 3, 1) := by decide +kernel
theorem dX0_filling_38 : decode cX0_filling 38 = .ok (.bipush 9, 2) := by decide +kernel
theorem dX0_filling_40 : decode cX0_filling 40 = .ok (.istore 4, 2) := by decide +kernel
theorem dX0_filling_42 : decode cX0_filling 42 = .ok (.iload 4, 2) := by decide +kernel
theorem dX0_filling_44 : decode cX0_filling 44 = .ok (.ifCond .lt 38, 3) := by decide +kernel
theorem dX0_filling_47 : decode cX0_filling 47 = .ok (.aload_n 0, 1) := by decide +kernel
theorem dX0_filling_48 : decode cX0_filling 48 = .ok (.getfield 20, 3) := by decide +kernel
theorem dX0_filling_51 : decode cX0_filling 51 = .ok (.iload 4, 2) := by decide +kernel
theorem dX0_filling_53 : decode cX0_filling 53 = .ok (.iaload, 1) := by decide +kernel
theorem dX0_filling_54 : decode cX0_filling 54 = .ok (.ifCond .eq 22, 3) := by decide +kernel
theorem dX0_filling_57 : decode cX0_filling 57 = .ok (.iload_n 3, 1) := by decide +kernel
theorem dX0_filling_58 : decode cX0_filling 58 = .ok (.iload 4, 2) := by decide +kernel
theorem dX0_filling_60 : decode cX0_filling 60 = .ok (.iushr, 1) := by decide +kernel
theorem dX0_filling_61 : decode cX0_filling 61 = .ok (.iconst 1, 1) := by decide +kernel
theorem dX0_filling_62 : decode cX0_filling 62 = .ok (.iand, 1) := by decide +kernel
theorem dX0_filling_63 : decode cX0_filling 63 = .ok (.ifCond .eq 13, 3) := by decide +kernel
theorem dX0_filling_66 : decode cX0_filling 66 = .ok (.iload_n 3, 1) := by decide +kernel
theorem dX0_filling_67 : decode cX0_filling 67 = .ok (.aload_n 0, 1) := by decide +kernel
theorem dX0_filling_68 : decode cX0_filling 68 = .ok (.getfield 20, 3) := by decide +kernel
theorem dX0_filling_71 : decode cX0_filling 71 = .ok (.iload 4, 2) := by decide +kernel
theorem dX0_filling_73 : decode cX0_filling 73 = .ok (.iaload, 1) := by decide +kernel
theorem dX0_filling_74 : decode cX0_filling 74 = .ok (.ixor, 1) := by decide +kernel
theorem dX0_filling_75 : decode cX0_filling 75 = .ok (.istore_n 3, 1) := by decide +kernel
theorem dX0_filling_76 : decode cX0_filling 76 = .ok (.iinc 4 (-1), 3) := by decide +kernel
theorem dX0_filling_79 : decode cX0_filling 79 = .ok (.goto (-37), 3) := by decide +kernel
theorem dX0_filling_82 : decode cX0_filling 82 = .ok (.iload_n 3, 1) := by decide +kernel
theorem dX0_filling_83 : decode cX0_filling 83 = .ok (.ireturn, 1) := by decide +kernel
abbrev cX0_least : ByteArray := prog_1_method_10_code
def yX0_least : MethodName := ⟨RX0, "least", "(II)I"⟩
theorem dX0_least_0 : decode cX0_least 0 = .ok (.aload_n 0, 1) := by decide +kernel
theorem dX0_least_1 : decode cX0_least 1 = .ok (.iload_n 1, 1) := by decide +kernel
theorem dX0_least_2 : decode cX0_least 2 = .ok (.iload_n 2, 1) := by decide +kernel
theorem dX0_least_3 : decode cX0_least 3 = .ok (.invokevirtual 35, 3) := by decide +kernel
theorem dX0_least_6 : decode cX0_least 6 = .ok (.ifCond .ne 5, 3) := by decide +kernel
theorem dX0_least_9 : decode cX0_least 9 = .ok (.iconst (-1), 1) := by decide +kernel
theorem dX0_least_10 : decode cX0_least 10 = .ok (.ireturn, 1) := by decide +kernel
theorem dX0_least_11 : decode cX0_least 11 = .ok (.aload_n 0, 1) := by decide +kernel
theorem dX0_least_12 : decode cX0_least 12 = .ok (.iload_n 1, 1) := by decide +kernel
theorem dX0_least_13 : decode cX0_least 13 = .ok (.iconst 1, 1) := by decide +kernel
theorem dX0_least_14 : decode cX0_least 14 = .ok (.iadd, 1) := by decide +kernel
theorem dX0_least_15 : decode cX0_least 15 = .ok (.invokevirtual 42, 3) := by decide +kernel
theorem dX0_least_18 : decode cX0_least 18 = .ok (.aload_n 0, 1) := by decide +kernel
theorem dX0_least_19 : decode cX0_least 19 = .ok (.iload_n 2, 1) := by decide +kernel
theorem dX0_least_20 : decode cX0_least 20 = .ok (.invokevirtual 50, 3) := by decide +kernel
theorem dX0_least_23 : decode cX0_least 23 = .ok (.aload_n 0, 1) := by decide +kernel
theorem dX0_least_24 : decode cX0_least 24 = .ok (.getfield 53, 3) := by decide +kernel
theorem dX0_least_27 : decode cX0_least 27 = .ok (.ireturn, 1) := by decide +kernel
abbrev cX0_alternating : ByteArray := prog_1_method_11_code
def yX0_alternating : MethodName := ⟨RX0, "alternating", "()I"⟩
theorem dX0_alternating_0 : decode cX0_alternating 0 = .ok (.iconst 0, 1) := by decide +kernel
theorem dX0_alternating_1 : decode cX0_alternating 1 = .ok (.istore_n 1, 1) := by decide +kernel
theorem dX0_alternating_2 : decode cX0_alternating 2 = .ok (.iconst 0, 1) := by decide +kernel
theorem dX0_alternating_3 : decode cX0_alternating 3 = .ok (.istore_n 2, 1) := by decide +kernel
theorem dX0_alternating_4 : decode cX0_alternating 4 = .ok (.iload_n 2, 1) := by decide +kernel
theorem dX0_alternating_5 : decode cX0_alternating 5 = .ok (.iconst 5, 1) := by decide +kernel
theorem dX0_alternating_6 : decode cX0_alternating 6 = .ok (.if_icmp .ge 30, 3) := by decide +kernel
theorem dX0_alternating_9 : decode cX0_alternating 9 = .ok (.aload_n 0, 1) := by decide +kernel
theorem dX0_alternating_10 : decode cX0_alternating 10 = .ok (.iload_n 2, 1) := by decide +kernel
theorem dX0_alternating_11 : decode cX0_alternating 11 = .ok (.invokevirtual 27, 3) := by decide +kernel
theorem dX0_alternating_14 : decode cX0_alternating 14 = .ok (.istore_n 3, 1) := by decide +kernel
theorem dX0_alternating_15 : decode cX0_alternating 15 = .ok (.iload_n 1, 1) := by decide +kernel
theorem dX0_alternating_16 : decode cX0_alternating 16 = .ok (.iload_n 2, 1) := by decide +kernel
theorem dX0_alternating_17 : decode cX0_alternating 17 = .ok (.iconst 1, 1) := by decide +kernel
theorem dX0_alternating_18 : decode cX0_alternating 18 = .ok (.iand, 1) := by decide +kernel
theorem dX0_alternating_19 : decode cX0_alternating 19 = .ok (.ifCond .ne 7, 3) := by decide +kernel
theorem dX0_alternating_22 : decode cX0_alternating 22 = .ok (.iload_n 3, 1) := by decide +kernel
theorem dX0_alternating_23 : decode cX0_alternating 23 = .ok (.goto 5, 3) := by decide +kernel
theorem dX0_alternating_26 : decode cX0_alternating 26 = .ok (.iload_n 3, 1) := by decide +kernel
theorem dX0_alternating_27 : decode cX0_alternating 27 = .ok (.ineg, 1) := by decide +kernel
theorem dX0_alternating_28 : decode cX0_alternating 28 = .ok (.iadd, 1) := by decide +kernel
theorem dX0_alternating_29 : decode cX0_alternating 29 = .ok (.istore_n 1, 1) := by decide +kernel
theorem dX0_alternating_30 : decode cX0_alternating 30 = .ok (.iinc 2 1, 3) := by decide +kernel
theorem dX0_alternating_33 : decode cX0_alternating 33 = .ok (.goto (-29), 3) := by decide +kernel
theorem dX0_alternating_36 : decode cX0_alternating 36 = .ok (.iload_n 1, 1) := by decide +kernel
theorem dX0_alternating_37 : decode cX0_alternating 37 = .ok (.ireturn, 1) := by decide +kernel
theorem q15 : (Jvm.Cond.initialized "ChainDesk") ∈ lw_all := lw_g (lw_at lw_m0 1 rfl) rfl
theorem q18 : (Jvm.Cond.instantiable "ChainDesk" (7 : Nat)) ∈ lw_all := lw_g (lw_at lw_m0 4 rfl) rfl
theorem q20 : (Jvm.Cond.instanceMethod ({ cls := "ChainDesk", name := "<init>", desc := "()V" } : Jvm.MethodName)) ∈ lw_all := lw_g (lw_at lw_m0 6 rfl) rfl
theorem q21 : (Jvm.Cond.code ({ cls := "ChainDesk", name := "<init>", desc := "()V" } : Jvm.MethodName) prog_1_method_1_code (1 : Nat) (Option.none : Option Jvm.ClassFile.FieldType)) ∈ lw_all := lw_g (lw_at lw_m0 7 rfl) rfl
theorem q22 : (Jvm.Cond.methodLink "ChainDesk" (1 : Nat) ({ cls := "java/lang/Object", name := "<init>", desc := "()V" } : Jvm.MethodName)) ∈ lw_all := lw_g (lw_at lw_m0 8 rfl) rfl
theorem q25 : (Jvm.Cond.fieldLink "ChainDesk" (7 : Nat) "ChainDesk" "held" "[Z") ∈ lw_all := lw_g (lw_at lw_m0 11 rfl) rfl
theorem q26 : (Jvm.Cond.fieldLink "ChainDesk" (13 : Nat) "ChainDesk" "row" "[I") ∈ lw_all := lw_g (lw_at lw_m0 12 rfl) rfl
theorem q27 : (Jvm.Cond.fieldLink "ChainDesk" (17 : Nat) "ChainDesk" "origin" "[I") ∈ lw_all := lw_g (lw_at lw_m0 13 rfl) rfl
theorem q28 : (Jvm.Cond.fieldLink "ChainDesk" (20 : Nat) "ChainDesk" "cycle" "[I") ∈ lw_all := lw_g (lw_at lw_m0 14 rfl) rfl
theorem q29 : (Jvm.Cond.fieldLink "ChainDesk" (46 : Nat) "ChainDesk" "rank" "I") ∈ lw_all := lw_g (lw_at lw_m0 15 rfl) rfl
theorem q30 : (Jvm.Cond.fieldLink "ChainDesk" (53 : Nat) "ChainDesk" "left" "I") ∈ lw_all := lw_g (lw_at lw_m0 16 rfl) rfl
theorem q31 : (Jvm.Cond.fieldLink "ChainDesk" (56 : Nat) "ChainDesk" "taken" "I") ∈ lw_all := lw_g (lw_at lw_m0 17 rfl) rfl
theorem q32 : (Jvm.Cond.laysFinal "ChainDesk" "ChainDesk" "held" "[Z") ∈ lw_all := lw_g (lw_at lw_m0 18 rfl) rfl
theorem q33 : (Jvm.Cond.soleField "ChainDesk" "held") ∈ lw_all := lw_g (lw_at lw_m0 19 rfl) rfl
theorem q34 : (Jvm.Cond.laysFinal "ChainDesk" "ChainDesk" "row" "[I") ∈ lw_all := lw_g (lw_at lw_m0 20 rfl) rfl
theorem q35 : (Jvm.Cond.soleField "ChainDesk" "row") ∈ lw_all := lw_g (lw_at lw_m0 21 rfl) rfl
theorem q36 : (Jvm.Cond.laysFinal "ChainDesk" "ChainDesk" "origin" "[I") ∈ lw_all := lw_g (lw_at lw_m0 22 rfl) rfl
theorem q37 : (Jvm.Cond.soleField "ChainDesk" "origin") ∈ lw_all := lw_g (lw_at lw_m0 23 rfl) rfl
theorem q38 : (Jvm.Cond.laysFinal "ChainDesk" "ChainDesk" "cycle" "[I") ∈ lw_all := lw_g (lw_at lw_m0 24 rfl) rfl
theorem q39 : (Jvm.Cond.soleField "ChainDesk" "cycle") ∈ lw_all := lw_g (lw_at lw_m0 25 rfl) rfl
theorem q40 : (Jvm.Cond.lays "ChainDesk" "ChainDesk" "rank" "I") ∈ lw_all := lw_g (lw_at lw_m0 26 rfl) rfl
theorem q41 : (Jvm.Cond.soleField "ChainDesk" "rank") ∈ lw_all := lw_g (lw_at lw_m0 27 rfl) rfl
theorem q42 : (Jvm.Cond.lays "ChainDesk" "ChainDesk" "left" "I") ∈ lw_all := lw_g (lw_at lw_m0 28 rfl) rfl
theorem q43 : (Jvm.Cond.soleField "ChainDesk" "left") ∈ lw_all := lw_g (lw_at lw_m0 29 rfl) rfl
theorem q44 : (Jvm.Cond.lays "ChainDesk" "ChainDesk" "taken" "I") ∈ lw_all := lw_g (lw_at lw_m0 30 rfl) rfl
theorem q45 : (Jvm.Cond.soleField "ChainDesk" "taken") ∈ lw_all := lw_g (lw_at lw_m0 31 rfl) rfl
theorem q46 : (Jvm.Cond.superclass "ChainDesk" "java/lang/Object") ∈ lw_all := lw_g (lw_at lw_m0 32 rfl) rfl
theorem q50 : (Jvm.Cond.instanceMethod ({ cls := "ChainDesk", name := "add", desc := "(I)I" } : Jvm.MethodName)) ∈ lw_all := lw_g (lw_at lw_m0 36 rfl) rfl
theorem q51 : (Jvm.Cond.selects "ChainDesk" ({ cls := "ChainDesk", name := "add", desc := "(I)I" } : Jvm.MethodName) ({ cls := "ChainDesk", name := "add", desc := "(I)I" } : Jvm.MethodName)) ∈ lw_all := lw_g (lw_at lw_m0 37 rfl) rfl
theorem q52 : (Jvm.Cond.code ({ cls := "ChainDesk", name := "add", desc := "(I)I" } : Jvm.MethodName) prog_1_method_2_code (4 : Nat) (Option.some Jvm.ClassFile.FieldType.int)) ∈ lw_all := lw_g (lw_at lw_m0 38 rfl) rfl
theorem q54 : (Jvm.Cond.instanceMethod ({ cls := "ChainDesk", name := "remove", desc := "(I)I" } : Jvm.MethodName)) ∈ lw_all := lw_g (lw_at lw_m0 40 rfl) rfl
theorem q55 : (Jvm.Cond.selects "ChainDesk" ({ cls := "ChainDesk", name := "remove", desc := "(I)I" } : Jvm.MethodName) ({ cls := "ChainDesk", name := "remove", desc := "(I)I" } : Jvm.MethodName)) ∈ lw_all := lw_g (lw_at lw_m0 41 rfl) rfl
theorem q56 : (Jvm.Cond.code ({ cls := "ChainDesk", name := "remove", desc := "(I)I" } : Jvm.MethodName) prog_1_method_3_code (4 : Nat) (Option.some Jvm.ClassFile.FieldType.int)) ∈ lw_all := lw_g (lw_at lw_m0 42 rfl) rfl
theorem q58 : (Jvm.Cond.instanceMethod ({ cls := "ChainDesk", name := "count", desc := "(I)I" } : Jvm.MethodName)) ∈ lw_all := lw_g (lw_at lw_m0 44 rfl) rfl
theorem q59 : (Jvm.Cond.selects "ChainDesk" ({ cls := "ChainDesk", name := "count", desc := "(I)I" } : Jvm.MethodName) ({ cls := "ChainDesk", name := "count", desc := "(I)I" } : Jvm.MethodName)) ∈ lw_all := lw_g (lw_at lw_m0 45 rfl) rfl
theorem q60 : (Jvm.Cond.code ({ cls := "ChainDesk", name := "count", desc := "(I)I" } : Jvm.MethodName) prog_1_method_4_code (2 : Nat) (Option.some Jvm.ClassFile.FieldType.int)) ∈ lw_all := lw_g (lw_at lw_m0 46 rfl) rfl
theorem q61 : (Jvm.Cond.methodLink "ChainDesk" (23 : Nat) ({ cls := "ChainDesk", name := "isDimension", desc := "(I)Z" } : Jvm.MethodName)) ∈ lw_all := lw_g (lw_at lw_m0 47 rfl) rfl
theorem q62 : (Jvm.Cond.static ({ cls := "ChainDesk", name := "isDimension", desc := "(I)Z" } : Jvm.MethodName)) ∈ lw_all := lw_g (lw_at lw_m0 48 rfl) rfl
theorem q63 : (Jvm.Cond.code ({ cls := "ChainDesk", name := "isDimension", desc := "(I)Z" } : Jvm.MethodName) prog_1_method_12_code (1 : Nat) (Option.some Jvm.ClassFile.FieldType.boolean)) ∈ lw_all := lw_g (lw_at lw_m0 49 rfl) rfl
theorem q64 : (Jvm.Cond.methodLink "ChainDesk" (27 : Nat) ({ cls := "ChainDesk", name := "countOf", desc := "(I)I" } : Jvm.MethodName)) ∈ lw_all := lw_g (lw_at lw_m0 50 rfl) rfl
theorem q65 : (Jvm.Cond.privateMethod ({ cls := "ChainDesk", name := "countOf", desc := "(I)I" } : Jvm.MethodName)) ∈ lw_tbl := lw_at lw_m0 51 rfl
theorem q66 : (Jvm.Cond.instanceMethod ({ cls := "ChainDesk", name := "countOf", desc := "(I)I" } : Jvm.MethodName)) ∈ lw_all := lw_g (lw_at lw_m0 52 rfl) rfl
theorem q67 : (Jvm.Cond.code ({ cls := "ChainDesk", name := "countOf", desc := "(I)I" } : Jvm.MethodName) prog_1_method_14_code (4 : Nat) (Option.some Jvm.ClassFile.FieldType.int)) ∈ lw_all := lw_g (lw_at lw_m0 53 rfl) rfl
theorem q68 : (Jvm.Cond.methodLink "ChainDesk" (59 : Nat) ({ cls := "ChainDesk", name := "points", desc := "(I)I" } : Jvm.MethodName)) ∈ lw_all := lw_g (lw_at lw_m0 54 rfl) rfl
theorem q69 : (Jvm.Cond.static ({ cls := "ChainDesk", name := "points", desc := "(I)I" } : Jvm.MethodName)) ∈ lw_all := lw_g (lw_at lw_m0 55 rfl) rfl
theorem q70 : (Jvm.Cond.code ({ cls := "ChainDesk", name := "points", desc := "(I)I" } : Jvm.MethodName) prog_1_method_13_code (3 : Nat) (Option.some Jvm.ClassFile.FieldType.int)) ∈ lw_all := lw_g (lw_at lw_m0 56 rfl) rfl
theorem q72 : (Jvm.Cond.instanceMethod ({ cls := "ChainDesk", name := "simplex", desc := "(II)I" } : Jvm.MethodName)) ∈ lw_all := lw_g (lw_at lw_m0 58 rfl) rfl
theorem q73 : (Jvm.Cond.selects "ChainDesk" ({ cls := "ChainDesk", name := "simplex", desc := "(II)I" } : Jvm.MethodName) ({ cls := "ChainDesk", name := "simplex", desc := "(II)I" } : Jvm.MethodName)) ∈ lw_all := lw_g (lw_at lw_m0 59 rfl) rfl
theorem q74 : (Jvm.Cond.code ({ cls := "ChainDesk", name := "simplex", desc := "(II)I" } : Jvm.MethodName) prog_1_method_5_code (3 : Nat) (Option.some Jvm.ClassFile.FieldType.int)) ∈ lw_all := lw_g (lw_at lw_m0 60 rfl) rfl
theorem q75 : (Jvm.Cond.methodLink "ChainDesk" (31 : Nat) ({ cls := "ChainDesk", name := "simplexAt", desc := "(II)I" } : Jvm.MethodName)) ∈ lw_all := lw_g (lw_at lw_m0 61 rfl) rfl
theorem q76 : (Jvm.Cond.privateMethod ({ cls := "ChainDesk", name := "simplexAt", desc := "(II)I" } : Jvm.MethodName)) ∈ lw_tbl := lw_at lw_m0 62 rfl
theorem q77 : (Jvm.Cond.instanceMethod ({ cls := "ChainDesk", name := "simplexAt", desc := "(II)I" } : Jvm.MethodName)) ∈ lw_all := lw_g (lw_at lw_m0 63 rfl) rfl
theorem q78 : (Jvm.Cond.code ({ cls := "ChainDesk", name := "simplexAt", desc := "(II)I" } : Jvm.MethodName) prog_1_method_15_code (5 : Nat) (Option.some Jvm.ClassFile.FieldType.int)) ∈ lw_all := lw_g (lw_at lw_m0 64 rfl) rfl
theorem q80 : (Jvm.Cond.instanceMethod ({ cls := "ChainDesk", name := "boundary", desc := "(II)I" } : Jvm.MethodName)) ∈ lw_all := lw_g (lw_at lw_m0 66 rfl) rfl
theorem q81 : (Jvm.Cond.selects "ChainDesk" ({ cls := "ChainDesk", name := "boundary", desc := "(II)I" } : Jvm.MethodName) ({ cls := "ChainDesk", name := "boundary", desc := "(II)I" } : Jvm.MethodName)) ∈ lw_all := lw_g (lw_at lw_m0 67 rfl) rfl
theorem q82 : (Jvm.Cond.code ({ cls := "ChainDesk", name := "boundary", desc := "(II)I" } : Jvm.MethodName) prog_1_method_6_code (3 : Nat) (Option.some Jvm.ClassFile.FieldType.int)) ∈ lw_all := lw_g (lw_at lw_m0 68 rfl) rfl
theorem q83 : (Jvm.Cond.methodLink "ChainDesk" (35 : Nat) ({ cls := "ChainDesk", name := "isChain", desc := "(II)Z" } : Jvm.MethodName)) ∈ lw_all := lw_g (lw_at lw_m0 69 rfl) rfl
theorem q84 : (Jvm.Cond.privateMethod ({ cls := "ChainDesk", name := "isChain", desc := "(II)Z" } : Jvm.MethodName)) ∈ lw_tbl := lw_at lw_m0 70 rfl
theorem q85 : (Jvm.Cond.instanceMethod ({ cls := "ChainDesk", name := "isChain", desc := "(II)Z" } : Jvm.MethodName)) ∈ lw_all := lw_g (lw_at lw_m0 71 rfl) rfl
theorem q86 : (Jvm.Cond.code ({ cls := "ChainDesk", name := "isChain", desc := "(II)Z" } : Jvm.MethodName) prog_1_method_17_code (3 : Nat) (Option.some Jvm.ClassFile.FieldType.boolean)) ∈ lw_all := lw_g (lw_at lw_m0 72 rfl) rfl
theorem q87 : (Jvm.Cond.methodLink "ChainDesk" (39 : Nat) ({ cls := "ChainDesk", name := "boundaryOf", desc := "(II)I" } : Jvm.MethodName)) ∈ lw_all := lw_g (lw_at lw_m0 73 rfl) rfl
theorem q88 : (Jvm.Cond.privateMethod ({ cls := "ChainDesk", name := "boundaryOf", desc := "(II)I" } : Jvm.MethodName)) ∈ lw_tbl := lw_at lw_m0 74 rfl
theorem q89 : (Jvm.Cond.instanceMethod ({ cls := "ChainDesk", name := "boundaryOf", desc := "(II)I" } : Jvm.MethodName)) ∈ lw_all := lw_g (lw_at lw_m0 75 rfl) rfl
theorem q90 : (Jvm.Cond.code ({ cls := "ChainDesk", name := "boundaryOf", desc := "(II)I" } : Jvm.MethodName) prog_1_method_18_code (6 : Nat) (Option.some Jvm.ClassFile.FieldType.int)) ∈ lw_all := lw_g (lw_at lw_m0 76 rfl) rfl
theorem q91 : (Jvm.Cond.methodLink "ChainDesk" (62 : Nat) ({ cls := "ChainDesk", name := "facesOf", desc := "(I)I" } : Jvm.MethodName)) ∈ lw_all := lw_g (lw_at lw_m0 77 rfl) rfl
theorem q92 : (Jvm.Cond.privateMethod ({ cls := "ChainDesk", name := "facesOf", desc := "(I)I" } : Jvm.MethodName)) ∈ lw_tbl := lw_at lw_m0 78 rfl
theorem q93 : (Jvm.Cond.instanceMethod ({ cls := "ChainDesk", name := "facesOf", desc := "(I)I" } : Jvm.MethodName)) ∈ lw_all := lw_g (lw_at lw_m0 79 rfl) rfl
theorem q94 : (Jvm.Cond.code ({ cls := "ChainDesk", name := "facesOf", desc := "(I)I" } : Jvm.MethodName) prog_1_method_19_code (5 : Nat) (Option.some Jvm.ClassFile.FieldType.int)) ∈ lw_all := lw_g (lw_at lw_m0 80 rfl) rfl
theorem q95 : (Jvm.Cond.methodLink "ChainDesk" (65 : Nat) ({ cls := "ChainDesk", name := "placeOf", desc := "(I)I" } : Jvm.MethodName)) ∈ lw_all := lw_g (lw_at lw_m0 81 rfl) rfl
theorem q96 : (Jvm.Cond.privateMethod ({ cls := "ChainDesk", name := "placeOf", desc := "(I)I" } : Jvm.MethodName)) ∈ lw_tbl := lw_at lw_m0 82 rfl
theorem q97 : (Jvm.Cond.instanceMethod ({ cls := "ChainDesk", name := "placeOf", desc := "(I)I" } : Jvm.MethodName)) ∈ lw_all := lw_g (lw_at lw_m0 83 rfl) rfl
theorem q98 : (Jvm.Cond.code ({ cls := "ChainDesk", name := "placeOf", desc := "(I)I" } : Jvm.MethodName) prog_1_method_16_code (5 : Nat) (Option.some Jvm.ClassFile.FieldType.int)) ∈ lw_all := lw_g (lw_at lw_m0 84 rfl) rfl
theorem q100 : (Jvm.Cond.instanceMethod ({ cls := "ChainDesk", name := "holes", desc := "(I)I" } : Jvm.MethodName)) ∈ lw_all := lw_g (lw_at lw_m0 86 rfl) rfl
theorem q101 : (Jvm.Cond.selects "ChainDesk" ({ cls := "ChainDesk", name := "holes", desc := "(I)I" } : Jvm.MethodName) ({ cls := "ChainDesk", name := "holes", desc := "(I)I" } : Jvm.MethodName)) ∈ lw_all := lw_g (lw_at lw_m0 87 rfl) rfl
theorem q102 : (Jvm.Cond.code ({ cls := "ChainDesk", name := "holes", desc := "(I)I" } : Jvm.MethodName) prog_1_method_7_code (3 : Nat) (Option.some Jvm.ClassFile.FieldType.int)) ∈ lw_all := lw_g (lw_at lw_m0 88 rfl) rfl
theorem q103 : (Jvm.Cond.methodLink "ChainDesk" (42 : Nat) ({ cls := "ChainDesk", name := "eliminate", desc := "(I)V" } : Jvm.MethodName)) ∈ lw_all := lw_g (lw_at lw_m0 89 rfl) rfl
theorem q104 : (Jvm.Cond.privateMethod ({ cls := "ChainDesk", name := "eliminate", desc := "(I)V" } : Jvm.MethodName)) ∈ lw_tbl := lw_at lw_m0 90 rfl
theorem q105 : (Jvm.Cond.instanceMethod ({ cls := "ChainDesk", name := "eliminate", desc := "(I)V" } : Jvm.MethodName)) ∈ lw_all := lw_g (lw_at lw_m0 91 rfl) rfl
theorem q106 : (Jvm.Cond.code ({ cls := "ChainDesk", name := "eliminate", desc := "(I)V" } : Jvm.MethodName) prog_1_method_20_code (6 : Nat) (Option.none : Option Jvm.ClassFile.FieldType)) ∈ lw_all := lw_g (lw_at lw_m0 92 rfl) rfl
theorem q107 : (Jvm.Cond.methodLink "ChainDesk" (50 : Nat) ({ cls := "ChainDesk", name := "reduce", desc := "(I)V" } : Jvm.MethodName)) ∈ lw_all := lw_g (lw_at lw_m0 93 rfl) rfl
theorem q108 : (Jvm.Cond.privateMethod ({ cls := "ChainDesk", name := "reduce", desc := "(I)V" } : Jvm.MethodName)) ∈ lw_tbl := lw_at lw_m0 94 rfl
theorem q109 : (Jvm.Cond.instanceMethod ({ cls := "ChainDesk", name := "reduce", desc := "(I)V" } : Jvm.MethodName)) ∈ lw_all := lw_g (lw_at lw_m0 95 rfl) rfl
theorem q110 : (Jvm.Cond.code ({ cls := "ChainDesk", name := "reduce", desc := "(I)V" } : Jvm.MethodName) prog_1_method_21_code (3 : Nat) (Option.none : Option Jvm.ClassFile.FieldType)) ∈ lw_all := lw_g (lw_at lw_m0 96 rfl) rfl
theorem q111 : (Jvm.Cond.methodLink "ChainDesk" (68 : Nat) ({ cls := "ChainDesk", name := "addCycle", desc := "(I)V" } : Jvm.MethodName)) ∈ lw_all := lw_g (lw_at lw_m0 97 rfl) rfl
theorem q112 : (Jvm.Cond.privateMethod ({ cls := "ChainDesk", name := "addCycle", desc := "(I)V" } : Jvm.MethodName)) ∈ lw_tbl := lw_at lw_m0 98 rfl
theorem q113 : (Jvm.Cond.instanceMethod ({ cls := "ChainDesk", name := "addCycle", desc := "(I)V" } : Jvm.MethodName)) ∈ lw_all := lw_g (lw_at lw_m0 99 rfl) rfl
theorem q114 : (Jvm.Cond.code ({ cls := "ChainDesk", name := "addCycle", desc := "(I)V" } : Jvm.MethodName) prog_1_method_22_code (4 : Nat) (Option.none : Option Jvm.ClassFile.FieldType)) ∈ lw_all := lw_g (lw_at lw_m0 100 rfl) rfl
theorem q115 : (Jvm.Cond.methodLink "ChainDesk" (71 : Nat) ({ cls := "ChainDesk", name := "highest", desc := "(I)I" } : Jvm.MethodName)) ∈ lw_all := lw_g (lw_at lw_m0 101 rfl) rfl
theorem q116 : (Jvm.Cond.static ({ cls := "ChainDesk", name := "highest", desc := "(I)I" } : Jvm.MethodName)) ∈ lw_all := lw_g (lw_at lw_m0 102 rfl) rfl
theorem q117 : (Jvm.Cond.code ({ cls := "ChainDesk", name := "highest", desc := "(I)I" } : Jvm.MethodName) prog_1_method_23_code (3 : Nat) (Option.some Jvm.ClassFile.FieldType.int)) ∈ lw_all := lw_g (lw_at lw_m0 103 rfl) rfl
theorem q119 : (Jvm.Cond.instanceMethod ({ cls := "ChainDesk", name := "filled", desc := "(II)I" } : Jvm.MethodName)) ∈ lw_all := lw_g (lw_at lw_m0 105 rfl) rfl
theorem q120 : (Jvm.Cond.selects "ChainDesk" ({ cls := "ChainDesk", name := "filled", desc := "(II)I" } : Jvm.MethodName) ({ cls := "ChainDesk", name := "filled", desc := "(II)I" } : Jvm.MethodName)) ∈ lw_all := lw_g (lw_at lw_m0 106 rfl) rfl
theorem q121 : (Jvm.Cond.code ({ cls := "ChainDesk", name := "filled", desc := "(II)I" } : Jvm.MethodName) prog_1_method_8_code (3 : Nat) (Option.some Jvm.ClassFile.FieldType.int)) ∈ lw_all := lw_g (lw_at lw_m0 107 rfl) rfl
theorem q123 : (Jvm.Cond.instanceMethod ({ cls := "ChainDesk", name := "filling", desc := "(II)I" } : Jvm.MethodName)) ∈ lw_all := lw_g (lw_at lw_m0 109 rfl) rfl
theorem q124 : (Jvm.Cond.selects "ChainDesk" ({ cls := "ChainDesk", name := "filling", desc := "(II)I" } : Jvm.MethodName) ({ cls := "ChainDesk", name := "filling", desc := "(II)I" } : Jvm.MethodName)) ∈ lw_all := lw_g (lw_at lw_m0 110 rfl) rfl
theorem q125 : (Jvm.Cond.code ({ cls := "ChainDesk", name := "filling", desc := "(II)I" } : Jvm.MethodName) prog_1_method_9_code (5 : Nat) (Option.some Jvm.ClassFile.FieldType.int)) ∈ lw_all := lw_g (lw_at lw_m0 111 rfl) rfl
theorem q127 : (Jvm.Cond.instanceMethod ({ cls := "ChainDesk", name := "least", desc := "(II)I" } : Jvm.MethodName)) ∈ lw_all := lw_g (lw_at lw_m0 113 rfl) rfl
theorem q128 : (Jvm.Cond.selects "ChainDesk" ({ cls := "ChainDesk", name := "least", desc := "(II)I" } : Jvm.MethodName) ({ cls := "ChainDesk", name := "least", desc := "(II)I" } : Jvm.MethodName)) ∈ lw_all := lw_g (lw_at lw_m0 114 rfl) rfl
theorem q129 : (Jvm.Cond.code ({ cls := "ChainDesk", name := "least", desc := "(II)I" } : Jvm.MethodName) prog_1_method_10_code (3 : Nat) (Option.some Jvm.ClassFile.FieldType.int)) ∈ lw_all := lw_g (lw_at lw_m0 115 rfl) rfl
theorem q131 : (Jvm.Cond.instanceMethod ({ cls := "ChainDesk", name := "alternating", desc := "()I" } : Jvm.MethodName)) ∈ lw_all := lw_g (lw_at lw_m0 117 rfl) rfl
theorem q132 : (Jvm.Cond.selects "ChainDesk" ({ cls := "ChainDesk", name := "alternating", desc := "()I" } : Jvm.MethodName) ({ cls := "ChainDesk", name := "alternating", desc := "()I" } : Jvm.MethodName)) ∈ lw_all := lw_g (lw_at lw_m0 118 rfl) rfl
theorem q133 : (Jvm.Cond.code ({ cls := "ChainDesk", name := "alternating", desc := "()I" } : Jvm.MethodName) prog_1_method_11_code (4 : Nat) (Option.some Jvm.ClassFile.FieldType.int)) ∈ lw_all := lw_g (lw_at lw_m0 119 rfl) rfl
theorem in_X0 : ∀ w ∈ wsX00, w ∈ lw_all := lw_in wsX00 [32, 34, 36, 38, 40, 42, 44] (by decide +kernel) (by decide +kernel)
end
section
/-! ChainDeskModel -/
set_option maxRecDepth 100000
def RX1 : String := "ChainDeskModel"
def TX1 : u_T := fun k => match k with
  | 0 => ("ChainDeskModel", "held", "[Z", true)
  | _ => ("ChainDeskModel", "marked", "[Z", true)
def tyX1 : Nat → FieldType := fun k => match k with
  | 0 => .array .boolean
  | _ => .array .boolean
abbrev wsX10 : List Cond := u_ws RX1 TX1 2
theorem nmX1 : ∀ a, a < 2 → ∀ b, b < 2 → a ≠ b → (TX1 a).2.1 ≠ (TX1 b).2.1 := by decide +kernel
theorem tyX1_ok : ∀ k, k < 2 → parseFieldDescriptor (TX1 k).2.2.1 = some (tyX1 k) := by decide +kernel
abbrev cX1_init : ByteArray := prog_3_method_1_code
def yX1_init : MethodName := ⟨RX1, "<init>", "()V"⟩
theorem dX1_init_0 : decode cX1_init 0 = .ok (.aload_n 0, 1) := by decide +kernel
theorem dX1_init_1 : decode cX1_init 1 = .ok (.invokespecial 1, 3) := by decide +kernel
theorem dX1_init_4 : decode cX1_init 4 = .ok (.aload_n 0, 1) := by decide +kernel
theorem dX1_init_5 : decode cX1_init 5 = .ok (.bipush 32, 2) := by decide +kernel
theorem dX1_init_7 : decode cX1_init 7 = .ok (.newarray .boolean, 2) := by decide +kernel
theorem dX1_init_9 : decode cX1_init 9 = .ok (.putfield 7, 3) := by decide +kernel
theorem dX1_init_12 : decode cX1_init 12 = .ok (.aload_n 0, 1) := by decide +kernel
theorem dX1_init_13 : decode cX1_init 13 = .ok (.sipush 1024, 3) := by decide +kernel
theorem dX1_init_16 : decode cX1_init 16 = .ok (.newarray .boolean, 2) := by decide +kernel
theorem dX1_init_18 : decode cX1_init 18 = .ok (.putfield 13, 3) := by decide +kernel
theorem dX1_init_21 : decode cX1_init 21 = .ok (.return_, 1) := by decide +kernel
abbrev cX1_add : ByteArray := prog_3_method_3_code
def yX1_add : MethodName := ⟨RX1, "add", "(I)I"⟩
theorem dX1_add_0 : decode cX1_add 0 = .ok (.iload_n 1, 1) := by decide +kernel
theorem dX1_add_1 : decode cX1_add 1 = .ok (.iconst 1, 1) := by decide +kernel
theorem dX1_add_2 : decode cX1_add 2 = .ok (.if_icmp .lt 9, 3) := by decide +kernel
theorem dX1_add_5 : decode cX1_add 5 = .ok (.iload_n 1, 1) := by decide +kernel
theorem dX1_add_6 : decode cX1_add 6 = .ok (.bipush 31, 2) := by decide +kernel
theorem dX1_add_8 : decode cX1_add 8 = .ok (.if_icmp .le 5, 3) := by decide +kernel
theorem dX1_add_11 : decode cX1_add 11 = .ok (.iconst (-1), 1) := by decide +kernel
theorem dX1_add_12 : decode cX1_add 12 = .ok (.ireturn, 1) := by decide +kernel
theorem dX1_add_13 : decode cX1_add 13 = .ok (.iconst 0, 1) := by decide +kernel
theorem dX1_add_14 : decode cX1_add 14 = .ok (.istore_n 2, 1) := by decide +kernel
theorem dX1_add_15 : decode cX1_add 15 = .ok (.iconst 1, 1) := by decide +kernel
theorem dX1_add_16 : decode cX1_add 16 = .ok (.istore_n 3, 1) := by decide +kernel
theorem dX1_add_17 : decode cX1_add 17 = .ok (.iload_n 3, 1) := by decide +kernel
theorem dX1_add_18 : decode cX1_add 18 = .ok (.bipush 32, 2) := by decide +kernel
theorem dX1_add_20 : decode cX1_add 20 = .ok (.if_icmp .ge 35, 3) := by decide +kernel
theorem dX1_add_23 : decode cX1_add 23 = .ok (.iload_n 3, 1) := by decide +kernel
theorem dX1_add_24 : decode cX1_add 24 = .ok (.iload_n 1, 1) := by decide +kernel
theorem dX1_add_25 : decode cX1_add 25 = .ok (.iand, 1) := by decide +kernel
theorem dX1_add_26 : decode cX1_add 26 = .ok (.iload_n 3, 1) := by decide +kernel
theorem dX1_add_27 : decode cX1_add 27 = .ok (.if_icmp .ne 22, 3) := by decide +kernel
theorem dX1_add_30 : decode cX1_add 30 = .ok (.aload_n 0, 1) := by decide +kernel
theorem dX1_add_31 : decode cX1_add 31 = .ok (.getfield 7, 3) := by decide +kernel
theorem dX1_add_34 : decode cX1_add 34 = .ok (.iload_n 3, 1) := by decide +kernel
theorem dX1_add_35 : decode cX1_add 35 = .ok (.baload, 1) := by decide +kernel
theorem dX1_add_36 : decode cX1_add 36 = .ok (.ifCond .ne 13, 3) := by decide +kernel
theorem dX1_add_39 : decode cX1_add 39 = .ok (.aload_n 0, 1) := by decide +kernel
theorem dX1_add_40 : decode cX1_add 40 = .ok (.getfield 7, 3) := by decide +kernel
theorem dX1_add_43 : decode cX1_add 43 = .ok (.iload_n 3, 1) := by decide +kernel
theorem dX1_add_44 : decode cX1_add 44 = .ok (.iconst 1, 1) := by decide +kernel
theorem dX1_add_45 : decode cX1_add 45 = .ok (.bastore, 1) := by decide +kernel
theorem dX1_add_46 : decode cX1_add 46 = .ok (.iinc 2 1, 3) := by decide +kernel
theorem dX1_add_49 : decode cX1_add 49 = .ok (.iinc 3 1, 3) := by decide +kernel
theorem dX1_add_52 : decode cX1_add 52 = .ok (.goto (-35), 3) := by decide +kernel
theorem dX1_add_55 : decode cX1_add 55 = .ok (.iload_n 2, 1) := by decide +kernel
theorem dX1_add_56 : decode cX1_add 56 = .ok (.ireturn, 1) := by decide +kernel
abbrev cX1_remove : ByteArray := prog_3_method_4_code
def yX1_remove : MethodName := ⟨RX1, "remove", "(I)I"⟩
theorem dX1_remove_0 : decode cX1_remove 0 = .ok (.iload_n 1, 1) := by decide +kernel
theorem dX1_remove_1 : decode cX1_remove 1 = .ok (.iconst 1, 1) := by decide +kernel
theorem dX1_remove_2 : decode cX1_remove 2 = .ok (.if_icmp .lt 9, 3) := by decide +kernel
theorem dX1_remove_5 : decode cX1_remove 5 = .ok (.iload_n 1, 1) := by decide +kernel
theorem dX1_remove_6 : decode cX1_remove 6 = .ok (.bipush 31, 2) := by decide +kernel
theorem dX1_remove_8 : decode cX1_remove 8 = .ok (.if_icmp .le 5, 3) := by decide +kernel
theorem dX1_remove_11 : decode cX1_remove 11 = .ok (.iconst (-1), 1) := by decide +kernel
theorem dX1_remove_12 : decode cX1_remove 12 = .ok (.ireturn, 1) := by decide +kernel
theorem dX1_remove_13 : decode cX1_remove 13 = .ok (.iconst 0, 1) := by decide +kernel
theorem dX1_remove_14 : decode cX1_remove 14 = .ok (.istore_n 2, 1) := by decide +kernel
theorem dX1_remove_15 : decode cX1_remove 15 = .ok (.iconst 1, 1) := by decide +kernel
theorem dX1_remove_16 : decode cX1_remove 16 = .ok (.istore_n 3, 1) := by decide +kernel
theorem dX1_remove_17 : decode cX1_remove 17 = .ok (.iload_n 3, 1) := by decide +kernel
theorem dX1_remove_18 : decode cX1_remove 18 = .ok (.bipush 32, 2) := by decide +kernel
theorem dX1_remove_20 : decode cX1_remove 20 = .ok (.if_icmp .ge 35, 3) := by decide +kernel
theorem dX1_remove_23 : decode cX1_remove 23 = .ok (.iload_n 3, 1) := by decide +kernel
theorem dX1_remove_24 : decode cX1_remove 24 = .ok (.iload_n 1, 1) := by decide +kernel
theorem dX1_remove_25 : decode cX1_remove 25 = .ok (.iand, 1) := by decide +kernel
theorem dX1_remove_26 : decode cX1_remove 26 = .ok (.iload_n 1, 1) := by decide +kernel
theorem dX1_remove_27 : decode cX1_remove 27 = .ok (.if_icmp .ne 22, 3) := by decide +kernel
theorem dX1_remove_30 : decode cX1_remove 30 = .ok (.aload_n 0, 1) := by decide +kernel
theorem dX1_remove_31 : decode cX1_remove 31 = .ok (.getfield 7, 3) := by decide +kernel
theorem dX1_remove_34 : decode cX1_remove 34 = .ok (.iload_n 3, 1) := by decide +kernel
theorem dX1_remove_35 : decode cX1_remove 35 = .ok (.baload, 1) := by decide +kernel
theorem dX1_remove_36 : decode cX1_remove 36 = .ok (.ifCond .eq 13, 3) := by decide +kernel
theorem dX1_remove_39 : decode cX1_remove 39 = .ok (.aload_n 0, 1) := by decide +kernel
theorem dX1_remove_40 : decode cX1_remove 40 = .ok (.getfield 7, 3) := by decide +kernel
theorem dX1_remove_43 : decode cX1_remove 43 = .ok (.iload_n 3, 1) := by decide +kernel
theorem dX1_remove_44 : decode cX1_remove 44 = .ok (.iconst 0, 1) := by decide +kernel
theorem dX1_remove_45 : decode cX1_remove 45 = .ok (.bastore, 1) := by decide +kernel
theorem dX1_remove_46 : decode cX1_remove 46 = .ok (.iinc 2 1, 3) := by decide +kernel
theorem dX1_remove_49 : decode cX1_remove 49 = .ok (.iinc 3 1, 3) := by decide +kernel
theorem dX1_remove_52 : decode cX1_remove 52 = .ok (.goto (-35), 3) := by decide +kernel
theorem dX1_remove_55 : decode cX1_remove 55 = .ok (.iload_n 2, 1) := by decide +kernel
theorem dX1_remove_56 : decode cX1_remove 56 = .ok (.ireturn, 1) := by decide +kernel
abbrev cX1_count : ByteArray := prog_3_method_6_code
def yX1_count : MethodName := ⟨RX1, "count", "(I)I"⟩
theorem dX1_count_0 : decode cX1_count 0 = .ok (.iload_n 1, 1) := by decide +kernel
theorem dX1_count_1 : decode cX1_count 1 = .ok (.invokestatic 16, 3) := by decide +kernel
theorem dX1_count_4 : decode cX1_count 4 = .ok (.ifCond .eq 5, 3) := by decide +kernel
theorem dX1_count_7 : decode cX1_count 7 = .ok (.iconst (-1), 1) := by decide +kernel
theorem dX1_count_8 : decode cX1_count 8 = .ok (.ireturn, 1) := by decide +kernel
theorem dX1_count_9 : decode cX1_count 9 = .ok (.iconst 0, 1) := by decide +kernel
theorem dX1_count_10 : decode cX1_count 10 = .ok (.istore_n 2, 1) := by decide +kernel
theorem dX1_count_11 : decode cX1_count 11 = .ok (.iconst 1, 1) := by decide +kernel
theorem dX1_count_12 : decode cX1_count 12 = .ok (.istore_n 3, 1) := by decide +kernel
theorem dX1_count_13 : decode cX1_count 13 = .ok (.iload_n 3, 1) := by decide +kernel
theorem dX1_count_14 : decode cX1_count 14 = .ok (.bipush 32, 2) := by decide +kernel
theorem dX1_count_16 : decode cX1_count 16 = .ok (.if_icmp .ge 31, 3) := by decide +kernel
theorem dX1_count_19 : decode cX1_count 19 = .ok (.aload_n 0, 1) := by decide +kernel
theorem dX1_count_20 : decode cX1_count 20 = .ok (.getfield 7, 3) := by decide +kernel
theorem dX1_count_23 : decode cX1_count 23 = .ok (.iload_n 3, 1) := by decide +kernel
theorem dX1_count_24 : decode cX1_count 24 = .ok (.baload, 1) := by decide +kernel
theorem dX1_count_25 : decode cX1_count 25 = .ok (.ifCond .eq 16, 3) := by decide +kernel
theorem dX1_count_28 : decode cX1_count 28 = .ok (.iload_n 3, 1) := by decide +kernel
theorem dX1_count_29 : decode cX1_count 29 = .ok (.invokestatic 20, 3) := by decide +kernel
theorem dX1_count_32 : decode cX1_count 32 = .ok (.iload_n 1, 1) := by decide +kernel
theorem dX1_count_33 : decode cX1_count 33 = .ok (.iconst 1, 1) := by decide +kernel
theorem dX1_count_34 : decode cX1_count 34 = .ok (.iadd, 1) := by decide +kernel
theorem dX1_count_35 : decode cX1_count 35 = .ok (.if_icmp .ne 6, 3) := by decide +kernel
theorem dX1_count_38 : decode cX1_count 38 = .ok (.iinc 2 1, 3) := by decide +kernel
theorem dX1_count_41 : decode cX1_count 41 = .ok (.iinc 3 1, 3) := by decide +kernel
theorem dX1_count_44 : decode cX1_count 44 = .ok (.goto (-31), 3) := by decide +kernel
theorem dX1_count_47 : decode cX1_count 47 = .ok (.iload_n 2, 1) := by decide +kernel
theorem dX1_count_48 : decode cX1_count 48 = .ok (.ireturn, 1) := by decide +kernel
abbrev cX1_bad : ByteArray := prog_3_method_5_code
def yX1_bad : MethodName := ⟨RX1, "bad", "(I)Z"⟩
theorem dX1_bad_0 : decode cX1_bad 0 = .ok (.iload_n 0, 1) := by decide +kernel
theorem dX1_bad_1 : decode cX1_bad 1 = .ok (.ifCond .lt 8, 3) := by decide +kernel
theorem dX1_bad_4 : decode cX1_bad 4 = .ok (.iload_n 0, 1) := by decide +kernel
theorem dX1_bad_5 : decode cX1_bad 5 = .ok (.iconst 4, 1) := by decide +kernel
theorem dX1_bad_6 : decode cX1_bad 6 = .ok (.if_icmp .le 7, 3) := by decide +kernel
theorem dX1_bad_9 : decode cX1_bad 9 = .ok (.iconst 1, 1) := by decide +kernel
theorem dX1_bad_10 : decode cX1_bad 10 = .ok (.goto 4, 3) := by decide +kernel
theorem dX1_bad_13 : decode cX1_bad 13 = .ok (.iconst 0, 1) := by decide +kernel
theorem dX1_bad_14 : decode cX1_bad 14 = .ok (.ireturn, 1) := by decide +kernel
abbrev cX1_points : ByteArray := prog_3_method_2_code
def yX1_points : MethodName := ⟨RX1, "points", "(I)I"⟩
theorem dX1_points_0 : decode cX1_points 0 = .ok (.iconst 0, 1) := by decide +kernel
theorem dX1_points_1 : decode cX1_points 1 = .ok (.istore_n 1, 1) := by decide +kernel
theorem dX1_points_2 : decode cX1_points 2 = .ok (.iconst 0, 1) := by decide +kernel
theorem dX1_points_3 : decode cX1_points 3 = .ok (.istore_n 2, 1) := by decide +kernel
theorem dX1_points_4 : decode cX1_points 4 = .ok (.iload_n 2, 1) := by decide +kernel
theorem dX1_points_5 : decode cX1_points 5 = .ok (.iconst 5, 1) := by decide +kernel
theorem dX1_points_6 : decode cX1_points 6 = .ok (.if_icmp .ge 17, 3) := by decide +kernel
theorem dX1_points_9 : decode cX1_points 9 = .ok (.iload_n 1, 1) := by decide +kernel
theorem dX1_points_10 : decode cX1_points 10 = .ok (.iload_n 0, 1) := by decide +kernel
theorem dX1_points_11 : decode cX1_points 11 = .ok (.iload_n 2, 1) := by decide +kernel
theorem dX1_points_12 : decode cX1_points 12 = .ok (.ishr, 1) := by decide +kernel
theorem dX1_points_13 : decode cX1_points 13 = .ok (.iconst 1, 1) := by decide +kernel
theorem dX1_points_14 : decode cX1_points 14 = .ok (.iand, 1) := by decide +kernel
theorem dX1_points_15 : decode cX1_points 15 = .ok (.iadd, 1) := by decide +kernel
theorem dX1_points_16 : decode cX1_points 16 = .ok (.istore_n 1, 1) := by decide +kernel
theorem dX1_points_17 : decode cX1_points 17 = .ok (.iinc 2 1, 3) := by decide +kernel
theorem dX1_points_20 : decode cX1_points 20 = .ok (.goto (-16), 3) := by decide +kernel
theorem dX1_points_23 : decode cX1_points 23 = .ok (.iload_n 1, 1) := by decide +kernel
theorem dX1_points_24 : decode cX1_points 24 = .ok (.ireturn, 1) := by decide +kernel
abbrev cX1_simplex : ByteArray := prog_3_method_7_code
def yX1_simplex : MethodName := ⟨RX1, "simplex", "(II)I"⟩
theorem dX1_simplex_0 : decode cX1_simplex 0 = .ok (.iload_n 1, 1) := by decide +kernel
theorem dX1_simplex_1 : decode cX1_simplex 1 = .ok (.invokestatic 16, 3) := by decide +kernel
theorem dX1_simplex_4 : decode cX1_simplex 4 = .ok (.ifCond .ne 7, 3) := by decide +kernel
theorem dX1_simplex_7 : decode cX1_simplex 7 = .ok (.iload_n 2, 1) := by decide +kernel
theorem dX1_simplex_8 : decode cX1_simplex 8 = .ok (.ifCond .ge 5, 3) := by decide +kernel
theorem dX1_simplex_11 : decode cX1_simplex 11 = .ok (.iconst (-1), 1) := by decide +kernel
theorem dX1_simplex_12 : decode cX1_simplex 12 = .ok (.ireturn, 1) := by decide +kernel
theorem dX1_simplex_13 : decode cX1_simplex 13 = .ok (.iconst 0, 1) := by decide +kernel
theorem dX1_simplex_14 : decode cX1_simplex 14 = .ok (.istore_n 3, 1) := by decide +kernel
theorem dX1_simplex_15 : decode cX1_simplex 15 = .ok (.iconst 1, 1) := by decide +kernel
theorem dX1_simplex_16 : decode cX1_simplex 16 = .ok (.istore 4, 2) := by decide +kernel
theorem dX1_simplex_18 : decode cX1_simplex 18 = .ok (.iload 4, 2) := by decide +kernel
theorem dX1_simplex_20 : decode cX1_simplex 20 = .ok (.bipush 32, 2) := by decide +kernel
theorem dX1_simplex_22 : decode cX1_simplex 22 = .ok (.if_icmp .ge 41, 3) := by decide +kernel
theorem dX1_simplex_25 : decode cX1_simplex 25 = .ok (.aload_n 0, 1) := by decide +kernel
theorem dX1_simplex_26 : decode cX1_simplex 26 = .ok (.getfield 7, 3) := by decide +kernel
theorem dX1_simplex_29 : decode cX1_simplex 29 = .ok (.iload 4, 2) := by decide +kernel
theorem dX1_simplex_31 : decode cX1_simplex 31 = .ok (.baload, 1) := by decide +kernel
theorem dX1_simplex_32 : decode cX1_simplex 32 = .ok (.ifCond .eq 25, 3) := by decide +kernel
theorem dX1_simplex_35 : decode cX1_simplex 35 = .ok (.iload 4, 2) := by decide +kernel
theorem dX1_simplex_37 : decode cX1_simplex 37 = .ok (.invokestatic 20, 3) := by decide +kernel
theorem dX1_simplex_40 : decode cX1_simplex 40 = .ok (.iload_n 1, 1) := by decide +kernel
theorem dX1_simplex_41 : decode cX1_simplex 41 = .ok (.iconst 1, 1) := by decide +kernel
theorem dX1_simplex_42 : decode cX1_simplex 42 = .ok (.iadd, 1) := by decide +kernel
theorem dX1_simplex_43 : decode cX1_simplex 43 = .ok (.if_icmp .ne 14, 3) := by decide +kernel
theorem dX1_simplex_46 : decode cX1_simplex 46 = .ok (.iload_n 3, 1) := by decide +kernel
theorem dX1_simplex_47 : decode cX1_simplex 47 = .ok (.iload_n 2, 1) := by decide +kernel
theorem dX1_simplex_48 : decode cX1_simplex 48 = .ok (.if_icmp .ne 6, 3) := by decide +kernel
theorem dX1_simplex_51 : decode cX1_simplex 51 = .ok (.iload 4, 2) := by decide +kernel
theorem dX1_simplex_53 : decode cX1_simplex 53 = .ok (.ireturn, 1) := by decide +kernel
theorem dX1_simplex_54 : decode cX1_simplex 54 = .ok (.iinc 3 1, 3) := by decide +kernel
theorem dX1_simplex_57 : decode cX1_simplex 57 = .ok (.iinc 4 1, 3) := by decide +kernel
theorem dX1_simplex_60 : decode cX1_simplex 60 = .ok (.goto (-42), 3) := by decide +kernel
theorem dX1_simplex_63 : decode cX1_simplex 63 = .ok (.iconst (-1), 1) := by decide +kernel
theorem dX1_simplex_64 : decode cX1_simplex 64 = .ok (.ireturn, 1) := by decide +kernel
abbrev cX1_boundary : ByteArray := prog_3_method_12_code
def yX1_boundary : MethodName := ⟨RX1, "boundary", "(II)I"⟩
theorem dX1_boundary_0 : decode cX1_boundary 0 = .ok (.aload_n 0, 1) := by decide +kernel
theorem dX1_boundary_1 : decode cX1_boundary 1 = .ok (.iload_n 1, 1) := by decide +kernel
theorem dX1_boundary_2 : decode cX1_boundary 2 = .ok (.iload_n 2, 1) := by decide +kernel
theorem dX1_boundary_3 : decode cX1_boundary 3 = .ok (.invokevirtual 38, 3) := by decide +kernel
theorem dX1_boundary_6 : decode cX1_boundary 6 = .ok (.ifCond .eq 7, 3) := by decide +kernel
theorem dX1_boundary_9 : decode cX1_boundary 9 = .ok (.iconst (-1), 1) := by decide +kernel
theorem dX1_boundary_10 : decode cX1_boundary 10 = .ok (.goto 9, 3) := by decide +kernel
theorem dX1_boundary_13 : decode cX1_boundary 13 = .ok (.aload_n 0, 1) := by decide +kernel
theorem dX1_boundary_14 : decode cX1_boundary 14 = .ok (.iload_n 1, 1) := by decide +kernel
theorem dX1_boundary_15 : decode cX1_boundary 15 = .ok (.iload_n 2, 1) := by decide +kernel
theorem dX1_boundary_16 : decode cX1_boundary 16 = .ok (.invokevirtual 42, 3) := by decide +kernel
theorem dX1_boundary_19 : decode cX1_boundary 19 = .ok (.ireturn, 1) := by decide +kernel
abbrev cX1_noChain : ByteArray := prog_3_method_9_code
def yX1_noChain : MethodName := ⟨RX1, "noChain", "(II)Z"⟩
theorem dX1_noChain_0 : decode cX1_noChain 0 = .ok (.iload_n 1, 1) := by decide +kernel
theorem dX1_noChain_1 : decode cX1_noChain 1 = .ok (.invokestatic 16, 3) := by decide +kernel
theorem dX1_noChain_4 : decode cX1_noChain 4 = .ok (.ifCond .ne 16, 3) := by decide +kernel
theorem dX1_noChain_7 : decode cX1_noChain 7 = .ok (.iload_n 2, 1) := by decide +kernel
theorem dX1_noChain_8 : decode cX1_noChain 8 = .ok (.ifCond .lt 12, 3) := by decide +kernel
theorem dX1_noChain_11 : decode cX1_noChain 11 = .ok (.iload_n 2, 1) := by decide +kernel
theorem dX1_noChain_12 : decode cX1_noChain 12 = .ok (.aload_n 0, 1) := by decide +kernel
theorem dX1_noChain_13 : decode cX1_noChain 13 = .ok (.iload_n 1, 1) := by decide +kernel
theorem dX1_noChain_14 : decode cX1_noChain 14 = .ok (.invokevirtual 27, 3) := by decide +kernel
theorem dX1_noChain_17 : decode cX1_noChain 17 = .ok (.if_icmp .lt 7, 3) := by decide +kernel
theorem dX1_noChain_20 : decode cX1_noChain 20 = .ok (.iconst 1, 1) := by decide +kernel
theorem dX1_noChain_21 : decode cX1_noChain 21 = .ok (.goto 4, 3) := by decide +kernel
theorem dX1_noChain_24 : decode cX1_noChain 24 = .ok (.iconst 0, 1) := by decide +kernel
theorem dX1_noChain_25 : decode cX1_noChain 25 = .ok (.ireturn, 1) := by decide +kernel
abbrev cX1_chains : ByteArray := prog_3_method_8_code
def yX1_chains : MethodName := ⟨RX1, "chains", "(I)I"⟩
theorem dX1_chains_0 : decode cX1_chains 0 = .ok (.iload_n 1, 1) := by decide +kernel
theorem dX1_chains_1 : decode cX1_chains 1 = .ok (.invokestatic 16, 3) := by decide +kernel
theorem dX1_chains_4 : decode cX1_chains 4 = .ok (.ifCond .eq 7, 3) := by decide +kernel
theorem dX1_chains_7 : decode cX1_chains 7 = .ok (.iconst 0, 1) := by decide +kernel
theorem dX1_chains_8 : decode cX1_chains 8 = .ok (.goto 8, 3) := by decide +kernel
theorem dX1_chains_11 : decode cX1_chains 11 = .ok (.aload_n 0, 1) := by decide +kernel
theorem dX1_chains_12 : decode cX1_chains 12 = .ok (.iload_n 1, 1) := by decide +kernel
theorem dX1_chains_13 : decode cX1_chains 13 = .ok (.invokevirtual 24, 3) := by decide +kernel
theorem dX1_chains_16 : decode cX1_chains 16 = .ok (.istore_n 2, 1) := by decide +kernel
theorem dX1_chains_17 : decode cX1_chains 17 = .ok (.iconst 1, 1) := by decide +kernel
theorem dX1_chains_18 : decode cX1_chains 18 = .ok (.iload_n 2, 1) := by decide +kernel
theorem dX1_chains_19 : decode cX1_chains 19 = .ok (.ishl, 1) := by decide +kernel
theorem dX1_chains_20 : decode cX1_chains 20 = .ok (.ireturn, 1) := by decide +kernel
abbrev cX1_boundaryOf : ByteArray := prog_3_method_11_code
def yX1_boundaryOf : MethodName := ⟨RX1, "boundaryOf", "(II)I"⟩
theorem dX1_boundaryOf_0 : decode cX1_boundaryOf 0 = .ok (.iload_n 1, 1) := by decide +kernel
theorem dX1_boundaryOf_1 : decode cX1_boundaryOf 1 = .ok (.iconst 1, 1) := by decide +kernel
theorem dX1_boundaryOf_2 : decode cX1_boundaryOf 2 = .ok (.if_icmp .lt 8, 3) := by decide +kernel
theorem dX1_boundaryOf_5 : decode cX1_boundaryOf 5 = .ok (.iload_n 1, 1) := by decide +kernel
theorem dX1_boundaryOf_6 : decode cX1_boundaryOf 6 = .ok (.iconst 4, 1) := by decide +kernel
theorem dX1_boundaryOf_7 : decode cX1_boundaryOf 7 = .ok (.if_icmp .le 5, 3) := by decide +kernel
theorem dX1_boundaryOf_10 : decode cX1_boundaryOf 10 = .ok (.iconst 0, 1) := by decide +kernel
theorem dX1_boundaryOf_11 : decode cX1_boundaryOf 11 = .ok (.ireturn, 1) := by decide +kernel
theorem dX1_boundaryOf_12 : decode cX1_boundaryOf 12 = .ok (.iconst 0, 1) := by decide +kernel
theorem dX1_boundaryOf_13 : decode cX1_boundaryOf 13 = .ok (.istore_n 3, 1) := by decide +kernel
theorem dX1_boundaryOf_14 : decode cX1_boundaryOf 14 = .ok (.aload_n 0, 1) := by decide +kernel
theorem dX1_boundaryOf_15 : decode cX1_boundaryOf 15 = .ok (.iload_n 1, 1) := by decide +kernel
theorem dX1_boundaryOf_16 : decode cX1_boundaryOf 16 = .ok (.iconst 1, 1) := by decide +kernel
theorem dX1_boundaryOf_17 : decode cX1_boundaryOf 17 = .ok (.isub, 1) := by decide +kernel
theorem dX1_boundaryOf_18 : decode cX1_boundaryOf 18 = .ok (.invokevirtual 24, 3) := by decide +kernel
theorem dX1_boundaryOf_21 : decode cX1_boundaryOf 21 = .ok (.istore 4, 2) := by decide +kernel
theorem dX1_boundaryOf_23 : decode cX1_boundaryOf 23 = .ok (.iconst 0, 1) := by decide +kernel
theorem dX1_boundaryOf_24 : decode cX1_boundaryOf 24 = .ok (.istore 5, 2) := by decide +kernel
theorem dX1_boundaryOf_26 : decode cX1_boundaryOf 26 = .ok (.iload 5, 2) := by decide +kernel
theorem dX1_boundaryOf_28 : decode cX1_boundaryOf 28 = .ok (.iload 4, 2) := by decide +kernel
theorem dX1_boundaryOf_30 : decode cX1_boundaryOf 30 = .ok (.if_icmp .ge 38, 3) := by decide +kernel
theorem dX1_boundaryOf_33 : decode cX1_boundaryOf 33 = .ok (.aload_n 0, 1) := by decide +kernel
theorem dX1_boundaryOf_34 : decode cX1_boundaryOf 34 = .ok (.iload_n 1, 1) := by decide +kernel
theorem dX1_boundaryOf_35 : decode cX1_boundaryOf 35 = .ok (.iconst 1, 1) := by decide +kernel
theorem dX1_boundaryOf_36 : decode cX1_boundaryOf 36 = .ok (.isub, 1) := by decide +kernel
theorem dX1_boundaryOf_37 : decode cX1_boundaryOf 37 = .ok (.iload 5, 2) := by decide +kernel
theorem dX1_boundaryOf_39 : decode cX1_boundaryOf 39 = .ok (.invokevirtual 30, 3) := by decide +kernel
theorem dX1_boundaryOf_42 : decode cX1_boundaryOf 42 = .ok (.istore 6, 2) := by decide +kernel
theorem dX1_boundaryOf_44 : decode cX1_boundaryOf 44 = .ok (.aload_n 0, 1) := by decide +kernel
theorem dX1_boundaryOf_45 : decode cX1_boundaryOf 45 = .ok (.iload_n 1, 1) := by decide +kernel
theorem dX1_boundaryOf_46 : decode cX1_boundaryOf 46 = .ok (.iload_n 2, 1) := by decide +kernel
theorem dX1_boundaryOf_47 : decode cX1_boundaryOf 47 = .ok (.iload 6, 2) := by decide +kernel
theorem dX1_boundaryOf_49 : decode cX1_boundaryOf 49 = .ok (.invokevirtual 34, 3) := by decide +kernel
theorem dX1_boundaryOf_52 : decode cX1_boundaryOf 52 = .ok (.ifCond .eq 10, 3) := by decide +kernel
theorem dX1_boundaryOf_55 : decode cX1_boundaryOf 55 = .ok (.iload_n 3, 1) := by decide +kernel
theorem dX1_boundaryOf_56 : decode cX1_boundaryOf 56 = .ok (.iconst 1, 1) := by decide +kernel
theorem dX1_boundaryOf_57 : decode cX1_boundaryOf 57 = .ok (.iload 5, 2) := by decide +kernel
theorem dX1_boundaryOf_59 : decode cX1_boundaryOf 59 = .ok (.ishl, 1) := by decide +kernel
theorem dX1_boundaryOf_60 : decode cX1_boundaryOf 60 = .ok (.ior, 1) := by decide +kernel
theorem dX1_boundaryOf_61 : decode cX1_boundaryOf 61 = .ok (.istore_n 3, 1) := by decide +kernel
theorem dX1_boundaryOf_62 : decode cX1_boundaryOf 62 = .ok (.iinc 5 1, 3) := by decide +kernel
theorem dX1_boundaryOf_65 : decode cX1_boundaryOf 65 = .ok (.goto (-39), 3) := by decide +kernel
theorem dX1_boundaryOf_68 : decode cX1_boundaryOf 68 = .ok (.iload_n 3, 1) := by decide +kernel
theorem dX1_boundaryOf_69 : decode cX1_boundaryOf 69 = .ok (.ireturn, 1) := by decide +kernel
abbrev cX1_odd : ByteArray := prog_3_method_10_code
def yX1_odd : MethodName := ⟨RX1, "odd", "(III)Z"⟩
theorem dX1_odd_0 : decode cX1_odd 0 = .ok (.iconst 0, 1) := by decide +kernel
theorem dX1_odd_1 : decode cX1_odd 1 = .ok (.istore 4, 2) := by decide +kernel
theorem dX1_odd_3 : decode cX1_odd 3 = .ok (.aload_n 0, 1) := by decide +kernel
theorem dX1_odd_4 : decode cX1_odd 4 = .ok (.iload_n 1, 1) := by decide +kernel
theorem dX1_odd_5 : decode cX1_odd 5 = .ok (.invokevirtual 24, 3) := by decide +kernel
theorem dX1_odd_8 : decode cX1_odd 8 = .ok (.istore 5, 2) := by decide +kernel
theorem dX1_odd_10 : decode cX1_odd 10 = .ok (.iconst 0, 1) := by decide +kernel
theorem dX1_odd_11 : decode cX1_odd 11 = .ok (.istore 6, 2) := by decide +kernel
theorem dX1_odd_13 : decode cX1_odd 13 = .ok (.iload 6, 2) := by decide +kernel
theorem dX1_odd_15 : decode cX1_odd 15 = .ok (.iload 5, 2) := by decide +kernel
theorem dX1_odd_17 : decode cX1_odd 17 = .ok (.if_icmp .ge 39, 3) := by decide +kernel
theorem dX1_odd_20 : decode cX1_odd 20 = .ok (.aload_n 0, 1) := by decide +kernel
theorem dX1_odd_21 : decode cX1_odd 21 = .ok (.iload_n 1, 1) := by decide +kernel
theorem dX1_odd_22 : decode cX1_odd 22 = .ok (.iload 6, 2) := by decide +kernel
theorem dX1_odd_24 : decode cX1_odd 24 = .ok (.invokevirtual 30, 3) := by decide +kernel
theorem dX1_odd_27 : decode cX1_odd 27 = .ok (.istore 7, 2) := by decide +kernel
theorem dX1_odd_29 : decode cX1_odd 29 = .ok (.iload_n 2, 1) := by decide +kernel
theorem dX1_odd_30 : decode cX1_odd 30 = .ok (.iload 6, 2) := by decide +kernel
theorem dX1_odd_32 : decode cX1_odd 32 = .ok (.ishr, 1) := by decide +kernel
theorem dX1_odd_33 : decode cX1_odd 33 = .ok (.iconst 1, 1) := by decide +kernel
theorem dX1_odd_34 : decode cX1_odd 34 = .ok (.iand, 1) := by decide +kernel
theorem dX1_odd_35 : decode cX1_odd 35 = .ok (.iconst 1, 1) := by decide +kernel
theorem dX1_odd_36 : decode cX1_odd 36 = .ok (.if_icmp .ne 14, 3) := by decide +kernel
theorem dX1_odd_39 : decode cX1_odd 39 = .ok (.iload 7, 2) := by decide +kernel
theorem dX1_odd_41 : decode cX1_odd 41 = .ok (.iload_n 3, 1) := by decide +kernel
theorem dX1_odd_42 : decode cX1_odd 42 = .ok (.iand, 1) := by decide +kernel
theorem dX1_odd_43 : decode cX1_odd 43 = .ok (.iload_n 3, 1) := by decide +kernel
theorem dX1_odd_44 : decode cX1_odd 44 = .ok (.if_icmp .ne 6, 3) := by decide +kernel
theorem dX1_odd_47 : decode cX1_odd 47 = .ok (.iinc 4 1, 3) := by decide +kernel
theorem dX1_odd_50 : decode cX1_odd 50 = .ok (.iinc 6 1, 3) := by decide +kernel
theorem dX1_odd_53 : decode cX1_odd 53 = .ok (.goto (-40), 3) := by decide +kernel
theorem dX1_odd_56 : decode cX1_odd 56 = .ok (.iload 4, 2) := by decide +kernel
theorem dX1_odd_58 : decode cX1_odd 58 = .ok (.iconst 2, 1) := by decide +kernel
theorem dX1_odd_59 : decode cX1_odd 59 = .ok (.irem, 1) := by decide +kernel
theorem dX1_odd_60 : decode cX1_odd 60 = .ok (.iconst 1, 1) := by decide +kernel
theorem dX1_odd_61 : decode cX1_odd 61 = .ok (.if_icmp .ne 7, 3) := by decide +kernel
theorem dX1_odd_64 : decode cX1_odd 64 = .ok (.iconst 1, 1) := by decide +kernel
theorem dX1_odd_65 : decode cX1_odd 65 = .ok (.goto 4, 3) := by decide +kernel
theorem dX1_odd_68 : decode cX1_odd 68 = .ok (.iconst 0, 1) := by decide +kernel
theorem dX1_odd_69 : decode cX1_odd 69 = .ok (.ireturn, 1) := by decide +kernel
end
section
set_option maxRecDepth 100000
abbrev cX1_holes : ByteArray := prog_3_method_14_code
def yX1_holes : MethodName := ⟨RX1, "holes", "(I)I"⟩
theorem dX1_holes_0 : decode cX1_holes 0 = .ok (.iload_n 1, 1) := by decide +kernel
theorem dX1_holes_1 : decode cX1_holes 1 = .ok (.invokestatic 16, 3) := by decide +kernel
theorem dX1_holes_4 : decode cX1_holes 4 = .ok (.ifCond .eq 5, 3) := by decide +kernel
theorem dX1_holes_7 : decode cX1_holes 7 = .ok (.iconst (-1), 1) := by decide +kernel
theorem dX1_holes_8 : decode cX1_holes 8 = .ok (.ireturn, 1) := by decide +kernel
theorem dX1_holes_9 : decode cX1_holes 9 = .ok (.aload_n 0, 1) := by decide +kernel
theorem dX1_holes_10 : decode cX1_holes 10 = .ok (.iload_n 1, 1) := by decide +kernel
theorem dX1_holes_11 : decode cX1_holes 11 = .ok (.invokevirtual 45, 3) := by decide +kernel
theorem dX1_holes_14 : decode cX1_holes 14 = .ok (.istore_n 2, 1) := by decide +kernel
theorem dX1_holes_15 : decode cX1_holes 15 = .ok (.iconst 0, 1) := by decide +kernel
theorem dX1_holes_16 : decode cX1_holes 16 = .ok (.istore_n 3, 1) := by decide +kernel
theorem dX1_holes_17 : decode cX1_holes 17 = .ok (.aload_n 0, 1) := by decide +kernel
theorem dX1_holes_18 : decode cX1_holes 18 = .ok (.iload_n 1, 1) := by decide +kernel
theorem dX1_holes_19 : decode cX1_holes 19 = .ok (.invokevirtual 27, 3) := by decide +kernel
theorem dX1_holes_22 : decode cX1_holes 22 = .ok (.istore 4, 2) := by decide +kernel
theorem dX1_holes_24 : decode cX1_holes 24 = .ok (.iconst 0, 1) := by decide +kernel
theorem dX1_holes_25 : decode cX1_holes 25 = .ok (.istore 5, 2) := by decide +kernel
theorem dX1_holes_27 : decode cX1_holes 27 = .ok (.iload 5, 2) := by decide +kernel
theorem dX1_holes_29 : decode cX1_holes 29 = .ok (.iload 4, 2) := by decide +kernel
theorem dX1_holes_31 : decode cX1_holes 31 = .ok (.if_icmp .ge 22, 3) := by decide +kernel
theorem dX1_holes_34 : decode cX1_holes 34 = .ok (.aload_n 0, 1) := by decide +kernel
theorem dX1_holes_35 : decode cX1_holes 35 = .ok (.iload_n 1, 1) := by decide +kernel
theorem dX1_holes_36 : decode cX1_holes 36 = .ok (.iload 5, 2) := by decide +kernel
theorem dX1_holes_38 : decode cX1_holes 38 = .ok (.invokevirtual 42, 3) := by decide +kernel
theorem dX1_holes_41 : decode cX1_holes 41 = .ok (.ifCond .ne 6, 3) := by decide +kernel
theorem dX1_holes_44 : decode cX1_holes 44 = .ok (.iinc 3 1, 3) := by decide +kernel
theorem dX1_holes_47 : decode cX1_holes 47 = .ok (.iinc 5 1, 3) := by decide +kernel
theorem dX1_holes_50 : decode cX1_holes 50 = .ok (.goto (-23), 3) := by decide +kernel
theorem dX1_holes_53 : decode cX1_holes 53 = .ok (.iconst 0, 1) := by decide +kernel
theorem dX1_holes_54 : decode cX1_holes 54 = .ok (.istore 5, 2) := by decide +kernel
theorem dX1_holes_56 : decode cX1_holes 56 = .ok (.iload 5, 2) := by decide +kernel
theorem dX1_holes_58 : decode cX1_holes 58 = .ok (.bipush 10, 2) := by decide +kernel
theorem dX1_holes_60 : decode cX1_holes 60 = .ok (.if_icmp .ge 17, 3) := by decide +kernel
theorem dX1_holes_63 : decode cX1_holes 63 = .ok (.iload_n 2, 1) := by decide +kernel
theorem dX1_holes_64 : decode cX1_holes 64 = .ok (.iload 5, 2) := by decide +kernel
theorem dX1_holes_66 : decode cX1_holes 66 = .ok (.ishl, 1) := by decide +kernel
theorem dX1_holes_67 : decode cX1_holes 67 = .ok (.iload_n 3, 1) := by decide +kernel
theorem dX1_holes_68 : decode cX1_holes 68 = .ok (.if_icmp .ge 9, 3) := by decide +kernel
theorem dX1_holes_71 : decode cX1_holes 71 = .ok (.iinc 5 1, 3) := by decide +kernel
theorem dX1_holes_74 : decode cX1_holes 74 = .ok (.goto (-18), 3) := by decide +kernel
theorem dX1_holes_77 : decode cX1_holes 77 = .ok (.iload 5, 2) := by decide +kernel
theorem dX1_holes_79 : decode cX1_holes 79 = .ok (.ireturn, 1) := by decide +kernel
abbrev cX1_mark : ByteArray := prog_3_method_13_code
def yX1_mark : MethodName := ⟨RX1, "mark", "(I)I"⟩
theorem dX1_mark_0 : decode cX1_mark 0 = .ok (.iconst 0, 1) := by decide +kernel
theorem dX1_mark_1 : decode cX1_mark 1 = .ok (.istore_n 2, 1) := by decide +kernel
theorem dX1_mark_2 : decode cX1_mark 2 = .ok (.aload_n 0, 1) := by decide +kernel
theorem dX1_mark_3 : decode cX1_mark 3 = .ok (.iload_n 1, 1) := by decide +kernel
theorem dX1_mark_4 : decode cX1_mark 4 = .ok (.invokevirtual 27, 3) := by decide +kernel
theorem dX1_mark_7 : decode cX1_mark 7 = .ok (.istore_n 3, 1) := by decide +kernel
theorem dX1_mark_8 : decode cX1_mark 8 = .ok (.aload_n 0, 1) := by decide +kernel
theorem dX1_mark_9 : decode cX1_mark 9 = .ok (.iload_n 1, 1) := by decide +kernel
theorem dX1_mark_10 : decode cX1_mark 10 = .ok (.iconst 1, 1) := by decide +kernel
theorem dX1_mark_11 : decode cX1_mark 11 = .ok (.iadd, 1) := by decide +kernel
theorem dX1_mark_12 : decode cX1_mark 12 = .ok (.invokevirtual 27, 3) := by decide +kernel
theorem dX1_mark_15 : decode cX1_mark 15 = .ok (.istore 4, 2) := by decide +kernel
theorem dX1_mark_17 : decode cX1_mark 17 = .ok (.iconst 0, 1) := by decide +kernel
theorem dX1_mark_18 : decode cX1_mark 18 = .ok (.istore 5, 2) := by decide +kernel
theorem dX1_mark_20 : decode cX1_mark 20 = .ok (.iload 5, 2) := by decide +kernel
theorem dX1_mark_22 : decode cX1_mark 22 = .ok (.iload_n 3, 1) := by decide +kernel
theorem dX1_mark_23 : decode cX1_mark 23 = .ok (.if_icmp .ge 17, 3) := by decide +kernel
theorem dX1_mark_26 : decode cX1_mark 26 = .ok (.aload_n 0, 1) := by decide +kernel
theorem dX1_mark_27 : decode cX1_mark 27 = .ok (.getfield 13, 3) := by decide +kernel
theorem dX1_mark_30 : decode cX1_mark 30 = .ok (.iload 5, 2) := by decide +kernel
theorem dX1_mark_32 : decode cX1_mark 32 = .ok (.iconst 0, 1) := by decide +kernel
theorem dX1_mark_33 : decode cX1_mark 33 = .ok (.bastore, 1) := by decide +kernel
theorem dX1_mark_34 : decode cX1_mark 34 = .ok (.iinc 5 1, 3) := by decide +kernel
theorem dX1_mark_37 : decode cX1_mark 37 = .ok (.goto (-17), 3) := by decide +kernel
theorem dX1_mark_40 : decode cX1_mark 40 = .ok (.iconst 0, 1) := by decide +kernel
theorem dX1_mark_41 : decode cX1_mark 41 = .ok (.istore 5, 2) := by decide +kernel
theorem dX1_mark_43 : decode cX1_mark 43 = .ok (.iload 5, 2) := by decide +kernel
theorem dX1_mark_45 : decode cX1_mark 45 = .ok (.iload 4, 2) := by decide +kernel
theorem dX1_mark_47 : decode cX1_mark 47 = .ok (.if_icmp .ge 41, 3) := by decide +kernel
theorem dX1_mark_50 : decode cX1_mark 50 = .ok (.aload_n 0, 1) := by decide +kernel
theorem dX1_mark_51 : decode cX1_mark 51 = .ok (.iload_n 1, 1) := by decide +kernel
theorem dX1_mark_52 : decode cX1_mark 52 = .ok (.iconst 1, 1) := by decide +kernel
theorem dX1_mark_53 : decode cX1_mark 53 = .ok (.iadd, 1) := by decide +kernel
theorem dX1_mark_54 : decode cX1_mark 54 = .ok (.iload 5, 2) := by decide +kernel
theorem dX1_mark_56 : decode cX1_mark 56 = .ok (.invokevirtual 42, 3) := by decide +kernel
theorem dX1_mark_59 : decode cX1_mark 59 = .ok (.istore 6, 2) := by decide +kernel
theorem dX1_mark_61 : decode cX1_mark 61 = .ok (.aload_n 0, 1) := by decide +kernel
theorem dX1_mark_62 : decode cX1_mark 62 = .ok (.getfield 13, 3) := by decide +kernel
theorem dX1_mark_65 : decode cX1_mark 65 = .ok (.iload 6, 2) := by decide +kernel
theorem dX1_mark_67 : decode cX1_mark 67 = .ok (.baload, 1) := by decide +kernel
theorem dX1_mark_68 : decode cX1_mark 68 = .ok (.ifCond .ne 6, 3) := by decide +kernel
theorem dX1_mark_71 : decode cX1_mark 71 = .ok (.iinc 2 1, 3) := by decide +kernel
theorem dX1_mark_74 : decode cX1_mark 74 = .ok (.aload_n 0, 1) := by decide +kernel
theorem dX1_mark_75 : decode cX1_mark 75 = .ok (.getfield 13, 3) := by decide +kernel
theorem dX1_mark_78 : decode cX1_mark 78 = .ok (.iload 6, 2) := by decide +kernel
theorem dX1_mark_80 : decode cX1_mark 80 = .ok (.iconst 1, 1) := by decide +kernel
theorem dX1_mark_81 : decode cX1_mark 81 = .ok (.bastore, 1) := by decide +kernel
theorem dX1_mark_82 : decode cX1_mark 82 = .ok (.iinc 5 1, 3) := by decide +kernel
theorem dX1_mark_85 : decode cX1_mark 85 = .ok (.goto (-42), 3) := by decide +kernel
theorem dX1_mark_88 : decode cX1_mark 88 = .ok (.iload_n 2, 1) := by decide +kernel
theorem dX1_mark_89 : decode cX1_mark 89 = .ok (.ireturn, 1) := by decide +kernel
abbrev cX1_filled : ByteArray := prog_3_method_15_code
def yX1_filled : MethodName := ⟨RX1, "filled", "(II)I"⟩
theorem dX1_filled_0 : decode cX1_filled 0 = .ok (.aload_n 0, 1) := by decide +kernel
theorem dX1_filled_1 : decode cX1_filled 1 = .ok (.iload_n 1, 1) := by decide +kernel
theorem dX1_filled_2 : decode cX1_filled 2 = .ok (.iload_n 2, 1) := by decide +kernel
theorem dX1_filled_3 : decode cX1_filled 3 = .ok (.invokevirtual 38, 3) := by decide +kernel
theorem dX1_filled_6 : decode cX1_filled 6 = .ok (.ifCond .eq 5, 3) := by decide +kernel
theorem dX1_filled_9 : decode cX1_filled 9 = .ok (.iconst (-1), 1) := by decide +kernel
theorem dX1_filled_10 : decode cX1_filled 10 = .ok (.ireturn, 1) := by decide +kernel
theorem dX1_filled_11 : decode cX1_filled 11 = .ok (.aload_n 0, 1) := by decide +kernel
theorem dX1_filled_12 : decode cX1_filled 12 = .ok (.iload_n 1, 1) := by decide +kernel
theorem dX1_filled_13 : decode cX1_filled 13 = .ok (.invokevirtual 45, 3) := by decide +kernel
theorem dX1_filled_16 : decode cX1_filled 16 = .ok (.pop, 1) := by decide +kernel
theorem dX1_filled_17 : decode cX1_filled 17 = .ok (.aload_n 0, 1) := by decide +kernel
theorem dX1_filled_18 : decode cX1_filled 18 = .ok (.getfield 13, 3) := by decide +kernel
theorem dX1_filled_21 : decode cX1_filled 21 = .ok (.iload_n 2, 1) := by decide +kernel
theorem dX1_filled_22 : decode cX1_filled 22 = .ok (.baload, 1) := by decide +kernel
theorem dX1_filled_23 : decode cX1_filled 23 = .ok (.ifCond .eq 7, 3) := by decide +kernel
theorem dX1_filled_26 : decode cX1_filled 26 = .ok (.iconst 1, 1) := by decide +kernel
theorem dX1_filled_27 : decode cX1_filled 27 = .ok (.goto 4, 3) := by decide +kernel
theorem dX1_filled_30 : decode cX1_filled 30 = .ok (.iconst 0, 1) := by decide +kernel
theorem dX1_filled_31 : decode cX1_filled 31 = .ok (.ireturn, 1) := by decide +kernel
abbrev cX1_filling : ByteArray := prog_3_method_16_code
def yX1_filling : MethodName := ⟨RX1, "filling", "(II)I"⟩
theorem dX1_filling_0 : decode cX1_filling 0 = .ok (.aload_n 0, 1) := by decide +kernel
theorem dX1_filling_1 : decode cX1_filling 1 = .ok (.iload_n 1, 1) := by decide +kernel
theorem dX1_filling_2 : decode cX1_filling 2 = .ok (.iload_n 2, 1) := by decide +kernel
theorem dX1_filling_3 : decode cX1_filling 3 = .ok (.invokevirtual 38, 3) := by decide +kernel
theorem dX1_filling_6 : decode cX1_filling 6 = .ok (.ifCond .eq 5, 3) := by decide +kernel
theorem dX1_filling_9 : decode cX1_filling 9 = .ok (.iconst (-1), 1) := by decide +kernel
theorem dX1_filling_10 : decode cX1_filling 10 = .ok (.ireturn, 1) := by decide +kernel
theorem dX1_filling_11 : decode cX1_filling 11 = .ok (.aload_n 0, 1) := by decide +kernel
theorem dX1_filling_12 : decode cX1_filling 12 = .ok (.iload_n 1, 1) := by decide +kernel
theorem dX1_filling_13 : decode cX1_filling 13 = .ok (.iconst 1, 1) := by decide +kernel
theorem dX1_filling_14 : decode cX1_filling 14 = .ok (.iadd, 1) := by decide +kernel
theorem dX1_filling_15 : decode cX1_filling 15 = .ok (.invokevirtual 27, 3) := by decide +kernel
theorem dX1_filling_18 : decode cX1_filling 18 = .ok (.istore_n 3, 1) := by decide +kernel
theorem dX1_filling_19 : decode cX1_filling 19 = .ok (.iconst 0, 1) := by decide +kernel
theorem dX1_filling_20 : decode cX1_filling 20 = .ok (.istore 4, 2) := by decide +kernel
theorem dX1_filling_22 : decode cX1_filling 22 = .ok (.iload 4, 2) := by decide +kernel
theorem dX1_filling_24 : decode cX1_filling 24 = .ok (.iload_n 3, 1) := by decide +kernel
theorem dX1_filling_25 : decode cX1_filling 25 = .ok (.if_icmp .ge 25, 3) := by decide +kernel
theorem dX1_filling_28 : decode cX1_filling 28 = .ok (.aload_n 0, 1) := by decide +kernel
theorem dX1_filling_29 : decode cX1_filling 29 = .ok (.iload_n 1, 1) := by decide +kernel
theorem dX1_filling_30 : decode cX1_filling 30 = .ok (.iconst 1, 1) := by decide +kernel
theorem dX1_filling_31 : decode cX1_filling 31 = .ok (.iadd, 1) := by decide +kernel
theorem dX1_filling_32 : decode cX1_filling 32 = .ok (.iload 4, 2) := by decide +kernel
theorem dX1_filling_34 : decode cX1_filling 34 = .ok (.invokevirtual 42, 3) := by decide +kernel
theorem dX1_filling_37 : decode cX1_filling 37 = .ok (.iload_n 2, 1) := by decide +kernel
theorem dX1_filling_38 : decode cX1_filling 38 = .ok (.if_icmp .ne 6, 3) := by decide +kernel
theorem dX1_filling_41 : decode cX1_filling 41 = .ok (.iload 4, 2) := by decide +kernel
theorem dX1_filling_43 : decode cX1_filling 43 = .ok (.ireturn, 1) := by decide +kernel
theorem dX1_filling_44 : decode cX1_filling 44 = .ok (.iinc 4 1, 3) := by decide +kernel
theorem dX1_filling_47 : decode cX1_filling 47 = .ok (.goto (-25), 3) := by decide +kernel
theorem dX1_filling_50 : decode cX1_filling 50 = .ok (.bipush (-2), 2) := by decide +kernel
theorem dX1_filling_52 : decode cX1_filling 52 = .ok (.ireturn, 1) := by decide +kernel
abbrev cX1_least : ByteArray := prog_3_method_17_code
def yX1_least : MethodName := ⟨RX1, "least", "(II)I"⟩
theorem dX1_least_0 : decode cX1_least 0 = .ok (.aload_n 0, 1) := by decide +kernel
theorem dX1_least_1 : decode cX1_least 1 = .ok (.iload_n 1, 1) := by decide +kernel
theorem dX1_least_2 : decode cX1_least 2 = .ok (.iload_n 2, 1) := by decide +kernel
theorem dX1_least_3 : decode cX1_least 3 = .ok (.invokevirtual 38, 3) := by decide +kernel
theorem dX1_least_6 : decode cX1_least 6 = .ok (.ifCond .eq 5, 3) := by decide +kernel
theorem dX1_least_9 : decode cX1_least 9 = .ok (.iconst (-1), 1) := by decide +kernel
theorem dX1_least_10 : decode cX1_least 10 = .ok (.ireturn, 1) := by decide +kernel
theorem dX1_least_11 : decode cX1_least 11 = .ok (.aload_n 0, 1) := by decide +kernel
theorem dX1_least_12 : decode cX1_least 12 = .ok (.iload_n 1, 1) := by decide +kernel
theorem dX1_least_13 : decode cX1_least 13 = .ok (.invokevirtual 45, 3) := by decide +kernel
theorem dX1_least_16 : decode cX1_least 16 = .ok (.pop, 1) := by decide +kernel
theorem dX1_least_17 : decode cX1_least 17 = .ok (.aload_n 0, 1) := by decide +kernel
theorem dX1_least_18 : decode cX1_least 18 = .ok (.iload_n 1, 1) := by decide +kernel
theorem dX1_least_19 : decode cX1_least 19 = .ok (.invokevirtual 27, 3) := by decide +kernel
theorem dX1_least_22 : decode cX1_least 22 = .ok (.istore_n 3, 1) := by decide +kernel
theorem dX1_least_23 : decode cX1_least 23 = .ok (.iconst 0, 1) := by decide +kernel
theorem dX1_least_24 : decode cX1_least 24 = .ok (.istore 4, 2) := by decide +kernel
theorem dX1_least_26 : decode cX1_least 26 = .ok (.iload 4, 2) := by decide +kernel
theorem dX1_least_28 : decode cX1_least 28 = .ok (.iload_n 3, 1) := by decide +kernel
theorem dX1_least_29 : decode cX1_least 29 = .ok (.if_icmp .ge 24, 3) := by decide +kernel
theorem dX1_least_32 : decode cX1_least 32 = .ok (.aload_n 0, 1) := by decide +kernel
theorem dX1_least_33 : decode cX1_least 33 = .ok (.getfield 13, 3) := by decide +kernel
theorem dX1_least_36 : decode cX1_least 36 = .ok (.iload 4, 2) := by decide +kernel
theorem dX1_least_38 : decode cX1_least 38 = .ok (.iload_n 2, 1) := by decide +kernel
theorem dX1_least_39 : decode cX1_least 39 = .ok (.ixor, 1) := by decide +kernel
theorem dX1_least_40 : decode cX1_least 40 = .ok (.baload, 1) := by decide +kernel
theorem dX1_least_41 : decode cX1_least 41 = .ok (.ifCond .eq 6, 3) := by decide +kernel
theorem dX1_least_44 : decode cX1_least 44 = .ok (.iload 4, 2) := by decide +kernel
theorem dX1_least_46 : decode cX1_least 46 = .ok (.ireturn, 1) := by decide +kernel
theorem dX1_least_47 : decode cX1_least 47 = .ok (.iinc 4 1, 3) := by decide +kernel
theorem dX1_least_50 : decode cX1_least 50 = .ok (.goto (-24), 3) := by decide +kernel
theorem dX1_least_53 : decode cX1_least 53 = .ok (.iload_n 2, 1) := by decide +kernel
theorem dX1_least_54 : decode cX1_least 54 = .ok (.ireturn, 1) := by decide +kernel
abbrev cX1_alternating : ByteArray := prog_3_method_18_code
def yX1_alternating : MethodName := ⟨RX1, "alternating", "()I"⟩
theorem dX1_alternating_0 : decode cX1_alternating 0 = .ok (.iconst 0, 1) := by decide +kernel
theorem dX1_alternating_1 : decode cX1_alternating 1 = .ok (.istore_n 1, 1) := by decide +kernel
theorem dX1_alternating_2 : decode cX1_alternating 2 = .ok (.iconst 1, 1) := by decide +kernel
theorem dX1_alternating_3 : decode cX1_alternating 3 = .ok (.istore_n 2, 1) := by decide +kernel
theorem dX1_alternating_4 : decode cX1_alternating 4 = .ok (.iload_n 2, 1) := by decide +kernel
theorem dX1_alternating_5 : decode cX1_alternating 5 = .ok (.bipush 32, 2) := by decide +kernel
theorem dX1_alternating_7 : decode cX1_alternating 7 = .ok (.if_icmp .ge 36, 3) := by decide +kernel
theorem dX1_alternating_10 : decode cX1_alternating 10 = .ok (.aload_n 0, 1) := by decide +kernel
theorem dX1_alternating_11 : decode cX1_alternating 11 = .ok (.getfield 7, 3) := by decide +kernel
theorem dX1_alternating_14 : decode cX1_alternating 14 = .ok (.iload_n 2, 1) := by decide +kernel
theorem dX1_alternating_15 : decode cX1_alternating 15 = .ok (.baload, 1) := by decide +kernel
theorem dX1_alternating_16 : decode cX1_alternating 16 = .ok (.ifCond .eq 21, 3) := by decide +kernel
theorem dX1_alternating_19 : decode cX1_alternating 19 = .ok (.iload_n 1, 1) := by decide +kernel
theorem dX1_alternating_20 : decode cX1_alternating 20 = .ok (.iload_n 2, 1) := by decide +kernel
theorem dX1_alternating_21 : decode cX1_alternating 21 = .ok (.invokestatic 20, 3) := by decide +kernel
theorem dX1_alternating_24 : decode cX1_alternating 24 = .ok (.iconst 2, 1) := by decide +kernel
theorem dX1_alternating_25 : decode cX1_alternating 25 = .ok (.irem, 1) := by decide +kernel
theorem dX1_alternating_26 : decode cX1_alternating 26 = .ok (.iconst 1, 1) := by decide +kernel
theorem dX1_alternating_27 : decode cX1_alternating 27 = .ok (.if_icmp .ne 7, 3) := by decide +kernel
theorem dX1_alternating_30 : decode cX1_alternating 30 = .ok (.iconst 1, 1) := by decide +kernel
theorem dX1_alternating_31 : decode cX1_alternating 31 = .ok (.goto 4, 3) := by decide +kernel
theorem dX1_alternating_34 : decode cX1_alternating 34 = .ok (.iconst (-1), 1) := by decide +kernel
theorem dX1_alternating_35 : decode cX1_alternating 35 = .ok (.iadd, 1) := by decide +kernel
theorem dX1_alternating_36 : decode cX1_alternating 36 = .ok (.istore_n 1, 1) := by decide +kernel
theorem dX1_alternating_37 : decode cX1_alternating 37 = .ok (.iinc 2 1, 3) := by decide +kernel
theorem dX1_alternating_40 : decode cX1_alternating 40 = .ok (.goto (-36), 3) := by decide +kernel
theorem dX1_alternating_43 : decode cX1_alternating 43 = .ok (.iload_n 1, 1) := by decide +kernel
theorem dX1_alternating_44 : decode cX1_alternating 44 = .ok (.ireturn, 1) := by decide +kernel
theorem q16 : (Jvm.Cond.initialized "ChainDeskModel") ∈ lw_all := lw_g (lw_at lw_m0 2 rfl) rfl
theorem q135 : (Jvm.Cond.instantiable "ChainDeskModel" (2 : Nat)) ∈ lw_all := lw_g (lw_at lw_m0 121 rfl) rfl
theorem q137 : (Jvm.Cond.instanceMethod ({ cls := "ChainDeskModel", name := "<init>", desc := "()V" } : Jvm.MethodName)) ∈ lw_all := lw_g (lw_at lw_m0 123 rfl) rfl
theorem q138 : (Jvm.Cond.code ({ cls := "ChainDeskModel", name := "<init>", desc := "()V" } : Jvm.MethodName) prog_3_method_1_code (1 : Nat) (Option.none : Option Jvm.ClassFile.FieldType)) ∈ lw_all := lw_g (lw_at lw_m0 124 rfl) rfl
theorem q139 : (Jvm.Cond.methodLink "ChainDeskModel" (1 : Nat) ({ cls := "java/lang/Object", name := "<init>", desc := "()V" } : Jvm.MethodName)) ∈ lw_all := lw_g (lw_at lw_m0 125 rfl) rfl
theorem q140 : (Jvm.Cond.fieldLink "ChainDeskModel" (7 : Nat) "ChainDeskModel" "held" "[Z") ∈ lw_all := lw_g (lw_at lw_m0 126 rfl) rfl
theorem q141 : (Jvm.Cond.fieldLink "ChainDeskModel" (13 : Nat) "ChainDeskModel" "marked" "[Z") ∈ lw_all := lw_g (lw_at lw_m0 127 rfl) rfl
theorem q142 : (Jvm.Cond.laysFinal "ChainDeskModel" "ChainDeskModel" "held" "[Z") ∈ lw_all := lw_g (lw_at lw_m0 128 rfl) rfl
theorem q143 : (Jvm.Cond.soleField "ChainDeskModel" "held") ∈ lw_all := lw_g (lw_at lw_m0 129 rfl) rfl
theorem q144 : (Jvm.Cond.laysFinal "ChainDeskModel" "ChainDeskModel" "marked" "[Z") ∈ lw_all := lw_g (lw_at lw_m0 130 rfl) rfl
theorem q145 : (Jvm.Cond.soleField "ChainDeskModel" "marked") ∈ lw_all := lw_g (lw_at lw_m0 131 rfl) rfl
theorem q146 : (Jvm.Cond.superclass "ChainDeskModel" "java/lang/Object") ∈ lw_all := lw_g (lw_at lw_m0 132 rfl) rfl
theorem q148 : (Jvm.Cond.instanceMethod ({ cls := "ChainDeskModel", name := "add", desc := "(I)I" } : Jvm.MethodName)) ∈ lw_all := lw_g (lw_at lw_m0 134 rfl) rfl
theorem q149 : (Jvm.Cond.selects "ChainDeskModel" ({ cls := "ChainDeskModel", name := "add", desc := "(I)I" } : Jvm.MethodName) ({ cls := "ChainDeskModel", name := "add", desc := "(I)I" } : Jvm.MethodName)) ∈ lw_all := lw_g (lw_at lw_m0 135 rfl) rfl
theorem q150 : (Jvm.Cond.code ({ cls := "ChainDeskModel", name := "add", desc := "(I)I" } : Jvm.MethodName) prog_3_method_3_code (4 : Nat) (Option.some Jvm.ClassFile.FieldType.int)) ∈ lw_all := lw_g (lw_at lw_m0 136 rfl) rfl
theorem q152 : (Jvm.Cond.instanceMethod ({ cls := "ChainDeskModel", name := "remove", desc := "(I)I" } : Jvm.MethodName)) ∈ lw_all := lw_g (lw_at lw_m0 138 rfl) rfl
theorem q153 : (Jvm.Cond.selects "ChainDeskModel" ({ cls := "ChainDeskModel", name := "remove", desc := "(I)I" } : Jvm.MethodName) ({ cls := "ChainDeskModel", name := "remove", desc := "(I)I" } : Jvm.MethodName)) ∈ lw_all := lw_g (lw_at lw_m0 139 rfl) rfl
theorem q154 : (Jvm.Cond.code ({ cls := "ChainDeskModel", name := "remove", desc := "(I)I" } : Jvm.MethodName) prog_3_method_4_code (4 : Nat) (Option.some Jvm.ClassFile.FieldType.int)) ∈ lw_all := lw_g (lw_at lw_m0 140 rfl) rfl
theorem q156 : (Jvm.Cond.instanceMethod ({ cls := "ChainDeskModel", name := "count", desc := "(I)I" } : Jvm.MethodName)) ∈ lw_all := lw_g (lw_at lw_m0 142 rfl) rfl
theorem q157 : (Jvm.Cond.selects "ChainDeskModel" ({ cls := "ChainDeskModel", name := "count", desc := "(I)I" } : Jvm.MethodName) ({ cls := "ChainDeskModel", name := "count", desc := "(I)I" } : Jvm.MethodName)) ∈ lw_all := lw_g (lw_at lw_m0 143 rfl) rfl
theorem q158 : (Jvm.Cond.code ({ cls := "ChainDeskModel", name := "count", desc := "(I)I" } : Jvm.MethodName) prog_3_method_6_code (4 : Nat) (Option.some Jvm.ClassFile.FieldType.int)) ∈ lw_all := lw_g (lw_at lw_m0 144 rfl) rfl
theorem q159 : (Jvm.Cond.methodLink "ChainDeskModel" (16 : Nat) ({ cls := "ChainDeskModel", name := "bad", desc := "(I)Z" } : Jvm.MethodName)) ∈ lw_all := lw_g (lw_at lw_m0 145 rfl) rfl
theorem q160 : (Jvm.Cond.static ({ cls := "ChainDeskModel", name := "bad", desc := "(I)Z" } : Jvm.MethodName)) ∈ lw_all := lw_g (lw_at lw_m0 146 rfl) rfl
theorem q161 : (Jvm.Cond.code ({ cls := "ChainDeskModel", name := "bad", desc := "(I)Z" } : Jvm.MethodName) prog_3_method_5_code (1 : Nat) (Option.some Jvm.ClassFile.FieldType.boolean)) ∈ lw_all := lw_g (lw_at lw_m0 147 rfl) rfl
theorem q162 : (Jvm.Cond.methodLink "ChainDeskModel" (20 : Nat) ({ cls := "ChainDeskModel", name := "points", desc := "(I)I" } : Jvm.MethodName)) ∈ lw_all := lw_g (lw_at lw_m0 148 rfl) rfl
theorem q163 : (Jvm.Cond.static ({ cls := "ChainDeskModel", name := "points", desc := "(I)I" } : Jvm.MethodName)) ∈ lw_all := lw_g (lw_at lw_m0 149 rfl) rfl
theorem q164 : (Jvm.Cond.code ({ cls := "ChainDeskModel", name := "points", desc := "(I)I" } : Jvm.MethodName) prog_3_method_2_code (3 : Nat) (Option.some Jvm.ClassFile.FieldType.int)) ∈ lw_all := lw_g (lw_at lw_m0 150 rfl) rfl
theorem q166 : (Jvm.Cond.instanceMethod ({ cls := "ChainDeskModel", name := "simplex", desc := "(II)I" } : Jvm.MethodName)) ∈ lw_all := lw_g (lw_at lw_m0 152 rfl) rfl
theorem q167 : (Jvm.Cond.selects "ChainDeskModel" ({ cls := "ChainDeskModel", name := "simplex", desc := "(II)I" } : Jvm.MethodName) ({ cls := "ChainDeskModel", name := "simplex", desc := "(II)I" } : Jvm.MethodName)) ∈ lw_all := lw_g (lw_at lw_m0 153 rfl) rfl
theorem q168 : (Jvm.Cond.code ({ cls := "ChainDeskModel", name := "simplex", desc := "(II)I" } : Jvm.MethodName) prog_3_method_7_code (5 : Nat) (Option.some Jvm.ClassFile.FieldType.int)) ∈ lw_all := lw_g (lw_at lw_m0 154 rfl) rfl
theorem q170 : (Jvm.Cond.instanceMethod ({ cls := "ChainDeskModel", name := "boundary", desc := "(II)I" } : Jvm.MethodName)) ∈ lw_all := lw_g (lw_at lw_m0 156 rfl) rfl
theorem q171 : (Jvm.Cond.selects "ChainDeskModel" ({ cls := "ChainDeskModel", name := "boundary", desc := "(II)I" } : Jvm.MethodName) ({ cls := "ChainDeskModel", name := "boundary", desc := "(II)I" } : Jvm.MethodName)) ∈ lw_all := lw_g (lw_at lw_m0 157 rfl) rfl
theorem q172 : (Jvm.Cond.code ({ cls := "ChainDeskModel", name := "boundary", desc := "(II)I" } : Jvm.MethodName) prog_3_method_12_code (3 : Nat) (Option.some Jvm.ClassFile.FieldType.int)) ∈ lw_all := lw_g (lw_at lw_m0 158 rfl) rfl
theorem q173 : (Jvm.Cond.methodLink "ChainDeskModel" (38 : Nat) ({ cls := "ChainDeskModel", name := "noChain", desc := "(II)Z" } : Jvm.MethodName)) ∈ lw_all := lw_g (lw_at lw_m0 159 rfl) rfl
theorem q174 : (Jvm.Cond.privateMethod ({ cls := "ChainDeskModel", name := "noChain", desc := "(II)Z" } : Jvm.MethodName)) ∈ lw_tbl := lw_at lw_m0 160 rfl
theorem q175 : (Jvm.Cond.instanceMethod ({ cls := "ChainDeskModel", name := "noChain", desc := "(II)Z" } : Jvm.MethodName)) ∈ lw_all := lw_g (lw_at lw_m0 161 rfl) rfl
theorem q176 : (Jvm.Cond.code ({ cls := "ChainDeskModel", name := "noChain", desc := "(II)Z" } : Jvm.MethodName) prog_3_method_9_code (3 : Nat) (Option.some Jvm.ClassFile.FieldType.boolean)) ∈ lw_all := lw_g (lw_at lw_m0 162 rfl) rfl
theorem q177 : (Jvm.Cond.methodLink "ChainDeskModel" (27 : Nat) ({ cls := "ChainDeskModel", name := "chains", desc := "(I)I" } : Jvm.MethodName)) ∈ lw_all := lw_g (lw_at lw_m0 163 rfl) rfl
theorem q178 : (Jvm.Cond.privateMethod ({ cls := "ChainDeskModel", name := "chains", desc := "(I)I" } : Jvm.MethodName)) ∈ lw_tbl := lw_at lw_m0 164 rfl
theorem q179 : (Jvm.Cond.instanceMethod ({ cls := "ChainDeskModel", name := "chains", desc := "(I)I" } : Jvm.MethodName)) ∈ lw_all := lw_g (lw_at lw_m0 165 rfl) rfl
theorem q180 : (Jvm.Cond.code ({ cls := "ChainDeskModel", name := "chains", desc := "(I)I" } : Jvm.MethodName) prog_3_method_8_code (3 : Nat) (Option.some Jvm.ClassFile.FieldType.int)) ∈ lw_all := lw_g (lw_at lw_m0 166 rfl) rfl
theorem q181 : (Jvm.Cond.methodLink "ChainDeskModel" (24 : Nat) ({ cls := "ChainDeskModel", name := "count", desc := "(I)I" } : Jvm.MethodName)) ∈ lw_all := lw_g (lw_at lw_m0 167 rfl) rfl
theorem q182 : (Jvm.Cond.methodLink "ChainDeskModel" (42 : Nat) ({ cls := "ChainDeskModel", name := "boundaryOf", desc := "(II)I" } : Jvm.MethodName)) ∈ lw_all := lw_g (lw_at lw_m0 168 rfl) rfl
theorem q183 : (Jvm.Cond.privateMethod ({ cls := "ChainDeskModel", name := "boundaryOf", desc := "(II)I" } : Jvm.MethodName)) ∈ lw_tbl := lw_at lw_m0 169 rfl
theorem q184 : (Jvm.Cond.instanceMethod ({ cls := "ChainDeskModel", name := "boundaryOf", desc := "(II)I" } : Jvm.MethodName)) ∈ lw_all := lw_g (lw_at lw_m0 170 rfl) rfl
theorem q185 : (Jvm.Cond.code ({ cls := "ChainDeskModel", name := "boundaryOf", desc := "(II)I" } : Jvm.MethodName) prog_3_method_11_code (7 : Nat) (Option.some Jvm.ClassFile.FieldType.int)) ∈ lw_all := lw_g (lw_at lw_m0 171 rfl) rfl
theorem q186 : (Jvm.Cond.methodLink "ChainDeskModel" (30 : Nat) ({ cls := "ChainDeskModel", name := "simplex", desc := "(II)I" } : Jvm.MethodName)) ∈ lw_all := lw_g (lw_at lw_m0 172 rfl) rfl
theorem q187 : (Jvm.Cond.methodLink "ChainDeskModel" (34 : Nat) ({ cls := "ChainDeskModel", name := "odd", desc := "(III)Z" } : Jvm.MethodName)) ∈ lw_all := lw_g (lw_at lw_m0 173 rfl) rfl
theorem q188 : (Jvm.Cond.privateMethod ({ cls := "ChainDeskModel", name := "odd", desc := "(III)Z" } : Jvm.MethodName)) ∈ lw_tbl := lw_at lw_m0 174 rfl
theorem q189 : (Jvm.Cond.instanceMethod ({ cls := "ChainDeskModel", name := "odd", desc := "(III)Z" } : Jvm.MethodName)) ∈ lw_all := lw_g (lw_at lw_m0 175 rfl) rfl
theorem q190 : (Jvm.Cond.code ({ cls := "ChainDeskModel", name := "odd", desc := "(III)Z" } : Jvm.MethodName) prog_3_method_10_code (8 : Nat) (Option.some Jvm.ClassFile.FieldType.boolean)) ∈ lw_all := lw_g (lw_at lw_m0 176 rfl) rfl
theorem q192 : (Jvm.Cond.instanceMethod ({ cls := "ChainDeskModel", name := "holes", desc := "(I)I" } : Jvm.MethodName)) ∈ lw_all := lw_g (lw_at lw_m0 178 rfl) rfl
theorem q193 : (Jvm.Cond.selects "ChainDeskModel" ({ cls := "ChainDeskModel", name := "holes", desc := "(I)I" } : Jvm.MethodName) ({ cls := "ChainDeskModel", name := "holes", desc := "(I)I" } : Jvm.MethodName)) ∈ lw_all := lw_g (lw_at lw_m0 179 rfl) rfl
theorem q194 : (Jvm.Cond.code ({ cls := "ChainDeskModel", name := "holes", desc := "(I)I" } : Jvm.MethodName) prog_3_method_14_code (6 : Nat) (Option.some Jvm.ClassFile.FieldType.int)) ∈ lw_all := lw_g (lw_at lw_m0 180 rfl) rfl
theorem q195 : (Jvm.Cond.methodLink "ChainDeskModel" (45 : Nat) ({ cls := "ChainDeskModel", name := "mark", desc := "(I)I" } : Jvm.MethodName)) ∈ lw_all := lw_g (lw_at lw_m0 181 rfl) rfl
theorem q196 : (Jvm.Cond.privateMethod ({ cls := "ChainDeskModel", name := "mark", desc := "(I)I" } : Jvm.MethodName)) ∈ lw_tbl := lw_at lw_m0 182 rfl
theorem q197 : (Jvm.Cond.instanceMethod ({ cls := "ChainDeskModel", name := "mark", desc := "(I)I" } : Jvm.MethodName)) ∈ lw_all := lw_g (lw_at lw_m0 183 rfl) rfl
theorem q198 : (Jvm.Cond.code ({ cls := "ChainDeskModel", name := "mark", desc := "(I)I" } : Jvm.MethodName) prog_3_method_13_code (7 : Nat) (Option.some Jvm.ClassFile.FieldType.int)) ∈ lw_all := lw_g (lw_at lw_m0 184 rfl) rfl
theorem q200 : (Jvm.Cond.instanceMethod ({ cls := "ChainDeskModel", name := "filled", desc := "(II)I" } : Jvm.MethodName)) ∈ lw_all := lw_g (lw_at lw_m0 186 rfl) rfl
theorem q201 : (Jvm.Cond.selects "ChainDeskModel" ({ cls := "ChainDeskModel", name := "filled", desc := "(II)I" } : Jvm.MethodName) ({ cls := "ChainDeskModel", name := "filled", desc := "(II)I" } : Jvm.MethodName)) ∈ lw_all := lw_g (lw_at lw_m0 187 rfl) rfl
theorem q202 : (Jvm.Cond.code ({ cls := "ChainDeskModel", name := "filled", desc := "(II)I" } : Jvm.MethodName) prog_3_method_15_code (3 : Nat) (Option.some Jvm.ClassFile.FieldType.int)) ∈ lw_all := lw_g (lw_at lw_m0 188 rfl) rfl
theorem q204 : (Jvm.Cond.instanceMethod ({ cls := "ChainDeskModel", name := "filling", desc := "(II)I" } : Jvm.MethodName)) ∈ lw_all := lw_g (lw_at lw_m0 190 rfl) rfl
theorem q205 : (Jvm.Cond.selects "ChainDeskModel" ({ cls := "ChainDeskModel", name := "filling", desc := "(II)I" } : Jvm.MethodName) ({ cls := "ChainDeskModel", name := "filling", desc := "(II)I" } : Jvm.MethodName)) ∈ lw_all := lw_g (lw_at lw_m0 191 rfl) rfl
theorem q206 : (Jvm.Cond.code ({ cls := "ChainDeskModel", name := "filling", desc := "(II)I" } : Jvm.MethodName) prog_3_method_16_code (5 : Nat) (Option.some Jvm.ClassFile.FieldType.int)) ∈ lw_all := lw_g (lw_at lw_m0 192 rfl) rfl
theorem q208 : (Jvm.Cond.instanceMethod ({ cls := "ChainDeskModel", name := "least", desc := "(II)I" } : Jvm.MethodName)) ∈ lw_all := lw_g (lw_at lw_m0 194 rfl) rfl
theorem q209 : (Jvm.Cond.selects "ChainDeskModel" ({ cls := "ChainDeskModel", name := "least", desc := "(II)I" } : Jvm.MethodName) ({ cls := "ChainDeskModel", name := "least", desc := "(II)I" } : Jvm.MethodName)) ∈ lw_all := lw_g (lw_at lw_m0 195 rfl) rfl
theorem q210 : (Jvm.Cond.code ({ cls := "ChainDeskModel", name := "least", desc := "(II)I" } : Jvm.MethodName) prog_3_method_17_code (5 : Nat) (Option.some Jvm.ClassFile.FieldType.int)) ∈ lw_all := lw_g (lw_at lw_m0 196 rfl) rfl
theorem q212 : (Jvm.Cond.instanceMethod ({ cls := "ChainDeskModel", name := "alternating", desc := "()I" } : Jvm.MethodName)) ∈ lw_all := lw_g (lw_at lw_m0 198 rfl) rfl
theorem q213 : (Jvm.Cond.selects "ChainDeskModel" ({ cls := "ChainDeskModel", name := "alternating", desc := "()I" } : Jvm.MethodName) ({ cls := "ChainDeskModel", name := "alternating", desc := "()I" } : Jvm.MethodName)) ∈ lw_all := lw_g (lw_at lw_m0 199 rfl) rfl
theorem q214 : (Jvm.Cond.code ({ cls := "ChainDeskModel", name := "alternating", desc := "()I" } : Jvm.MethodName) prog_3_method_18_code (3 : Nat) (Option.some Jvm.ClassFile.FieldType.int)) ∈ lw_all := lw_g (lw_at lw_m0 200 rfl) rfl
theorem in_X1 : ∀ w ∈ wsX10, w ∈ lw_all := lw_in wsX10 [142, 144] (by decide +kernel) (by decide +kernel)
end
section
set_option maxRecDepth 100000
/-! java/lang/Object -/
def RJ0 : String := "java/lang/Object"
abbrev cJ0_init : ByteArray := object_method_1_code
def yJ0_init : MethodName := ⟨RJ0, "<init>", "()V"⟩
theorem dJ0_init_0 : decode cJ0_init 0 = .ok (.return_, 1) := by decide +kernel
theorem q23 : (Jvm.Cond.instanceMethod ({ cls := "java/lang/Object", name := "<init>", desc := "()V" } : Jvm.MethodName)) ∈ lw_all := lw_g (lw_at lw_m0 9 rfl) rfl
theorem q24 : (Jvm.Cond.code ({ cls := "java/lang/Object", name := "<init>", desc := "()V" } : Jvm.MethodName) object_method_1_code (1 : Nat) (Option.none : Option Jvm.ClassFile.FieldType)) ∈ lw_all := lw_g (lw_at lw_m0 10 rfl) rfl
theorem q47 : (Jvm.Cond.arrayClass Jvm.ClassFile.FieldType.boolean) ∈ lw_all := lw_g (lw_at lw_m0 33 rfl) rfl
theorem q48 : (Jvm.Cond.arrayClass Jvm.ClassFile.FieldType.int) ∈ lw_all := lw_g (lw_at lw_m0 34 rfl) rfl
theorem q14 : (Jvm.Cond.initialized "ChainDeskLaw") ∈ lw_all := lw_g (lw_at lw_m0 0 rfl) rfl
theorem q17 : (Jvm.Cond.classLink "ChainDeskLaw" (7 : Nat) "ChainDesk") ∈ lw_all := lw_g (lw_at lw_m0 3 rfl) rfl
theorem q19 : (Jvm.Cond.methodLink "ChainDeskLaw" (9 : Nat) ({ cls := "ChainDesk", name := "<init>", desc := "()V" } : Jvm.MethodName)) ∈ lw_all := lw_g (lw_at lw_m0 5 rfl) rfl
theorem q49 : (Jvm.Cond.methodLink "ChainDeskLaw" (13 : Nat) ({ cls := "ChainDesk", name := "add", desc := "(I)I" } : Jvm.MethodName)) ∈ lw_all := lw_g (lw_at lw_m0 35 rfl) rfl
theorem q53 : (Jvm.Cond.methodLink "ChainDeskLaw" (18 : Nat) ({ cls := "ChainDesk", name := "remove", desc := "(I)I" } : Jvm.MethodName)) ∈ lw_all := lw_g (lw_at lw_m0 39 rfl) rfl
theorem q57 : (Jvm.Cond.methodLink "ChainDeskLaw" (22 : Nat) ({ cls := "ChainDesk", name := "count", desc := "(I)I" } : Jvm.MethodName)) ∈ lw_all := lw_g (lw_at lw_m0 43 rfl) rfl
theorem q71 : (Jvm.Cond.methodLink "ChainDeskLaw" (26 : Nat) ({ cls := "ChainDesk", name := "simplex", desc := "(II)I" } : Jvm.MethodName)) ∈ lw_all := lw_g (lw_at lw_m0 57 rfl) rfl
theorem q79 : (Jvm.Cond.methodLink "ChainDeskLaw" (31 : Nat) ({ cls := "ChainDesk", name := "boundary", desc := "(II)I" } : Jvm.MethodName)) ∈ lw_all := lw_g (lw_at lw_m0 65 rfl) rfl
theorem q99 : (Jvm.Cond.methodLink "ChainDeskLaw" (35 : Nat) ({ cls := "ChainDesk", name := "holes", desc := "(I)I" } : Jvm.MethodName)) ∈ lw_all := lw_g (lw_at lw_m0 85 rfl) rfl
theorem q118 : (Jvm.Cond.methodLink "ChainDeskLaw" (39 : Nat) ({ cls := "ChainDesk", name := "filled", desc := "(II)I" } : Jvm.MethodName)) ∈ lw_all := lw_g (lw_at lw_m0 104 rfl) rfl
theorem q122 : (Jvm.Cond.methodLink "ChainDeskLaw" (43 : Nat) ({ cls := "ChainDesk", name := "filling", desc := "(II)I" } : Jvm.MethodName)) ∈ lw_all := lw_g (lw_at lw_m0 108 rfl) rfl
theorem q126 : (Jvm.Cond.methodLink "ChainDeskLaw" (47 : Nat) ({ cls := "ChainDesk", name := "least", desc := "(II)I" } : Jvm.MethodName)) ∈ lw_all := lw_g (lw_at lw_m0 112 rfl) rfl
theorem q130 : (Jvm.Cond.methodLink "ChainDeskLaw" (51 : Nat) ({ cls := "ChainDesk", name := "alternating", desc := "()I" } : Jvm.MethodName)) ∈ lw_all := lw_g (lw_at lw_m0 116 rfl) rfl
theorem q134 : (Jvm.Cond.classLink "ChainDeskLaw" (10 : Nat) "ChainDeskModel") ∈ lw_all := lw_g (lw_at lw_m0 120 rfl) rfl
theorem q136 : (Jvm.Cond.methodLink "ChainDeskLaw" (12 : Nat) ({ cls := "ChainDeskModel", name := "<init>", desc := "()V" } : Jvm.MethodName)) ∈ lw_all := lw_g (lw_at lw_m0 122 rfl) rfl
theorem q147 : (Jvm.Cond.methodLink "ChainDeskLaw" (17 : Nat) ({ cls := "ChainDeskModel", name := "add", desc := "(I)I" } : Jvm.MethodName)) ∈ lw_all := lw_g (lw_at lw_m0 133 rfl) rfl
theorem q151 : (Jvm.Cond.methodLink "ChainDeskLaw" (21 : Nat) ({ cls := "ChainDeskModel", name := "remove", desc := "(I)I" } : Jvm.MethodName)) ∈ lw_all := lw_g (lw_at lw_m0 137 rfl) rfl
theorem q155 : (Jvm.Cond.methodLink "ChainDeskLaw" (25 : Nat) ({ cls := "ChainDeskModel", name := "count", desc := "(I)I" } : Jvm.MethodName)) ∈ lw_all := lw_g (lw_at lw_m0 141 rfl) rfl
theorem q165 : (Jvm.Cond.methodLink "ChainDeskLaw" (30 : Nat) ({ cls := "ChainDeskModel", name := "simplex", desc := "(II)I" } : Jvm.MethodName)) ∈ lw_all := lw_g (lw_at lw_m0 151 rfl) rfl
theorem q169 : (Jvm.Cond.methodLink "ChainDeskLaw" (34 : Nat) ({ cls := "ChainDeskModel", name := "boundary", desc := "(II)I" } : Jvm.MethodName)) ∈ lw_all := lw_g (lw_at lw_m0 155 rfl) rfl
theorem q191 : (Jvm.Cond.methodLink "ChainDeskLaw" (38 : Nat) ({ cls := "ChainDeskModel", name := "holes", desc := "(I)I" } : Jvm.MethodName)) ∈ lw_all := lw_g (lw_at lw_m0 177 rfl) rfl
theorem q199 : (Jvm.Cond.methodLink "ChainDeskLaw" (42 : Nat) ({ cls := "ChainDeskModel", name := "filled", desc := "(II)I" } : Jvm.MethodName)) ∈ lw_all := lw_g (lw_at lw_m0 185 rfl) rfl
theorem q203 : (Jvm.Cond.methodLink "ChainDeskLaw" (46 : Nat) ({ cls := "ChainDeskModel", name := "filling", desc := "(II)I" } : Jvm.MethodName)) ∈ lw_all := lw_g (lw_at lw_m0 189 rfl) rfl
theorem q207 : (Jvm.Cond.methodLink "ChainDeskLaw" (50 : Nat) ({ cls := "ChainDeskModel", name := "least", desc := "(II)I" } : Jvm.MethodName)) ∈ lw_all := lw_g (lw_at lw_m0 193 rfl) rfl
theorem q211 : (Jvm.Cond.methodLink "ChainDeskLaw" (55 : Nat) ({ cls := "ChainDeskModel", name := "alternating", desc := "()I" } : Jvm.MethodName)) ∈ lw_all := lw_g (lw_at lw_m0 197 rfl) rfl
/-! the law's own entry -/
abbrev cL_law : ByteArray := code
theorem dL_law_0 : decode cL_law 0 = .ok (.new 7, 3) := by decide +kernel
theorem dL_law_3 : decode cL_law 3 = .ok (.dup, 1) := by decide +kernel
theorem dL_law_4 : decode cL_law 4 = .ok (.invokespecial 9, 3) := by decide +kernel
theorem dL_law_7 : decode cL_law 7 = .ok (.astore_n 1, 1) := by decide +kernel
theorem dL_law_8 : decode cL_law 8 = .ok (.new 10, 3) := by decide +kernel
theorem dL_law_11 : decode cL_law 11 = .ok (.dup, 1) := by decide +kernel
theorem dL_law_12 : decode cL_law 12 = .ok (.invokespecial 12, 3) := by decide +kernel
theorem dL_law_15 : decode cL_law 15 = .ok (.astore_n 2, 1) := by decide +kernel
theorem dL_law_16 : decode cL_law 16 = .ok (.iconst 0, 1) := by decide +kernel
theorem dL_law_17 : decode cL_law 17 = .ok (.istore_n 3, 1) := by decide +kernel
theorem dL_law_18 : decode cL_law 18 = .ok (.iload_n 3, 1) := by decide +kernel
theorem dL_law_19 : decode cL_law 19 = .ok (.aload_n 0, 1) := by decide +kernel
theorem dL_law_20 : decode cL_law 20 = .ok (.arraylength, 1) := by decide +kernel
theorem dL_law_21 : decode cL_law 21 = .ok (.iconst 3, 1) := by decide +kernel
theorem dL_law_22 : decode cL_law 22 = .ok (.isub, 1) := by decide +kernel
theorem dL_law_23 : decode cL_law 23 = .ok (.if_icmp .gt 341, 3) := by decide +kernel
theorem dL_law_26 : decode cL_law 26 = .ok (.aload_n 0, 1) := by decide +kernel
theorem dL_law_27 : decode cL_law 27 = .ok (.iload_n 3, 1) := by decide +kernel
theorem dL_law_28 : decode cL_law 28 = .ok (.iaload, 1) := by decide +kernel
theorem dL_law_29 : decode cL_law 29 = .ok (.bipush 15, 2) := by decide +kernel
theorem dL_law_31 : decode cL_law 31 = .ok (.iand, 1) := by decide +kernel
theorem dL_law_32 : decode cL_law 32 = .ok (.tableswitch 326 0 9 #[56, 79, 102, 125, 158, 191, 214, 247, 280, 313], 56) := by decide +kernel
theorem dL_law_88 : decode cL_law 88 = .ok (.aload_n 1, 1) := by decide +kernel
theorem dL_law_89 : decode cL_law 89 = .ok (.aload_n 0, 1) := by decide +kernel
theorem dL_law_90 : decode cL_law 90 = .ok (.iload_n 3, 1) := by decide +kernel
theorem dL_law_91 : decode cL_law 91 = .ok (.iconst 1, 1) := by decide +kernel
theorem dL_law_92 : decode cL_law 92 = .ok (.iadd, 1) := by decide +kernel
theorem dL_law_93 : decode cL_law 93 = .ok (.iaload, 1) := by decide +kernel
theorem dL_law_94 : decode cL_law 94 = .ok (.invokevirtual 13, 3) := by decide +kernel
theorem dL_law_97 : decode cL_law 97 = .ok (.aload_n 2, 1) := by decide +kernel
theorem dL_law_98 : decode cL_law 98 = .ok (.aload_n 0, 1) := by decide +kernel
theorem dL_law_99 : decode cL_law 99 = .ok (.iload_n 3, 1) := by decide +kernel
theorem dL_law_100 : decode cL_law 100 = .ok (.iconst 1, 1) := by decide +kernel
theorem dL_law_101 : decode cL_law 101 = .ok (.iadd, 1) := by decide +kernel
theorem dL_law_102 : decode cL_law 102 = .ok (.iaload, 1) := by decide +kernel
theorem dL_law_103 : decode cL_law 103 = .ok (.invokevirtual 17, 3) := by decide +kernel
theorem dL_law_106 : decode cL_law 106 = .ok (.if_icmp .eq 252, 3) := by decide +kernel
theorem dL_law_109 : decode cL_law 109 = .ok (.iconst 0, 1) := by decide +kernel
theorem dL_law_110 : decode cL_law 110 = .ok (.ireturn, 1) := by decide +kernel
theorem dL_law_111 : decode cL_law 111 = .ok (.aload_n 1, 1) := by decide +kernel
theorem dL_law_112 : decode cL_law 112 = .ok (.aload_n 0, 1) := by decide +kernel
theorem dL_law_113 : decode cL_law 113 = .ok (.iload_n 3, 1) := by decide +kernel
theorem dL_law_114 : decode cL_law 114 = .ok (.iconst 1, 1) := by decide +kernel
theorem dL_law_115 : decode cL_law 115 = .ok (.iadd, 1) := by decide +kernel
theorem dL_law_116 : decode cL_law 116 = .ok (.iaload, 1) := by decide +kernel
theorem dL_law_117 : decode cL_law 117 = .ok (.invokevirtual 18, 3) := by decide +kernel
theorem dL_law_120 : decode cL_law 120 = .ok (.aload_n 2, 1) := by decide +kernel
theorem dL_law_121 : decode cL_law 121 = .ok (.aload_n 0, 1) := by decide +kernel
theorem dL_law_122 : decode cL_law 122 = .ok (.iload_n 3, 1) := by decide +kernel
theorem dL_law_123 : decode cL_law 123 = .ok (.iconst 1, 1) := by decide +kernel
theorem dL_law_124 : decode cL_law 124 = .ok (.iadd, 1) := by decide +kernel
theorem dL_law_125 : decode cL_law 125 = .ok (.iaload, 1) := by decide +kernel
theorem dL_law_126 : decode cL_law 126 = .ok (.invokevirtual 21, 3) := by decide +kernel
theorem dL_law_129 : decode cL_law 129 = .ok (.if_icmp .eq 229, 3) := by decide +kernel
theorem dL_law_132 : decode cL_law 132 = .ok (.iconst 0, 1) := by decide +kernel
theorem dL_law_133 : decode cL_law 133 = .ok (.ireturn, 1) := by decide +kernel
theorem dL_law_134 : decode cL_law 134 = .ok (.aload_n 1, 1) := by decide +kernel
theorem dL_law_135 : decode cL_law 135 = .ok (.aload_n 0, 1) := by decide +kernel
theorem dL_law_136 : decode cL_law 136 = .ok (.iload_n 3, 1) := by decide +kernel
theorem dL_law_137 : decode cL_law 137 = .ok (.iconst 1, 1) := by decide +kernel
theorem dL_law_138 : decode cL_law 138 = .ok (.iadd, 1) := by decide +kernel
theorem dL_law_139 : decode cL_law 139 = .ok (.iaload, 1) := by decide +kernel
theorem dL_law_140 : decode cL_law 140 = .ok (.invokevirtual 22, 3) := by decide +kernel
theorem dL_law_143 : decode cL_law 143 = .ok (.aload_n 2, 1) := by decide +kernel
theorem dL_law_144 : decode cL_law 144 = .ok (.aload_n 0, 1) := by decide +kernel
theorem dL_law_145 : decode cL_law 145 = .ok (.iload_n 3, 1) := by decide +kernel
theorem dL_law_146 : decode cL_law 146 = .ok (.iconst 1, 1) := by decide +kernel
theorem dL_law_147 : decode cL_law 147 = .ok (.iadd, 1) := by decide +kernel
theorem dL_law_148 : decode cL_law 148 = .ok (.iaload, 1) := by decide +kernel
theorem dL_law_149 : decode cL_law 149 = .ok (.invokevirtual 25, 3) := by decide +kernel
theorem dL_law_152 : decode cL_law 152 = .ok (.if_icmp .eq 206, 3) := by decide +kernel
theorem dL_law_155 : decode cL_law 155 = .ok (.iconst 0, 1) := by decide +kernel
theorem dL_law_156 : decode cL_law 156 = .ok (.ireturn, 1) := by decide +kernel
theorem dL_law_157 : decode cL_law 157 = .ok (.aload_n 1, 1) := by decide +kernel
theorem dL_law_158 : decode cL_law 158 = .ok (.aload_n 0, 1) := by decide +kernel
theorem dL_law_159 : decode cL_law 159 = .ok (.iload_n 3, 1) := by decide +kernel
theorem dL_law_160 : decode cL_law 160 = .ok (.iconst 1, 1) := by decide +kernel
theorem dL_law_161 : decode cL_law 161 = .ok (.iadd, 1) := by decide +kernel
theorem dL_law_162 : decode cL_law 162 = .ok (.iaload, 1) := by decide +kernel
theorem dL_law_163 : decode cL_law 163 = .ok (.aload_n 0, 1) := by decide +kernel
theorem dL_law_164 : decode cL_law 164 = .ok (.iload_n 3, 1) := by decide +kernel
theorem dL_law_165 : decode cL_law 165 = .ok (.iconst 2, 1) := by decide +kernel
theorem dL_law_166 : decode cL_law 166 = .ok (.iadd, 1) := by decide +kernel
theorem dL_law_167 : decode cL_law 167 = .ok (.iaload, 1) := by decide +kernel
theorem dL_law_168 : decode cL_law 168 = .ok (.invokevirtual 26, 3) := by decide +kernel
theorem dL_law_171 : decode cL_law 171 = .ok (.aload_n 2, 1) := by decide +kernel
theorem dL_law_172 : decode cL_law 172 = .ok (.aload_n 0, 1) := by decide +kernel
theorem dL_law_173 : decode cL_law 173 = .ok (.iload_n 3, 1) := by decide +kernel
theorem dL_law_174 : decode cL_law 174 = .ok (.iconst 1, 1) := by decide +kernel
theorem dL_law_175 : decode cL_law 175 = .ok (.iadd, 1) := by decide +kernel
theorem dL_law_176 : decode cL_law 176 = .ok (.iaload, 1) := by decide +kernel
theorem dL_law_177 : decode cL_law 177 = .ok (.aload_n 0, 1) := by decide +kernel
theorem dL_law_178 : decode cL_law 178 = .ok (.iload_n 3, 1) := by decide +kernel
theorem dL_law_179 : decode cL_law 179 = .ok (.iconst 2, 1) := by decide +kernel
theorem dL_law_180 : decode cL_law 180 = .ok (.iadd, 1) := by decide +kernel
theorem dL_law_181 : decode cL_law 181 = .ok (.iaload, 1) := by decide +kernel
theorem dL_law_182 : decode cL_law 182 = .ok (.invokevirtual 30, 3) := by decide +kernel
theorem dL_law_185 : decode cL_law 185 = .ok (.if_icmp .eq 173, 3) := by decide +kernel
theorem dL_law_188 : decode cL_law 188 = .ok (.iconst 0, 1) := by decide +kernel
theorem dL_law_189 : decode cL_law 189 = .ok (.ireturn, 1) := by decide +kernel
theorem dL_law_190 : decode cL_law 190 = .ok (.aload_n 1, 1) := by decide +kernel
theorem dL_law_191 : decode cL_law 191 = .ok (.aload_n 0, 1) := by decide +kernel
theorem dL_law_192 : decode cL_law 192 = .ok (.iload_n 3, 1) := by decide +kernel
theorem dL_law_193 : decode cL_law 193 = .ok (.iconst 1, 1) := by decide +kernel
theorem dL_law_194 : decode cL_law 194 = .ok (.iadd, 1) := by decide +kernel
theorem dL_law_195 : decode cL_law 195 = .ok (.iaload, 1) := by decide +kernel
theorem dL_law_196 : decode cL_law 196 = .ok (.aload_n 0, 1) := by decide +kernel
theorem dL_law_197 : decode cL_law 197 = .ok (.iload_n 3, 1) := by decide +kernel
theorem dL_law_198 : decode cL_law 198 = .ok (.iconst 2, 1) := by decide +kernel
theorem dL_law_199 : decode cL_law 199 = .ok (.iadd, 1) := by decide +kernel
theorem dL_law_200 : decode cL_law 200 = .ok (.iaload, 1) := by decide +kernel
theorem dL_law_201 : decode cL_law 201 = .ok (.invokevirtual 31, 3) := by decide +kernel
theorem dL_law_204 : decode cL_law 204 = .ok (.aload_n 2, 1) := by decide +kernel
theorem dL_law_205 : decode cL_law 205 = .ok (.aload_n 0, 1) := by decide +kernel
theorem dL_law_206 : decode cL_law 206 = .ok (.iload_n 3, 1) := by decide +kernel
theorem dL_law_207 : decode cL_law 207 = .ok (.iconst 1, 1) := by decide +kernel
theorem dL_law_208 : decode cL_law 208 = .ok (.iadd, 1) := by decide +kernel
theorem dL_law_209 : decode cL_law 209 = .ok (.iaload, 1) := by decide +kernel
theorem dL_law_210 : decode cL_law 210 = .ok (.aload_n 0, 1) := by decide +kernel
theorem dL_law_211 : decode cL_law 211 = .ok (.iload_n 3, 1) := by decide +kernel
theorem dL_law_212 : decode cL_law 212 = .ok (.iconst 2, 1) := by decide +kernel
theorem dL_law_213 : decode cL_law 213 = .ok (.iadd, 1) := by decide +kernel
theorem dL_law_214 : decode cL_law 214 = .ok (.iaload, 1) := by decide +kernel
theorem dL_law_215 : decode cL_law 215 = .ok (.invokevirtual 34, 3) := by decide +kernel
theorem dL_law_218 : decode cL_law 218 = .ok (.if_icmp .eq 140, 3) := by decide +kernel
theorem dL_law_221 : decode cL_law 221 = .ok (.iconst 0, 1) := by decide +kernel
theorem dL_law_222 : decode cL_law 222 = .ok (.ireturn, 1) := by decide +kernel
theorem dL_law_223 : decode cL_law 223 = .ok (.aload_n 1, 1) := by decide +kernel
theorem dL_law_224 : decode cL_law 224 = .ok (.aload_n 0, 1) := by decide +kernel
theorem dL_law_225 : decode cL_law 225 = .ok (.iload_n 3, 1) := by decide +kernel
theorem dL_law_226 : decode cL_law 226 = .ok (.iconst 1, 1) := by decide +kernel
theorem dL_law_227 : decode cL_law 227 = .ok (.iadd, 1) := by decide +kernel
theorem dL_law_228 : decode cL_law 228 = .ok (.iaload, 1) := by decide +kernel
theorem dL_law_229 : decode cL_law 229 = .ok (.invokevirtual 35, 3) := by decide +kernel
theorem dL_law_232 : decode cL_law 232 = .ok (.aload_n 2, 1) := by decide +kernel
theorem dL_law_233 : decode cL_law 233 = .ok (.aload_n 0, 1) := by decide +kernel
theorem dL_law_234 : decode cL_law 234 = .ok (.iload_n 3, 1) := by decide +kernel
theorem dL_law_235 : decode cL_law 235 = .ok (.iconst 1, 1) := by decide +kernel
theorem dL_law_236 : decode cL_law 236 = .ok (.iadd, 1) := by decide +kernel
theorem dL_law_237 : decode cL_law 237 = .ok (.iaload, 1) := by decide +kernel
theorem dL_law_238 : decode cL_law 238 = .ok (.invokevirtual 38, 3) := by decide +kernel
theorem dL_law_241 : decode cL_law 241 = .ok (.if_icmp .eq 117, 3) := by decide +kernel
theorem dL_law_244 : decode cL_law 244 = .ok (.iconst 0, 1) := by decide +kernel
theorem dL_law_245 : decode cL_law 245 = .ok (.ireturn, 1) := by decide +kernel
theorem dL_law_246 : decode cL_law 246 = .ok (.aload_n 1, 1) := by decide +kernel
theorem dL_law_247 : decode cL_law 247 = .ok (.aload_n 0, 1) := by decide +kernel
theorem dL_law_248 : decode cL_law 248 = .ok (.iload_n 3, 1) := by decide +kernel
theorem dL_law_249 : decode cL_law 249 = .ok (.iconst 1, 1) := by decide +kernel
theorem dL_law_250 : decode cL_law 250 = .ok (.iadd, 1) := by decide +kernel
theorem dL_law_251 : decode cL_law 251 = .ok (.iaload, 1) := by decide +kernel
theorem dL_law_252 : decode cL_law 252 = .ok (.aload_n 0, 1) := by decide +kernel
theorem dL_law_253 : decode cL_law 253 = .ok (.iload_n 3, 1) := by decide +kernel
theorem dL_law_254 : decode cL_law 254 = .ok (.iconst 2, 1) := by decide +kernel
theorem dL_law_255 : decode cL_law 255 = .ok (.iadd, 1) := by decide +kernel
theorem dL_law_256 : decode cL_law 256 = .ok (.iaload, 1) := by decide +kernel
theorem dL_law_257 : decode cL_law 257 = .ok (.invokevirtual 39, 3) := by decide +kernel
theorem dL_law_260 : decode cL_law 260 = .ok (.aload_n 2, 1) := by decide +kernel
theorem dL_law_261 : decode cL_law 261 = .ok (.aload_n 0, 1) := by decide +kernel
theorem dL_law_262 : decode cL_law 262 = .ok (.iload_n 3, 1) := by decide +kernel
theorem dL_law_263 : decode cL_law 263 = .ok (.iconst 1, 1) := by decide +kernel
theorem dL_law_264 : decode cL_law 264 = .ok (.iadd, 1) := by decide +kernel
theorem dL_law_265 : decode cL_law 265 = .ok (.iaload, 1) := by decide +kernel
theorem dL_law_266 : decode cL_law 266 = .ok (.aload_n 0, 1) := by decide +kernel
theorem dL_law_267 : decode cL_law 267 = .ok (.iload_n 3, 1) := by decide +kernel
theorem dL_law_268 : decode cL_law 268 = .ok (.iconst 2, 1) := by decide +kernel
theorem dL_law_269 : decode cL_law 269 = .ok (.iadd, 1) := by decide +kernel
theorem dL_law_270 : decode cL_law 270 = .ok (.iaload, 1) := by decide +kernel
theorem dL_law_271 : decode cL_law 271 = .ok (.invokevirtual 42, 3) := by decide +kernel
theorem dL_law_274 : decode cL_law 274 = .ok (.if_icmp .eq 84, 3) := by decide +kernel
theorem dL_law_277 : decode cL_law 277 = .ok (.iconst 0, 1) := by decide +kernel
theorem dL_law_278 : decode cL_law 278 = .ok (.ireturn, 1) := by decide +kernel
theorem dL_law_279 : decode cL_law 279 = .ok (.aload_n 1, 1) := by decide +kernel
theorem dL_law_280 : decode cL_law 280 = .ok (.aload_n 0, 1) := by decide +kernel
theorem dL_law_281 : decode cL_law 281 = .ok (.iload_n 3, 1) := by decide +kernel
theorem dL_law_282 : decode cL_law 282 = .ok (.iconst 1, 1) := by decide +kernel
theorem dL_law_283 : decode cL_law 283 = .ok (.iadd, 1) := by decide +kernel
theorem dL_law_284 : decode cL_law 284 = .ok (.iaload, 1) := by decide +kernel
theorem dL_law_285 : decode cL_law 285 = .ok (.aload_n 0, 1) := by decide +kernel
theorem dL_law_286 : decode cL_law 286 = .ok (.iload_n 3, 1) := by decide +kernel
theorem dL_law_287 : decode cL_law 287 = .ok (.iconst 2, 1) := by decide +kernel
theorem dL_law_288 : decode cL_law 288 = .ok (.iadd, 1) := by decide +kernel
theorem dL_law_289 : decode cL_law 289 = .ok (.iaload, 1) := by decide +kernel
theorem dL_law_290 : decode cL_law 290 = .ok (.invokevirtual 43, 3) := by decide +kernel
theorem dL_law_293 : decode cL_law 293 = .ok (.aload_n 2, 1) := by decide +kernel
theorem dL_law_294 : decode cL_law 294 = .ok (.aload_n 0, 1) := by decide +kernel
theorem dL_law_295 : decode cL_law 295 = .ok (.iload_n 3, 1) := by decide +kernel
theorem dL_law_296 : decode cL_law 296 = .ok (.iconst 1, 1) := by decide +kernel
theorem dL_law_297 : decode cL_law 297 = .ok (.iadd, 1) := by decide +kernel
theorem dL_law_298 : decode cL_law 298 = .ok (.iaload, 1) := by decide +kernel
theorem dL_law_299 : decode cL_law 299 = .ok (.aload_n 0, 1) := by decide +kernel
theorem dL_law_300 : decode cL_law 300 = .ok (.iload_n 3, 1) := by decide +kernel
theorem dL_law_301 : decode cL_law 301 = .ok (.iconst 2, 1) := by decide +kernel
theorem dL_law_302 : decode cL_law 302 = .ok (.iadd, 1) := by decide +kernel
theorem dL_law_303 : decode cL_law 303 = .ok (.iaload, 1) := by decide +kernel
theorem dL_law_304 : decode cL_law 304 = .ok (.invokevirtual 46, 3) := by decide +kernel
theorem dL_law_307 : decode cL_law 307 = .ok (.if_icmp .eq 51, 3) := by decide +kernel
theorem dL_law_310 : decode cL_law 310 = .ok (.iconst 0, 1) := by decide +kernel
theorem dL_law_311 : decode cL_law 311 = .ok (.ireturn, 1) := by decide +kernel
theorem dL_law_312 : decode cL_law 312 = .ok (.aload_n 1, 1) := by decide +kernel
theorem dL_law_313 : decode cL_law 313 = .ok (.aload_n 0, 1) := by decide +kernel
theorem dL_law_314 : decode cL_law 314 = .ok (.iload_n 3, 1) := by decide +kernel
theorem dL_law_315 : decode cL_law 315 = .ok (.iconst 1, 1) := by decide +kernel
theorem dL_law_316 : decode cL_law 316 = .ok (.iadd, 1) := by decide +kernel
theorem dL_law_317 : decode cL_law 317 = .ok (.iaload, 1) := by decide +kernel
theorem dL_law_318 : decode cL_law 318 = .ok (.aload_n 0, 1) := by decide +kernel
theorem dL_law_319 : decode cL_law 319 = .ok (.iload_n 3, 1) := by decide +kernel
theorem dL_law_320 : decode cL_law 320 = .ok (.iconst 2, 1) := by decide +kernel
theorem dL_law_321 : decode cL_law 321 = .ok (.iadd, 1) := by decide +kernel
theorem dL_law_322 : decode cL_law 322 = .ok (.iaload, 1) := by decide +kernel
theorem dL_law_323 : decode cL_law 323 = .ok (.invokevirtual 47, 3) := by decide +kernel
theorem dL_law_326 : decode cL_law 326 = .ok (.aload_n 2, 1) := by decide +kernel
theorem dL_law_327 : decode cL_law 327 = .ok (.aload_n 0, 1) := by decide +kernel
theorem dL_law_328 : decode cL_law 328 = .ok (.iload_n 3, 1) := by decide +kernel
theorem dL_law_329 : decode cL_law 329 = .ok (.iconst 1, 1) := by decide +kernel
theorem dL_law_330 : decode cL_law 330 = .ok (.iadd, 1) := by decide +kernel
theorem dL_law_331 : decode cL_law 331 = .ok (.iaload, 1) := by decide +kernel
theorem dL_law_332 : decode cL_law 332 = .ok (.aload_n 0, 1) := by decide +kernel
theorem dL_law_333 : decode cL_law 333 = .ok (.iload_n 3, 1) := by decide +kernel
theorem dL_law_334 : decode cL_law 334 = .ok (.iconst 2, 1) := by decide +kernel
theorem dL_law_335 : decode cL_law 335 = .ok (.iadd, 1) := by decide +kernel
theorem dL_law_336 : decode cL_law 336 = .ok (.iaload, 1) := by decide +kernel
theorem dL_law_337 : decode cL_law 337 = .ok (.invokevirtual 50, 3) := by decide +kernel
theorem dL_law_340 : decode cL_law 340 = .ok (.if_icmp .eq 18, 3) := by decide +kernel
theorem dL_law_343 : decode cL_law 343 = .ok (.iconst 0, 1) := by decide +kernel
theorem dL_law_344 : decode cL_law 344 = .ok (.ireturn, 1) := by decide +kernel
theorem dL_law_345 : decode cL_law 345 = .ok (.aload_n 1, 1) := by decide +kernel
theorem dL_law_346 : decode cL_law 346 = .ok (.invokevirtual 51, 3) := by decide +kernel
theorem dL_law_349 : decode cL_law 349 = .ok (.aload_n 2, 1) := by decide +kernel
theorem dL_law_350 : decode cL_law 350 = .ok (.invokevirtual 55, 3) := by decide +kernel
theorem dL_law_353 : decode cL_law 353 = .ok (.if_icmp .eq 5, 3) := by decide +kernel
theorem dL_law_356 : decode cL_law 356 = .ok (.iconst 0, 1) := by decide +kernel
theorem dL_law_357 : decode cL_law 357 = .ok (.ireturn, 1) := by decide +kernel
theorem dL_law_358 : decode cL_law 358 = .ok (.iinc 3 3, 3) := by decide +kernel
theorem dL_law_361 : decode cL_law 361 = .ok (.goto (-343), 3) := by decide +kernel
theorem dL_law_364 : decode cL_law 364 = .ok (.iconst 1, 1) := by decide +kernel
theorem dL_law_365 : decode cL_law 365 = .ok (.ireturn, 1) := by decide +kernel
end
section
/-! this claim's own rows: numbers as naturals, the two worlds, contracts, calls -/
set_option maxRecDepth 100000
abbrev vwCl : List vw_C := [(RX0, TX0, 7), (RX1, TX1, 2)]
abbrev cd_rm (f lo : Nat) : Room := { frames := f, cells := 0, slots := 0, locals := lo }
def cd_b (b : Bool) : Int32 := if b then 1 else 0
def cd_BF (h : Nat → Bool) : Nat → Int32 := fun s => cd_b (h s)
def cd_NF (R : Nat → Nat) : Nat → Int32 := fun b => nI (R b)
def cd_up {α : Type} (f : Nat → α) (k : Nat) (x : α) : Nat → α := fun j => if j = k then x else f j
/-- the counter of a loop that goes down: n - 1 -/
def cd_m (n : Nat) : Int32 := nI n + Int32.ofInt (-1)
theorem cd_m0 : cd_m 0 < 0 := by decide
theorem cd_m1e : Int32.ofInt (-1) = -1 := by decide
theorem cd_mS (n : Nat) : cd_m (n + 1) = nI n := by
  unfold cd_m
  rw [cd_m1e]
  exact pk_m1 n
theorem cd_BF_up (h : Nat → Bool) (k : Nat) (b : Bool) : upd (cd_BF h) k (cd_b b) = cd_BF (cd_up h k b) := by
  funext j
  by_cases hj : j = k
  · simp [upd, cd_BF, cd_up, hj]
  · simp [upd, cd_BF, cd_up, hj]
theorem cd_NF_up (R : Nat → Nat) (k v : Nat) : upd (cd_NF R) k (nI v) = cd_NF (cd_up R k v) := by
  funext j
  by_cases hj : j = k
  · simp [upd, cd_NF, cd_up, hj]
  · simp [upd, cd_NF, cd_up, hj]
theorem cd_nar (b : Bool) : vp_nar .boolean (cd_b b) = cd_b b := by
  cases b
  · rfl
  · rfl
theorem cd_narI (v : Int32) : narrow .int (.int v) = .int v := rfl
theorem cd_narB (b : Bool) : narrow .boolean (.int (cd_b b)) = .int (cd_b b) := by
  cases b
  · rfl
  · rfl
theorem cd_b0 {b : Bool} (h : cd_b b = 0) : b = false := by
  cases b
  · rfl
  · exact absurd h (by decide)
theorem cd_b1 {b : Bool} (h : ¬ cd_b b = 0) : b = true := by
  cases b
  · exact absurd (by decide) h
  · rfl
theorem cd_b_n (b : Bool) : cd_b b = nI b.toNat := by
  cases b
  · rfl
  · rfl
theorem cd_xor (a b : Nat) : nI a ^^^ nI b = nI (a ^^^ b) := by
  apply Int32.toBitVec_inj.1
  show BitVec.ofNat 32 a ^^^ BitVec.ofNat 32 b = BitVec.ofNat 32 (a ^^^ b)
  apply BitVec.eq_of_getLsbD_eq
  intro i hi
  simp [hi]
theorem cd_or (a b : Nat) : nI a ||| nI b = nI (a ||| b) := by
  apply Int32.toBitVec_inj.1
  show BitVec.ofNat 32 a ||| BitVec.ofNat 32 b = BitVec.ofNat 32 (a ||| b)
  apply BitVec.eq_of_getLsbD_eq
  intro i hi
  simp [hi]
theorem cd_and (a b : Nat) : nI a &&& nI b = nI (a &&& b) := by
  apply Int32.toBitVec_inj.1
  show BitVec.ofNat 32 a &&& BitVec.ofNat 32 b = BitVec.ofNat 32 (a &&& b)
  apply BitVec.eq_of_getLsbD_eq
  intro i hi
  simp [hi]
theorem cd_sl : ∀ n, n < 32 → ((nI n &&& 31).toBitVec.smod 32).toNat = n := by decide +kernel
theorem cd_su : ∀ n, n < 32 → (((nI n).toUInt32 &&& Int32.toUInt32 31).toBitVec % 32).toNat = n := by decide +kernel
theorem cd_shl {a j : Nat} (hj : j < 32) (h : a * 2 ^ j < 2 ^ 32) : nI a <<< (nI j &&& 31) = nI (a * 2 ^ j) := pk_shlN _ j (cd_sl j hj) h
theorem cd_shr {a j : Nat} (ha : a < 2 ^ 31) (hj : j < 32) : nI a >>> (nI j &&& 31) = nI (a / 2 ^ j) := pk_shrN ha _ j (cd_sl j hj)
theorem cd_ushr {a j : Nat} (ha : a < 2 ^ 31) (hj : j < 32) : ((nI a).toUInt32 >>> ((nI j).toUInt32 &&& Int32.toUInt32 31)).toInt32 = nI (a / 2 ^ j) := pk_ushrN (by omega) _ j (cd_su j hj)
theorem cd_bit (a j : Nat) : nI (a / 2 ^ j) &&& nI 1 = cd_b (a.testBit j) := by
  rw [cd_and, Nat.and_one_is_mod, Nat.testBit_eq_decide_div_mod_eq]
  generalize a / 2 ^ j = z
  rcases Nat.mod_two_eq_zero_or_one z with h | h
  · rw [h]; rfl
  · rw [h]; rfl
theorem cd_addb (a : Nat) (b : Bool) : nI a + cd_b b = nI (a + b.toNat) := by rw [cd_b_n, nI_add]
theorem cd_clamp {i N : Nat} (h : i < N) (hN : N ≤ 1024) : (nI i).toNatClampNeg = i := nI_clamp (by omega)
/-- the desk's world: its object and its four arrays -/
abbrev cd_DW (a : Nat → Nat) (z : Nat → ClassId) (h : Nat → Bool) (R O C : Nat → Nat) (rk lf tk : Nat) : va_W :=
  [(a 0, .inr (0, [.ref (a 1), .ref (a 2), .ref (a 3), .ref (a 4), .int (nI rk), .int (nI lf), .int (nI tk)])), (a 1, .inl (z 1, 32, .inl (cd_BF h))), (a 2, .inl (z 2, 10, .inl (cd_NF R))), (a 3, .inl (z 3, 10, .inl (cd_NF O))), (a 4, .inl (z 4, 10, .inl (cd_NF C)))]
abbrev cd_DT (z : Nat → ClassId) : List (ClassId × FieldType) := [(z 1, .boolean), (z 2, .int), (z 3, .int), (z 4, .int)]
/-- the reference's world: its object and its two arrays -/
abbrev cd_MW (a : Nat → Nat) (z : Nat → ClassId) (h M : Nat → Bool) : va_W :=
  [(a 0, .inr (1, [.ref (a 1), .ref (a 2)])), (a 1, .inl (z 1, 32, .inl (cd_BF h))), (a 2, .inl (z 2, 1024, .inl (cd_BF M)))]
abbrev cd_MT (z : Nat → ClassId) : List (ClassId × FieldType) := [(z 1, .boolean), (z 2, .boolean)]
theorem cd_Daddr {A : Nat → Prop} {w w' : va_W} (h : w'.map Prod.fst = w.map Prod.fst) (hD : va_D A w) : va_D A w' := by
  have key : ∀ (k : Nat) (q : Nat × va_E), w'[k]? = some q → ∃ e, w[k]? = some (q.1, e) := by
    intro k q hq
    have h1 : (w'.map Prod.fst)[k]? = some q.1 := by rw [List.getElem?_map, hq]; rfl
    rw [h, List.getElem?_map] at h1
    cases hk : w[k]? with
    | none => rw [hk] at h1; cases h1
    | some z =>
      obtain ⟨z1, z2⟩ := z
      rw [hk] at h1
      have h2 : z1 = q.1 := Option.some.inj h1
      exact ⟨z2, by rw [h2]⟩
  refine ⟨fun i j p q hp hq e => ?_, fun k q hk => ?_⟩
  · obtain ⟨e1, h1⟩ := key i p hp
    obtain ⟨e2, h2⟩ := key j q hq
    exact hD.1 i j _ _ h1 h2 e
  · obtain ⟨e1, h1⟩ := key k q hk
    exact hD.2 k (q.1, e1) h1
/-- a contract: the method called with the values av over the world w answers v, and the world is w' -/
def cd_I (l : Launch) (y : MethodName) (ws : List Cond) (rm : Room) (av : List Value) (D : va_G) (tys : List (ClassId × FieldType)) (w : va_W) (v : Int32) (w' : va_W) : Prop :=
  ∀ sz : Nat, Met l y ws rm (va_Pc av (fun U => U.heap.size = sz ∧ va_P D vwCl w U.heap ∧ va_K D vwCl tys U ∧ va_D (fun _ => True) w)) (va_Qi (fun (r : Int32) (_ : Unit) => r = v) (fun _ t => va_P D vwCl w' t.heap) (va_A w sz)) 0 0 (va_A w sz)
def cd_V (l : Launch) (y : MethodName) (ws : List Cond) (rm : Room) (av : List Value) (D : va_G) (tys : List (ClassId × FieldType)) (w : va_W) (w' : va_W) : Prop :=
  ∀ sz : Nat, Met l y ws rm (va_Pc av (fun U => U.heap.size = sz ∧ va_P D vwCl w U.heap ∧ va_K D vwCl tys U ∧ va_D (fun _ => True) w)) (va_Qv (fun (_ : Unit) => True) (fun _ t => va_P D vwCl w' t.heap) (va_A w sz)) 0 0 (va_A w sz)
theorem cd_I.mk {l : Launch} {y : MethodName} {rm : Room} {av : List Value} {D : va_G} {tys : List (ClassId × FieldType)} {w w' : va_W} {v : Int32} (cc : ByteArray) (maxL : Nat) (ty : FieldType) (C : String) (hy : plainName y.cls = true) (hC : y.cls = C) (hn : narrow ty (.int v) = .int v) (hav : (lg_sl av).length ≤ maxL)
    (body : ∀ (p : Program) (e : Env) (s : State) (m : MethodId) (args : Array Value) (below : List Frame) (meth : Method) (c : Code) (A : Nat → Prop) (Q : State → Prop), p.tables.exec = Jvm.exec → c.code = cc → c.maxLocals = maxL → s.vm.findClass C = some m.cls → (∀ w ∈ lw_all, w.before args s = true) → (∀ q : Nat, s.heap.size ≤ q → A q) → va_K D vwCl tys s → va_D A w → va_P D vwCl w s.heap → va_S A s.heap s.heap [] →
      (∀ {H : Heap} {locs : List Loc} {pc : Nat} {ls : Array Slot}, va_P D vwCl w' H → va_S A s.heap H locs → decode cc pc = .ok (.ireturn, 1) → W p l e rm s m args below meth c H locs 0 0 Q (F0 m pc ls [.int v])) →
      ∀ ls : Array Slot, lv_has ls maxL (lv_args 0 av) → W p l e rm s m args below meth c s.heap [] 0 0 Q (F0 m 0 ls [])) :
    cd_I l y (ws_ y cc maxL (some ty)) rm av D tys w v w' := by
  intro sz
  refine Met.ofW (cc := cc) (maxL := maxL) (ret := some ty) hy rfl ?_
  intro p e s m args below meth c s₁ B hml hv
  obtain ⟨rfl, hsz, hP, hK, hD0⟩ := hv
  have hts := atoms_spec (ws := ws_ y cc maxL (some ty)) B.pre
  have hts : ∀ w ∈ lw_all, w.before _ s = true := fun w h => hts w (List.mem_cons_of_mem _ h)
  have hown : s.vm.findClass y.cls = some m.cls := findClass_of_methodNamed B.named
  rw [hC] at hown
  have hlocks := B.notSynchronized
  subst hsz
  have hD := hD0.self (sz := s.heap.size)
  have hA : ∀ q : Nat, s.heap.size ≤ q → va_A w s.heap.size q := fun q h => Or.inr h
  have hl := lv_entry av (n := maxL) hav
  rw [lg_entry_eq]
  refine body p e s m av.toArray below meth c (va_A w s.heap.size) _ B.exec B.bytes hml hown hts hA hK hD hP va_S.rf ?_ _ hl
  intro H locs pc ls hP' hS hd
  exact W.zret (v := v) (ty := ty) B.exec B.bytes B.returns hn (fun t ht hW => ⟨⟨v, (), rfl, rfl, by show va_P D vwCl w' t.heap; rw [ht]; exact hP'⟩, hS.F ht⟩) hS.2.2 hd
theorem cd_V.mk {l : Launch} {y : MethodName} {rm : Room} {av : List Value} {D : va_G} {tys : List (ClassId × FieldType)} {w w' : va_W} (cc : ByteArray) (maxL : Nat) (C : String) (hy : plainName y.cls = true) (hC : y.cls = C) (hav : (lg_sl av).length ≤ maxL)
    (body : ∀ (p : Program) (e : Env) (s : State) (m : MethodId) (args : Array Value) (below : List Frame) (meth : Method) (c : Code) (A : Nat → Prop) (Q : State → Prop), p.tables.exec = Jvm.exec → c.code = cc → c.maxLocals = maxL → s.vm.findClass C = some m.cls → (∀ w ∈ lw_all, w.before args s = true) → (∀ q : Nat, s.heap.size ≤ q → A q) → va_K D vwCl tys s → va_D A w → va_P D vwCl w s.heap → va_S A s.heap s.heap [] →
      (∀ {H : Heap} {locs : List Loc} {pc : Nat} {ls : Array Slot}, va_P D vwCl w' H → va_S A s.heap H locs → decode cc pc = .ok (.return_, 1) → W p l e rm s m args below meth c H locs 0 0 Q (F0 m pc ls [])) →
      ∀ ls : Array Slot, lv_has ls maxL (lv_args 0 av) → W p l e rm s m args below meth c s.heap [] 0 0 Q (F0 m 0 ls [])) :
    cd_V l y (ws_ y cc maxL none) rm av D tys w w' := by
  intro sz
  refine Met.ofW (cc := cc) (maxL := maxL) (ret := none) hy rfl ?_
  intro p e s m args below meth c s₁ B hml hv
  obtain ⟨rfl, hsz, hP, hK, hD0⟩ := hv
  have hts := atoms_spec (ws := ws_ y cc maxL none) B.pre
  have hts : ∀ w ∈ lw_all, w.before _ s = true := fun w h => hts w (List.mem_cons_of_mem _ h)
  have hown : s.vm.findClass y.cls = some m.cls := findClass_of_methodNamed B.named
  rw [hC] at hown
  have hlocks := B.notSynchronized
  subst hsz
  have hD := hD0.self (sz := s.heap.size)
  have hA : ∀ q : Nat, s.heap.size ≤ q → va_A w s.heap.size q := fun q h => Or.inr h
  have hl := lv_entry av (n := maxL) hav
  rw [lg_entry_eq]
  refine body p e s m av.toArray below meth c (va_A w s.heap.size) _ B.exec B.bytes hml hown hts hA hK hD hP va_S.rf ?_ _ hl
  intro H locs pc ls hP' hS hd
  exact W.vret B.exec B.bytes B.returns (fun t ht hW => ⟨⟨(), rfl, trivial, by show va_P D vwCl w' t.heap; rw [ht]; exact hP'⟩, hS.F ht⟩) hS.2.2 hd
section CDR
variable {p : Program} {l : Launch} {e : Env} {Rm : Room} {s : State} {m : MethodId} {args : Array Value} {below : List Frame} {meth : Method} {c : Code} {H : Heap} {locs : List Loc} {cells slots : Nat} {Q : State → Prop}
variable {cc : ByteArray} {pc : Nat} {ls : Array Slot} {rest : List Value} {D : va_G} {A : Nat → Prop} {H0 : Heap} {a : Nat → Nat} {z : Nat → ClassId} {h M : Nat → Bool} {R O C : Nat → Nat} {rk lf tk : Nat}
theorem cd_top {x y : Int32} (h : x = y) (k : W p l e Rm s m args below meth c H locs cells slots Q (F0 m pc ls (.int y :: rest))) : W p l e Rm s m args below meth c H locs cells slots Q (F0 m pc ls (.int x :: rest)) := by
  subst h
  exact k
theorem cn_add (hx : p.tables.exec = Jvm.exec) (hb : c.code = cc) {a b : Nat} (d : decode cc pc = .ok (.iadd, 1)) (k : W p l e Rm s m args below meth c H locs cells slots Q (F0 m (pc + 1) ls (.int (nI (a + b)) :: rest))) : W p l e Rm s m args below meth c H locs cells slots Q (F0 m pc ls (.int (nI b) :: .int (nI a) :: rest)) := lv_iadd hx hb d (cd_top (nI_add a b) k)
theorem cn_addb (hx : p.tables.exec = Jvm.exec) (hb : c.code = cc) {a : Nat} {b : Bool} (d : decode cc pc = .ok (.iadd, 1)) (k : W p l e Rm s m args below meth c H locs cells slots Q (F0 m (pc + 1) ls (.int (nI (a + b.toNat)) :: rest))) : W p l e Rm s m args below meth c H locs cells slots Q (F0 m pc ls (.int (cd_b b) :: .int (nI a) :: rest)) := lv_iadd hx hb d (cd_top (cd_addb a b) k)
theorem cn_sub (hx : p.tables.exec = Jvm.exec) (hb : c.code = cc) {a b : Nat} (hab : b ≤ a) (d : decode cc pc = .ok (.isub, 1)) (k : W p l e Rm s m args below meth c H locs cells slots Q (F0 m (pc + 1) ls (.int (nI (a - b)) :: rest))) : W p l e Rm s m args below meth c H locs cells slots Q (F0 m pc ls (.int (nI b) :: .int (nI a) :: rest)) := lv_isub hx hb d (cd_top (pk_sub hab) k)
theorem cn_xor (hx : p.tables.exec = Jvm.exec) (hb : c.code = cc) {a b : Nat} (d : decode cc pc = .ok (.ixor, 1)) (k : W p l e Rm s m args below meth c H locs cells slots Q (F0 m (pc + 1) ls (.int (nI (a ^^^ b)) :: rest))) : W p l e Rm s m args below meth c H locs cells slots Q (F0 m pc ls (.int (nI b) :: .int (nI a) :: rest)) := lv_ixor hx hb d (cd_top (cd_xor a b) k)
theorem cn_or (hx : p.tables.exec = Jvm.exec) (hb : c.code = cc) {a b : Nat} (d : decode cc pc = .ok (.ior, 1)) (k : W p l e Rm s m args below meth c H locs cells slots Q (F0 m (pc + 1) ls (.int (nI (a ||| b)) :: rest))) : W p l e Rm s m args below meth c H locs cells slots Q (F0 m pc ls (.int (nI b) :: .int (nI a) :: rest)) := lv_ior hx hb d (cd_top (cd_or a b) k)
theorem cn_and (hx : p.tables.exec = Jvm.exec) (hb : c.code = cc) {a b : Nat} (d : decode cc pc = .ok (.iand, 1)) (k : W p l e Rm s m args below meth c H locs cells slots Q (F0 m (pc + 1) ls (.int (nI (a &&& b)) :: rest))) : W p l e Rm s m args below meth c H locs cells slots Q (F0 m pc ls (.int (nI b) :: .int (nI a) :: rest)) := lv_iand hx hb d (cd_top (cd_and a b) k)
theorem cn_shl1 (hx : p.tables.exec = Jvm.exec) (hb : c.code = cc) {j : Nat} (hj : j < 32) (d : decode cc pc = .ok (.ishl, 1)) (k : W p l e Rm s m args below meth c H locs cells slots Q (F0 m (pc + 1) ls (.int (nI (2 ^ j)) :: rest))) : W p l e Rm s m args below meth c H locs cells slots Q (F0 m pc ls (.int (nI j) :: .int (nI 1) :: rest)) := by
  refine lv_ishl hx hb d (cd_top (cd_shl hj ?_) ?_)
  · rw [Nat.one_mul]
    exact Nat.pow_lt_pow_right (by decide) hj
  · rw [Nat.one_mul]
    exact k
theorem cn_shl (hx : p.tables.exec = Jvm.exec) (hb : c.code = cc) {a j : Nat} (hj : j < 32) (ha : a * 2 ^ j < 2 ^ 32) (d : decode cc pc = .ok (.ishl, 1)) (k : W p l e Rm s m args below meth c H locs cells slots Q (F0 m (pc + 1) ls (.int (nI (a * 2 ^ j)) :: rest))) : W p l e Rm s m args below meth c H locs cells slots Q (F0 m pc ls (.int (nI j) :: .int (nI a) :: rest)) := lv_ishl hx hb d (cd_top (cd_shl hj ha) k)
theorem cn_rem (hx : p.tables.exec = Jvm.exec) (hb : c.code = cc) {a b : Nat} (ha : a < 2 ^ 31) (h0 : 0 < b) (hb' : b < 2 ^ 31) (d : decode cc pc = .ok (.irem, 1)) (k : W p l e Rm s m args below meth c H locs cells slots Q (F0 m (pc + 1) ls (.int (nI (a % b)) :: rest))) : W p l e Rm s m args below meth c H locs cells slots Q (F0 m pc ls (.int (nI b) :: .int (nI a) :: rest)) := lv_irem hx hb d (nI_ne0 h0 hb') (cd_top (pk_rem ha h0 hb') k)
theorem cn_bitU (hx : p.tables.exec = Jvm.exec) (hb : c.code = cc) {a j : Nat} (ha : a < 2 ^ 31) (hj : j < 32) (d1 : decode cc pc = .ok (.iushr, 1)) (d2 : decode cc (pc + 1) = .ok (.iconst 1, 1)) (d3 : decode cc (pc + 2) = .ok (.iand, 1)) (k : W p l e Rm s m args below meth c H locs cells slots Q (F0 m (pc + 3) ls (.int (cd_b (a.testBit j)) :: rest))) : W p l e Rm s m args below meth c H locs cells slots Q (F0 m pc ls (.int (nI j) :: .int (nI a) :: rest)) := by
  refine lv_iushr hx hb d1 (cd_ushr ha hj) ?_
  refine lv_iconst (v := nI 1) hx hb d2 (by decide) ?_
  refine lv_iand hx hb d3 ?_
  exact cd_top (cd_bit a j) k
theorem cn_bitS (hx : p.tables.exec = Jvm.exec) (hb : c.code = cc) {a j : Nat} (ha : a < 2 ^ 31) (hj : j < 32) (d1 : decode cc pc = .ok (.ishr, 1)) (d2 : decode cc (pc + 1) = .ok (.iconst 1, 1)) (d3 : decode cc (pc + 2) = .ok (.iand, 1)) (k : W p l e Rm s m args below meth c H locs cells slots Q (F0 m (pc + 3) ls (.int (cd_b (a.testBit j)) :: rest))) : W p l e Rm s m args below meth c H locs cells slots Q (F0 m pc ls (.int (nI j) :: .int (nI a) :: rest)) := by
  refine lv_ishr hx hb d1 (cd_top (cd_shr ha hj) ?_)
  refine lv_iconst (v := nI 1) hx hb d2 (by decide) ?_
  refine lv_iand hx hb d3 ?_
  exact cd_top (cd_bit a j) k
theorem cn_ge (hx : p.tables.exec = Jvm.exec) (hb : c.code = cc) {a b : Nat} {off : Int} {tgt : Nat} (d : decode cc pc = .ok (.if_icmp .ge off, 3)) (ht : (pc : Int) + off = (tgt : Int)) (ha : a < 2 ^ 31) (hb' : b < 2 ^ 31) (kt : b ≤ a → W p l e Rm s m args below meth c H locs cells slots Q (F0 m tgt ls rest)) (kf : a < b → W p l e Rm s m args below meth c H locs cells slots Q (F0 m (pc + 3) ls rest)) : W p l e Rm s m args below meth c H locs cells slots Q (F0 m pc ls (.int (nI b) :: .int (nI a) :: rest)) := lv_icmp_ge hx hb d ht (fun h => kt ((nI_leI hb' ha).mp h)) (fun h => kf (Nat.not_le.mp fun q => h ((nI_leI hb' ha).mpr q)))
theorem cn_le (hx : p.tables.exec = Jvm.exec) (hb : c.code = cc) {a b : Nat} {off : Int} {tgt : Nat} (d : decode cc pc = .ok (.if_icmp .le off, 3)) (ht : (pc : Int) + off = (tgt : Int)) (ha : a < 2 ^ 31) (hb' : b < 2 ^ 31) (kt : a ≤ b → W p l e Rm s m args below meth c H locs cells slots Q (F0 m tgt ls rest)) (kf : b < a → W p l e Rm s m args below meth c H locs cells slots Q (F0 m (pc + 3) ls rest)) : W p l e Rm s m args below meth c H locs cells slots Q (F0 m pc ls (.int (nI b) :: .int (nI a) :: rest)) := lv_icmp_le hx hb d ht (fun h => kt ((nI_leI ha hb').mp h)) (fun h => kf (Nat.not_le.mp fun q => h ((nI_leI ha hb').mpr q)))
theorem cn_lt (hx : p.tables.exec = Jvm.exec) (hb : c.code = cc) {a b : Nat} {off : Int} {tgt : Nat} (d : decode cc pc = .ok (.if_icmp .lt off, 3)) (ht : (pc : Int) + off = (tgt : Int)) (ha : a < 2 ^ 31) (hb' : b < 2 ^ 31) (kt : a < b → W p l e Rm s m args below meth c H locs cells slots Q (F0 m tgt ls rest)) (kf : b ≤ a → W p l e Rm s m args below meth c H locs cells slots Q (F0 m (pc + 3) ls rest)) : W p l e Rm s m args below meth c H locs cells slots Q (F0 m pc ls (.int (nI b) :: .int (nI a) :: rest)) := lv_icmp_lt hx hb d ht (fun h => kt ((nI_ltI ha hb').mp h)) (fun h => kf (Nat.not_lt.mp fun q => h ((nI_ltI ha hb').mpr q)))
theorem cn_gt (hx : p.tables.exec = Jvm.exec) (hb : c.code = cc) {a b : Nat} {off : Int} {tgt : Nat} (d : decode cc pc = .ok (.if_icmp .gt off, 3)) (ht : (pc : Int) + off = (tgt : Int)) (ha : a < 2 ^ 31) (hb' : b < 2 ^ 31) (kt : b < a → W p l e Rm s m args below meth c H locs cells slots Q (F0 m tgt ls rest)) (kf : a ≤ b → W p l e Rm s m args below meth c H locs cells slots Q (F0 m (pc + 3) ls rest)) : W p l e Rm s m args below meth c H locs cells slots Q (F0 m pc ls (.int (nI b) :: .int (nI a) :: rest)) := lv_icmp_gt hx hb d ht (fun h => kt ((nI_ltI hb' ha).mp h)) (fun h => kf (Nat.not_lt.mp fun q => h ((nI_ltI hb' ha).mpr q)))
theorem cn_eq (hx : p.tables.exec = Jvm.exec) (hb : c.code = cc) {a b : Nat} {off : Int} {tgt : Nat} (d : decode cc pc = .ok (.if_icmp .eq off, 3)) (ht : (pc : Int) + off = (tgt : Int)) (ha : a < 2 ^ 31) (hb' : b < 2 ^ 31) (kt : a = b → W p l e Rm s m args below meth c H locs cells slots Q (F0 m tgt ls rest)) (kf : ¬ a = b → W p l e Rm s m args below meth c H locs cells slots Q (F0 m (pc + 3) ls rest)) : W p l e Rm s m args below meth c H locs cells slots Q (F0 m pc ls (.int (nI b) :: .int (nI a) :: rest)) := lv_icmp_eq hx hb d ht (fun h => kt ((nI_eq ha hb').mp h)) (fun h => kf (fun q => h ((nI_eq ha hb').mpr q)))
theorem cn_ne (hx : p.tables.exec = Jvm.exec) (hb : c.code = cc) {a b : Nat} {off : Int} {tgt : Nat} (d : decode cc pc = .ok (.if_icmp .ne off, 3)) (ht : (pc : Int) + off = (tgt : Int)) (ha : a < 2 ^ 31) (hb' : b < 2 ^ 31) (kt : ¬ a = b → W p l e Rm s m args below meth c H locs cells slots Q (F0 m tgt ls rest)) (kf : a = b → W p l e Rm s m args below meth c H locs cells slots Q (F0 m (pc + 3) ls rest)) : W p l e Rm s m args below meth c H locs cells slots Q (F0 m pc ls (.int (nI b) :: .int (nI a) :: rest)) := lv_icmp_ne hx hb d ht (fun h => kt (fun q => h ((nI_eq ha hb').mpr q))) (fun h => kf ((nI_eq ha hb').mp h))
theorem cn_ifeq (hx : p.tables.exec = Jvm.exec) (hb : c.code = cc) {a : Nat} {off : Int} {tgt : Nat} (d : decode cc pc = .ok (.ifCond .eq off, 3)) (ht : (pc : Int) + off = (tgt : Int)) (ha : a < 2 ^ 31) (kt : a = 0 → W p l e Rm s m args below meth c H locs cells slots Q (F0 m tgt ls rest)) (kf : ¬ a = 0 → W p l e Rm s m args below meth c H locs cells slots Q (F0 m (pc + 3) ls rest)) : W p l e Rm s m args below meth c H locs cells slots Q (F0 m pc ls (.int (nI a) :: rest)) := lv_if_eq hx hb d ht (fun h => kt ((nI_eq ha (by decide)).mp h)) (fun h => kf (fun q => h (by rw [q]; rfl)))
theorem cn_ifne (hx : p.tables.exec = Jvm.exec) (hb : c.code = cc) {a : Nat} {off : Int} {tgt : Nat} (d : decode cc pc = .ok (.ifCond .ne off, 3)) (ht : (pc : Int) + off = (tgt : Int)) (ha : a < 2 ^ 31) (kt : ¬ a = 0 → W p l e Rm s m args below meth c H locs cells slots Q (F0 m tgt ls rest)) (kf : a = 0 → W p l e Rm s m args below meth c H locs cells slots Q (F0 m (pc + 3) ls rest)) : W p l e Rm s m args below meth c H locs cells slots Q (F0 m pc ls (.int (nI a) :: rest)) := lv_if_ne hx hb d ht (fun h => kt (fun q => h (by rw [q]; rfl))) (fun h => kf ((nI_eq ha (by decide)).mp h))
theorem cn_ifle (hx : p.tables.exec = Jvm.exec) (hb : c.code = cc) {a : Nat} {off : Int} {tgt : Nat} (d : decode cc pc = .ok (.ifCond .le off, 3)) (ht : (pc : Int) + off = (tgt : Int)) (ha : a < 2 ^ 31) (kt : a = 0 → W p l e Rm s m args below meth c H locs cells slots Q (F0 m tgt ls rest)) (kf : ¬ a = 0 → W p l e Rm s m args below meth c H locs cells slots Q (F0 m (pc + 3) ls rest)) : W p l e Rm s m args below meth c H locs cells slots Q (F0 m pc ls (.int (nI a) :: rest)) := lv_if_le hx hb d ht (fun h => kt (Nat.le_zero.mp ((nI_leI ha (b := 0) (by decide)).mp h))) (fun h => kf (fun q => h (by rw [q]; decide)))
theorem cn_iflt (hx : p.tables.exec = Jvm.exec) (hb : c.code = cc) {a : Nat} {off : Int} {tgt : Nat} (d : decode cc pc = .ok (.ifCond .lt off, 3)) (ht : (pc : Int) + off = (tgt : Int)) (ha : a < 2 ^ 31) (kf : W p l e Rm s m args below meth c H locs cells slots Q (F0 m (pc + 3) ls rest)) : W p l e Rm s m args below meth c H locs cells slots Q (F0 m pc ls (.int (nI a) :: rest)) := lv_if_lt hx hb d ht (fun h => absurd h (nI_pos ha)) (fun _ => kf)
theorem cn_ifge (hx : p.tables.exec = Jvm.exec) (hb : c.code = cc) {a : Nat} {off : Int} {tgt : Nat} (d : decode cc pc = .ok (.ifCond .ge off, 3)) (ht : (pc : Int) + off = (tgt : Int)) (ha : a < 2 ^ 31) (kt : W p l e Rm s m args below meth c H locs cells slots Q (F0 m tgt ls rest)) : W p l e Rm s m args below meth c H locs cells slots Q (F0 m pc ls (.int (nI a) :: rest)) := lv_if_ge hx hb d ht (fun _ => kt) (fun h => absurd (nI_pos' ha) h)
theorem cn_iflt_m (hx : p.tables.exec = Jvm.exec) (hb : c.code = cc) {off : Int} {tgt : Nat} (d : decode cc pc = .ok (.ifCond .lt off, 3)) (ht : (pc : Int) + off = (tgt : Int)) (kt : W p l e Rm s m args below meth c H locs cells slots Q (F0 m tgt ls rest)) : W p l e Rm s m args below meth c H locs cells slots Q (F0 m pc ls (.int (cd_m 0) :: rest)) := lv_if_lt hx hb d ht (fun _ => kt) (fun h => absurd cd_m0 h)
theorem cb_ifeq (hx : p.tables.exec = Jvm.exec) (hb : c.code = cc) {b : Bool} {off : Int} {tgt : Nat} (d : decode cc pc = .ok (.ifCond .eq off, 3)) (ht : (pc : Int) + off = (tgt : Int)) (kt : b = false → W p l e Rm s m args below meth c H locs cells slots Q (F0 m tgt ls rest)) (kf : b = true → W p l e Rm s m args below meth c H locs cells slots Q (F0 m (pc + 3) ls rest)) : W p l e Rm s m args below meth c H locs cells slots Q (F0 m pc ls (.int (cd_b b) :: rest)) := lv_if_eq hx hb d ht (fun h => kt (cd_b0 h)) (fun h => kf (cd_b1 h))
theorem cb_ifne (hx : p.tables.exec = Jvm.exec) (hb : c.code = cc) {b : Bool} {off : Int} {tgt : Nat} (d : decode cc pc = .ok (.ifCond .ne off, 3)) (ht : (pc : Int) + off = (tgt : Int)) (kt : b = true → W p l e Rm s m args below meth c H locs cells slots Q (F0 m tgt ls rest)) (kf : b = false → W p l e Rm s m args below meth c H locs cells slots Q (F0 m (pc + 3) ls rest)) : W p l e Rm s m args below meth c H locs cells slots Q (F0 m pc ls (.int (cd_b b) :: rest)) := lv_if_ne hx hb d ht (fun h => kt (cd_b1 h)) (fun h => kf (cd_b0 h))
theorem cb_ne1 (hx : p.tables.exec = Jvm.exec) (hb : c.code = cc) {b : Bool} {off : Int} {tgt : Nat} (d : decode cc pc = .ok (.if_icmp .ne off, 3)) (ht : (pc : Int) + off = (tgt : Int)) (kt : b = false → W p l e Rm s m args below meth c H locs cells slots Q (F0 m tgt ls rest)) (kf : b = true → W p l e Rm s m args below meth c H locs cells slots Q (F0 m (pc + 3) ls rest)) : W p l e Rm s m args below meth c H locs cells slots Q (F0 m pc ls (.int (nI 1) :: .int (cd_b b) :: rest)) := lv_icmp_ne hx hb d ht (fun h => kt (by cases b; rfl; exact absurd rfl h)) (fun h => kf (by cases b; exact absurd h (by decide); rfl))
theorem gx_held (hx : p.tables.exec = Jvm.exec) (hb : c.code = cc) (hts : ∀ w ∈ lw_all, w.before args s = true) (hown : s.vm.findClass RX0 = some m.cls) {tys : List (ClassId × FieldType)} (hK : va_K D vwCl tys s) (hP : va_P D vwCl (cd_DW a z h R O C rk lf tk) H) (d : decode cc pc = .ok (.getfield 7, 3)) (kk : W p l e Rm s m args below meth c H locs cells slots Q (F0 m (pc + 3) ls (.ref (a 1) :: rest))) : W p l e Rm s m args below meth c H locs cells slots Q (F0 m pc ls (.ref (a 0) :: rest)) := va_get (D := D) (ci := 0) (v := .ref (a 1)) (C := RX0) (T := TX0) (N := 7) hx hb hts in_X0 hown hK hP 0 rfl rfl 0 (by decide) (hts _ q25) (fun _ h9 => h9) rfl d kk
theorem gx_row (hx : p.tables.exec = Jvm.exec) (hb : c.code = cc) (hts : ∀ w ∈ lw_all, w.before args s = true) (hown : s.vm.findClass RX0 = some m.cls) {tys : List (ClassId × FieldType)} (hK : va_K D vwCl tys s) (hP : va_P D vwCl (cd_DW a z h R O C rk lf tk) H) (d : decode cc pc = .ok (.getfield 13, 3)) (kk : W p l e Rm s m args below meth c H locs cells slots Q (F0 m (pc + 3) ls (.ref (a 2) :: rest))) : W p l e Rm s m args below meth c H locs cells slots Q (F0 m pc ls (.ref (a 0) :: rest)) := va_get (D := D) (ci := 0) (v := .ref (a 2)) (C := RX0) (T := TX0) (N := 7) hx hb hts in_X0 hown hK hP 0 rfl rfl 1 (by decide) (hts _ q26) (fun _ h9 => h9) rfl d kk
theorem gx_origin (hx : p.tables.exec = Jvm.exec) (hb : c.code = cc) (hts : ∀ w ∈ lw_all, w.before args s = true) (hown : s.vm.findClass RX0 = some m.cls) {tys : List (ClassId × FieldType)} (hK : va_K D vwCl tys s) (hP : va_P D vwCl (cd_DW a z h R O C rk lf tk) H) (d : decode cc pc = .ok (.getfield 17, 3)) (kk : W p l e Rm s m args below meth c H locs cells slots Q (F0 m (pc + 3) ls (.ref (a 3) :: rest))) : W p l e Rm s m args below meth c H locs cells slots Q (F0 m pc ls (.ref (a 0) :: rest)) := va_get (D := D) (ci := 0) (v := .ref (a 3)) (C := RX0) (T := TX0) (N := 7) hx hb hts in_X0 hown hK hP 0 rfl rfl 2 (by decide) (hts _ q27) (fun _ h9 => h9) rfl d kk
theorem gx_cycle (hx : p.tables.exec = Jvm.exec) (hb : c.code = cc) (hts : ∀ w ∈ lw_all, w.before args s = true) (hown : s.vm.findClass RX0 = some m.cls) {tys : List (ClassId × FieldType)} (hK : va_K D vwCl tys s) (hP : va_P D vwCl (cd_DW a z h R O C rk lf tk) H) (d : decode cc pc = .ok (.getfield 20, 3)) (kk : W p l e Rm s m args below meth c H locs cells slots Q (F0 m (pc + 3) ls (.ref (a 4) :: rest))) : W p l e Rm s m args below meth c H locs cells slots Q (F0 m pc ls (.ref (a 0) :: rest)) := va_get (D := D) (ci := 0) (v := .ref (a 4)) (C := RX0) (T := TX0) (N := 7) hx hb hts in_X0 hown hK hP 0 rfl rfl 3 (by decide) (hts _ q28) (fun _ h9 => h9) rfl d kk
theorem gx_rank (hx : p.tables.exec = Jvm.exec) (hb : c.code = cc) (hts : ∀ w ∈ lw_all, w.before args s = true) (hown : s.vm.findClass RX0 = some m.cls) {tys : List (ClassId × FieldType)} (hK : va_K D vwCl tys s) (hP : va_P D vwCl (cd_DW a z h R O C rk lf tk) H) (d : decode cc pc = .ok (.getfield 46, 3)) (kk : W p l e Rm s m args below meth c H locs cells slots Q (F0 m (pc + 3) ls (.int (nI rk) :: rest))) : W p l e Rm s m args below meth c H locs cells slots Q (F0 m pc ls (.ref (a 0) :: rest)) := va_get (D := D) (ci := 0) (v := .int (nI rk)) (C := RX0) (T := TX0) (N := 7) hx hb hts in_X0 hown hK hP 0 rfl rfl 4 (by decide) (hts _ q29) (fun _ h9 => h9) rfl d kk
theorem gx_left (hx : p.tables.exec = Jvm.exec) (hb : c.code = cc) (hts : ∀ w ∈ lw_all, w.before args s = true) (hown : s.vm.findClass RX0 = some m.cls) {tys : List (ClassId × FieldType)} (hK : va_K D vwCl tys s) (hP : va_P D vwCl (cd_DW a z h R O C rk lf tk) H) (d : decode cc pc = .ok (.getfield 53, 3)) (kk : W p l e Rm s m args below meth c H locs cells slots Q (F0 m (pc + 3) ls (.int (nI lf) :: rest))) : W p l e Rm s m args below meth c H locs cells slots Q (F0 m pc ls (.ref (a 0) :: rest)) := va_get (D := D) (ci := 0) (v := .int (nI lf)) (C := RX0) (T := TX0) (N := 7) hx hb hts in_X0 hown hK hP 0 rfl rfl 5 (by decide) (hts _ q30) (fun _ h9 => h9) rfl d kk
theorem gx_taken (hx : p.tables.exec = Jvm.exec) (hb : c.code = cc) (hts : ∀ w ∈ lw_all, w.before args s = true) (hown : s.vm.findClass RX0 = some m.cls) {tys : List (ClassId × FieldType)} (hK : va_K D vwCl tys s) (hP : va_P D vwCl (cd_DW a z h R O C rk lf tk) H) (d : decode cc pc = .ok (.getfield 56, 3)) (kk : W p l e Rm s m args below meth c H locs cells slots Q (F0 m (pc + 3) ls (.int (nI tk) :: rest))) : W p l e Rm s m args below meth c H locs cells slots Q (F0 m pc ls (.ref (a 0) :: rest)) := va_get (D := D) (ci := 0) (v := .int (nI tk)) (C := RX0) (T := TX0) (N := 7) hx hb hts in_X0 hown hK hP 0 rfl rfl 6 (by decide) (hts _ q31) (fun _ h9 => h9) rfl d kk
theorem gy_held (hx : p.tables.exec = Jvm.exec) (hb : c.code = cc) (hts : ∀ w ∈ lw_all, w.before args s = true) (hown : s.vm.findClass RX1 = some m.cls) {tys : List (ClassId × FieldType)} (hK : va_K D vwCl tys s) (hP : va_P D vwCl (cd_MW a z h M) H) (d : decode cc pc = .ok (.getfield 7, 3)) (kk : W p l e Rm s m args below meth c H locs cells slots Q (F0 m (pc + 3) ls (.ref (a 1) :: rest))) : W p l e Rm s m args below meth c H locs cells slots Q (F0 m pc ls (.ref (a 0) :: rest)) := va_get (D := D) (ci := 1) (v := .ref (a 1)) (C := RX1) (T := TX1) (N := 2) hx hb hts in_X1 hown hK hP 0 rfl rfl 0 (by decide) (hts _ q140) (fun _ h9 => h9) rfl d kk
theorem gy_marked (hx : p.tables.exec = Jvm.exec) (hb : c.code = cc) (hts : ∀ w ∈ lw_all, w.before args s = true) (hown : s.vm.findClass RX1 = some m.cls) {tys : List (ClassId × FieldType)} (hK : va_K D vwCl tys s) (hP : va_P D vwCl (cd_MW a z h M) H) (d : decode cc pc = .ok (.getfield 13, 3)) (kk : W p l e Rm s m args below meth c H locs cells slots Q (F0 m (pc + 3) ls (.ref (a 2) :: rest))) : W p l e Rm s m args below meth c H locs cells slots Q (F0 m pc ls (.ref (a 0) :: rest)) := va_get (D := D) (ci := 1) (v := .ref (a 2)) (C := RX1) (T := TX1) (N := 2) hx hb hts in_X1 hown hK hP 0 rfl rfl 1 (by decide) (hts _ q141) (fun _ h9 => h9) rfl d kk
theorem px_rank (hx : p.tables.exec = Jvm.exec) (hb : c.code = cc) (hts : ∀ w ∈ lw_all, w.before args s = true) (hown : s.vm.findClass RX0 = some m.cls) {tys : List (ClassId × FieldType)} (hK : va_K D vwCl tys s) (hD : va_D A (cd_DW a z h R O C rk lf tk)) (hP : va_P D vwCl (cd_DW a z h R O C rk lf tk) H) (hS : va_S A H0 H locs) {v : Nat} (d : decode cc pc = .ok (.putfield 46, 3)) (kk : ∀ (H1 : Heap) (locs1 : List Loc), va_P D vwCl (cd_DW a z h R O C v lf tk) H1 → va_D A (cd_DW a z h R O C v lf tk) → va_S A H0 H1 locs1 → W p l e Rm s m args below meth c H1 locs1 cells slots Q (F0 m (pc + 3) ls rest)) : W p l e Rm s m args below meth c H locs cells slots Q (F0 m pc ls (.int (nI v) :: .ref (a 0) :: rest)) := va_put (D := D) (ci := 0) (v := .int (nI v)) (ty := .int) (C := RX0) (T := TX0) (N := 7) hx hb hts in_X0 tyX0 tyX0_ok nmX0 hown hK hP hD hS 0 rfl rfl 4 (by decide) (hts _ q29) (fun _ h9 => h9) rfl (by decide +kernel) rfl rfl (Nat.le_of_ble_eq_true rfl) d (fun H1 l1 h1 h2 h3 => kk H1 l1 h1 h2 h3)
theorem px_left (hx : p.tables.exec = Jvm.exec) (hb : c.code = cc) (hts : ∀ w ∈ lw_all, w.before args s = true) (hown : s.vm.findClass RX0 = some m.cls) {tys : List (ClassId × FieldType)} (hK : va_K D vwCl tys s) (hD : va_D A (cd_DW a z h R O C rk lf tk)) (hP : va_P D vwCl (cd_DW a z h R O C rk lf tk) H) (hS : va_S A H0 H locs) {v : Nat} (d : decode cc pc = .ok (.putfield 53, 3)) (kk : ∀ (H1 : Heap) (locs1 : List Loc), va_P D vwCl (cd_DW a z h R O C rk v tk) H1 → va_D A (cd_DW a z h R O C rk v tk) → va_S A H0 H1 locs1 → W p l e Rm s m args below meth c H1 locs1 cells slots Q (F0 m (pc + 3) ls rest)) : W p l e Rm s m args below meth c H locs cells slots Q (F0 m pc ls (.int (nI v) :: .ref (a 0) :: rest)) := va_put (D := D) (ci := 0) (v := .int (nI v)) (ty := .int) (C := RX0) (T := TX0) (N := 7) hx hb hts in_X0 tyX0 tyX0_ok nmX0 hown hK hP hD hS 0 rfl rfl 5 (by decide) (hts _ q30) (fun _ h9 => h9) rfl (by decide +kernel) rfl rfl (Nat.le_of_ble_eq_true rfl) d (fun H1 l1 h1 h2 h3 => kk H1 l1 h1 h2 h3)
theorem px_taken (hx : p.tables.exec = Jvm.exec) (hb : c.code = cc) (hts : ∀ w ∈ lw_all, w.before args s = true) (hown : s.vm.findClass RX0 = some m.cls) {tys : List (ClassId × FieldType)} (hK : va_K D vwCl tys s) (hD : va_D A (cd_DW a z h R O C rk lf tk)) (hP : va_P D vwCl (cd_DW a z h R O C rk lf tk) H) (hS : va_S A H0 H locs) {v : Nat} (d : decode cc pc = .ok (.putfield 56, 3)) (kk : ∀ (H1 : Heap) (locs1 : List Loc), va_P D vwCl (cd_DW a z h R O C rk lf v) H1 → va_D A (cd_DW a z h R O C rk lf v) → va_S A H0 H1 locs1 → W p l e Rm s m args below meth c H1 locs1 cells slots Q (F0 m (pc + 3) ls rest)) : W p l e Rm s m args below meth c H locs cells slots Q (F0 m pc ls (.int (nI v) :: .ref (a 0) :: rest)) := va_put (D := D) (ci := 0) (v := .int (nI v)) (ty := .int) (C := RX0) (T := TX0) (N := 7) hx hb hts in_X0 tyX0 tyX0_ok nmX0 hown hK hP hD hS 0 rfl rfl 6 (by decide) (hts _ q31) (fun _ h9 => h9) rfl (by decide +kernel) rfl rfl (Nat.le_of_ble_eq_true rfl) d (fun H1 l1 h1 h2 h3 => kk H1 l1 h1 h2 h3)
theorem ax_held (hx : p.tables.exec = Jvm.exec) (hb : c.code = cc) (hK : va_K D vwCl (cd_DT z) s) (hP : va_P D vwCl (cd_DW a z h R O C rk lf tk) H) {i : Nat} (hi : i < 32) (d : decode cc pc = .ok (.baload, 1)) (kk : W p l e Rm s m args below meth c H locs cells slots Q (F0 m (pc + 1) ls (.int (cd_b (h i)) :: rest))) : W p l e Rm s m args below meth c H locs cells slots Q (F0 m pc ls (.int (nI i) :: .ref (a 1) :: rest)) := by
  refine va_zald hx hb hK hP 1 0 rfl rfl (vp_in_nI hi (by decide)) d ?_
  rw [cd_clamp hi (by decide)]
  exact kk
theorem sx_held (hx : p.tables.exec = Jvm.exec) (hb : c.code = cc) (hK : va_K D vwCl (cd_DT z) s) (hP : va_P D vwCl (cd_DW a z h R O C rk lf tk) H) (hD : va_D A (cd_DW a z h R O C rk lf tk)) (hS : va_S A H0 H locs) {i : Nat} {x : Int32} (v : Bool) (hv : x = cd_b v) (hi : i < 32) (d : decode cc pc = .ok (.bastore, 1)) (kk : ∀ (H1 : Heap) (locs1 : List Loc), va_P D vwCl (cd_DW a z (cd_up h i v) R O C rk lf tk) H1 → va_D A (cd_DW a z (cd_up h i v) R O C rk lf tk) → va_S A H0 H1 locs1 → W p l e Rm s m args below meth c H1 locs1 cells slots Q (F0 m (pc + 1) ls rest)) : W p l e Rm s m args below meth c H locs cells slots Q (F0 m pc ls (.int x :: .int (nI i) :: .ref (a 1) :: rest)) := by
  refine va_zast hx hb hK hP hD hS 1 0 rfl rfl (vp_in_nI hi (by decide)) d (fun H1 l1 h1 h2 h3 => ?_)
  have e1 : upd (cd_BF h) (nI i).toNatClampNeg (vp_nar .boolean x) = cd_BF (cd_up h i v) := by rw [cd_clamp hi (by decide), hv, cd_nar, cd_BF_up]
  rw [e1] at h1 h2
  exact kk H1 l1 h1 h2 h3
theorem ax_row (hx : p.tables.exec = Jvm.exec) (hb : c.code = cc) (hK : va_K D vwCl (cd_DT z) s) (hP : va_P D vwCl (cd_DW a z h R O C rk lf tk) H) {i : Nat} (hi : i < 10) (d : decode cc pc = .ok (.iaload, 1)) (kk : W p l e Rm s m args below meth c H locs cells slots Q (F0 m (pc + 1) ls (.int (nI (R i)) :: rest))) : W p l e Rm s m args below meth c H locs cells slots Q (F0 m pc ls (.int (nI i) :: .ref (a 2) :: rest)) := by
  refine va_iald hx hb hK hP 2 1 rfl rfl (vp_in_nI hi (by decide)) d ?_
  rw [cd_clamp hi (by decide)]
  exact kk
theorem sx_row (hx : p.tables.exec = Jvm.exec) (hb : c.code = cc) (hK : va_K D vwCl (cd_DT z) s) (hP : va_P D vwCl (cd_DW a z h R O C rk lf tk) H) (hD : va_D A (cd_DW a z h R O C rk lf tk)) (hS : va_S A H0 H locs) {i v : Nat} (hi : i < 10) (d : decode cc pc = .ok (.iastore, 1)) (kk : ∀ (H1 : Heap) (locs1 : List Loc), va_P D vwCl (cd_DW a z h (cd_up R i v) O C rk lf tk) H1 → va_D A (cd_DW a z h (cd_up R i v) O C rk lf tk) → va_S A H0 H1 locs1 → W p l e Rm s m args below meth c H1 locs1 cells slots Q (F0 m (pc + 1) ls rest)) : W p l e Rm s m args below meth c H locs cells slots Q (F0 m pc ls (.int (nI v) :: .int (nI i) :: .ref (a 2) :: rest)) := by
  refine va_iast hx hb hK hP hD hS 2 1 rfl rfl (vp_in_nI hi (by decide)) d (fun H1 l1 h1 h2 h3 => ?_)
  have e1 : upd (cd_NF R) (nI i).toNatClampNeg (nI v) = cd_NF (cd_up R i v) := by rw [cd_clamp hi (by decide), cd_NF_up]
  rw [e1] at h1 h2
  exact kk H1 l1 h1 h2 h3
theorem ax_origin (hx : p.tables.exec = Jvm.exec) (hb : c.code = cc) (hK : va_K D vwCl (cd_DT z) s) (hP : va_P D vwCl (cd_DW a z h R O C rk lf tk) H) {i : Nat} (hi : i < 10) (d : decode cc pc = .ok (.iaload, 1)) (kk : W p l e Rm s m args below meth c H locs cells slots Q (F0 m (pc + 1) ls (.int (nI (O i)) :: rest))) : W p l e Rm s m args below meth c H locs cells slots Q (F0 m pc ls (.int (nI i) :: .ref (a 3) :: rest)) := by
  refine va_iald hx hb hK hP 3 2 rfl rfl (vp_in_nI hi (by decide)) d ?_
  rw [cd_clamp hi (by decide)]
  exact kk
theorem sx_origin (hx : p.tables.exec = Jvm.exec) (hb : c.code = cc) (hK : va_K D vwCl (cd_DT z) s) (hP : va_P D vwCl (cd_DW a z h R O C rk lf tk) H) (hD : va_D A (cd_DW a z h R O C rk lf tk)) (hS : va_S A H0 H locs) {i v : Nat} (hi : i < 10) (d : decode cc pc = .ok (.iastore, 1)) (kk : ∀ (H1 : Heap) (locs1 : List Loc), va_P D vwCl (cd_DW a z h R (cd_up O i v) C rk lf tk) H1 → va_D A (cd_DW a z h R (cd_up O i v) C rk lf tk) → va_S A H0 H1 locs1 → W p l e Rm s m args below meth c H1 locs1 cells slots Q (F0 m (pc + 1) ls rest)) : W p l e Rm s m args below meth c H locs cells slots Q (F0 m pc ls (.int (nI v) :: .int (nI i) :: .ref (a 3) :: rest)) := by
  refine va_iast hx hb hK hP hD hS 3 2 rfl rfl (vp_in_nI hi (by decide)) d (fun H1 l1 h1 h2 h3 => ?_)
  have e1 : upd (cd_NF O) (nI i).toNatClampNeg (nI v) = cd_NF (cd_up O i v) := by rw [cd_clamp hi (by decide), cd_NF_up]
  rw [e1] at h1 h2
  exact kk H1 l1 h1 h2 h3
theorem ax_cycle (hx : p.tables.exec = Jvm.exec) (hb : c.code = cc) (hK : va_K D vwCl (cd_DT z) s) (hP : va_P D vwCl (cd_DW a z h R O C rk lf tk) H) {i : Nat} (hi : i < 10) (d : decode cc pc = .ok (.iaload, 1)) (kk : W p l e Rm s m args below meth c H locs cells slots Q (F0 m (pc + 1) ls (.int (nI (C i)) :: rest))) : W p l e Rm s m args below meth c H locs cells slots Q (F0 m pc ls (.int (nI i) :: .ref (a 4) :: rest)) := by
  refine va_iald hx hb hK hP 4 3 rfl rfl (vp_in_nI hi (by decide)) d ?_
  rw [cd_clamp hi (by decide)]
  exact kk
theorem sx_cycle (hx : p.tables.exec = Jvm.exec) (hb : c.code = cc) (hK : va_K D vwCl (cd_DT z) s) (hP : va_P D vwCl (cd_DW a z h R O C rk lf tk) H) (hD : va_D A (cd_DW a z h R O C rk lf tk)) (hS : va_S A H0 H locs) {i v : Nat} (hi : i < 10) (d : decode cc pc = .ok (.iastore, 1)) (kk : ∀ (H1 : Heap) (locs1 : List Loc), va_P D vwCl (cd_DW a z h R O (cd_up C i v) rk lf tk) H1 → va_D A (cd_DW a z h R O (cd_up C i v) rk lf tk) → va_S A H0 H1 locs1 → W p l e Rm s m args below meth c H1 locs1 cells slots Q (F0 m (pc + 1) ls rest)) : W p l e Rm s m args below meth c H locs cells slots Q (F0 m pc ls (.int (nI v) :: .int (nI i) :: .ref (a 4) :: rest)) := by
  refine va_iast hx hb hK hP hD hS 4 3 rfl rfl (vp_in_nI hi (by decide)) d (fun H1 l1 h1 h2 h3 => ?_)
  have e1 : upd (cd_NF C) (nI i).toNatClampNeg (nI v) = cd_NF (cd_up C i v) := by rw [cd_clamp hi (by decide), cd_NF_up]
  rw [e1] at h1 h2
  exact kk H1 l1 h1 h2 h3
theorem ay_held (hx : p.tables.exec = Jvm.exec) (hb : c.code = cc) (hK : va_K D vwCl (cd_MT z) s) (hP : va_P D vwCl (cd_MW a z h M) H) {i : Nat} (hi : i < 32) (d : decode cc pc = .ok (.baload, 1)) (kk : W p l e Rm s m args below meth c H locs cells slots Q (F0 m (pc + 1) ls (.int (cd_b (h i)) :: rest))) : W p l e Rm s m args below meth c H locs cells slots Q (F0 m pc ls (.int (nI i) :: .ref (a 1) :: rest)) := by
  refine va_zald hx hb hK hP 1 0 rfl rfl (vp_in_nI hi (by decide)) d ?_
  rw [cd_clamp hi (by decide)]
  exact kk
theorem sy_held (hx : p.tables.exec = Jvm.exec) (hb : c.code = cc) (hK : va_K D vwCl (cd_MT z) s) (hP : va_P D vwCl (cd_MW a z h M) H) (hD : va_D A (cd_MW a z h M)) (hS : va_S A H0 H locs) {i : Nat} {x : Int32} (v : Bool) (hv : x = cd_b v) (hi : i < 32) (d : decode cc pc = .ok (.bastore, 1)) (kk : ∀ (H1 : Heap) (locs1 : List Loc), va_P D vwCl (cd_MW a z (cd_up h i v) M) H1 → va_D A (cd_MW a z (cd_up h i v) M) → va_S A H0 H1 locs1 → W p l e Rm s m args below meth c H1 locs1 cells slots Q (F0 m (pc + 1) ls rest)) : W p l e Rm s m args below meth c H locs cells slots Q (F0 m pc ls (.int x :: .int (nI i) :: .ref (a 1) :: rest)) := by
  refine va_zast hx hb hK hP hD hS 1 0 rfl rfl (vp_in_nI hi (by decide)) d (fun H1 l1 h1 h2 h3 => ?_)
  have e1 : upd (cd_BF h) (nI i).toNatClampNeg (vp_nar .boolean x) = cd_BF (cd_up h i v) := by rw [cd_clamp hi (by decide), hv, cd_nar, cd_BF_up]
  rw [e1] at h1 h2
  exact kk H1 l1 h1 h2 h3
theorem ay_marked (hx : p.tables.exec = Jvm.exec) (hb : c.code = cc) (hK : va_K D vwCl (cd_MT z) s) (hP : va_P D vwCl (cd_MW a z h M) H) {i : Nat} (hi : i < 1024) (d : decode cc pc = .ok (.baload, 1)) (kk : W p l e Rm s m args below meth c H locs cells slots Q (F0 m (pc + 1) ls (.int (cd_b (M i)) :: rest))) : W p l e Rm s m args below meth c H locs cells slots Q (F0 m pc ls (.int (nI i) :: .ref (a 2) :: rest)) := by
  refine va_zald hx hb hK hP 2 1 rfl rfl (vp_in_nI hi (by decide)) d ?_
  rw [cd_clamp hi (by decide)]
  exact kk
theorem sy_marked (hx : p.tables.exec = Jvm.exec) (hb : c.code = cc) (hK : va_K D vwCl (cd_MT z) s) (hP : va_P D vwCl (cd_MW a z h M) H) (hD : va_D A (cd_MW a z h M)) (hS : va_S A H0 H locs) {i : Nat} {x : Int32} (v : Bool) (hv : x = cd_b v) (hi : i < 1024) (d : decode cc pc = .ok (.bastore, 1)) (kk : ∀ (H1 : Heap) (locs1 : List Loc), va_P D vwCl (cd_MW a z h (cd_up M i v)) H1 → va_D A (cd_MW a z h (cd_up M i v)) → va_S A H0 H1 locs1 → W p l e Rm s m args below meth c H1 locs1 cells slots Q (F0 m (pc + 1) ls rest)) : W p l e Rm s m args below meth c H locs cells slots Q (F0 m pc ls (.int x :: .int (nI i) :: .ref (a 2) :: rest)) := by
  refine va_zast hx hb hK hP hD hS 2 1 rfl rfl (vp_in_nI hi (by decide)) d (fun H1 l1 h1 h2 h3 => ?_)
  have e1 : upd (cd_BF M) (nI i).toNatClampNeg (vp_nar .boolean x) = cd_BF (cd_up M i v) := by rw [cd_clamp hi (by decide), hv, cd_nar, cd_BF_up]
  rw [e1] at h1 h2
  exact kk H1 l1 h1 h2 h3
theorem cd_callV {y : MethodName} {bytes : ByteArray} {maxL nL n index : Nat} {ret : Option FieldType} {rm : Room} {own C : String} {As st : List Value} {b : Nat} {w w' : va_W} {tys : List (ClassId × FieldType)} {v : Int32} {ws : List Cond} (rest : List Value)
    (hx : p.tables.exec = Jvm.exec) (hb : c.code = cc) (hml : c.maxLocals = nL) (hown : s.vm.findClass own = some m.cls) (hts : ∀ w ∈ lw_all, w.before args s = true) (hA : ∀ q, H0.size ≤ q → A q)
    (hM : cd_I l y ws rm (.ref b :: As) D tys w v w') (cw : CallW Rm s args own C index y bytes maxL ret ws rm 0 0 n) (hK : va_K D vwCl tys s) (hD : va_D A w) (hP : va_P D vwCl w H) (hS : va_S A H0 H locs) (hw : w'.map Prod.fst = w.map Prod.fst) (hrc : ∃ cell : Cell, H[b]? = some cell ∧ cell.vm.isStatics = false ∧ s.vm.findClass C = some cell.cls)
    (hl : ls.size = nL) (hn : As.length = n) (hst : st = As.reverse ++ .ref b :: rest) (hroom : (rest.map fun v => v.category).sum ≤ 8) (d : decode cc pc = .ok (.invokevirtual index, 3)) (hc : cells ≤ Rm.cells ∧ slots ≤ Rm.slots)
    (kk : ∀ (H1 : Heap) (locs1 : List Loc), va_P D vwCl w' H1 → va_D A w' → va_S A H0 H1 locs1 → W p l e Rm s m args below meth c H1 locs1 cells slots Q (F0 m (pc + 3) ls (.int v :: rest))) : W p l e Rm s m args below meth c H locs cells slots Q (F0 m pc ls st) := by
  have hF : ∀ q, va_A w H.size q → A q := fun q h => by
    rcases h with ⟨k, e, h⟩ | h
    · exact hD.2 k (q, e) h
    · exact hA q (Nat.le_trans hS.1 h)
  refine va_calli (va_runV (As := As) (rest := rest) ⟨hx, hb, hml, hown, hts⟩ (hM H.size) cw ⟨fun a U g mk q => by obtain ⟨q0, q1, qP, qK, qD⟩ := q; exact ⟨q0, q1, qP, va_K.moved (u := U) (U := U.calling g mk a) (Vm.Alike.refl U.vm) qK, qD⟩, hrc, fun U hU hW => ⟨rfl, by rw [hU], by rw [hU]; exact hP, va_K.moved hW.alike hK, hD.weaken (fun _ _ _ _ => trivial)⟩⟩ rfl hn hl hst (lv_room hroom) d ⟨hc.1, hc.2⟩) hS (fun q _ h => hF q h) hF (fun r u t H1 locs1 ht hvm hw1 hB hz1 hk1 hS1 => ?_)
  subst hw1
  rw [ht] at hB
  exact kk H1 locs1 hB (cd_Daddr hw hD) hS1
theorem cd_callVV {y : MethodName} {bytes : ByteArray} {maxL nL n index : Nat} {ret : Option FieldType} {rm : Room} {own C : String} {As st : List Value} {b : Nat} {w w' : va_W} {tys : List (ClassId × FieldType)} {ws : List Cond} (rest : List Value)
    (hx : p.tables.exec = Jvm.exec) (hb : c.code = cc) (hml : c.maxLocals = nL) (hown : s.vm.findClass own = some m.cls) (hts : ∀ w ∈ lw_all, w.before args s = true) (hA : ∀ q, H0.size ≤ q → A q)
    (hM : cd_V l y ws rm (.ref b :: As) D tys w w') (cw : CallW Rm s args own C index y bytes maxL ret ws rm 0 0 n) (hK : va_K D vwCl tys s) (hD : va_D A w) (hP : va_P D vwCl w H) (hS : va_S A H0 H locs) (hw : w'.map Prod.fst = w.map Prod.fst) (hrc : ∃ cell : Cell, H[b]? = some cell ∧ cell.vm.isStatics = false ∧ s.vm.findClass C = some cell.cls)
    (hl : ls.size = nL) (hn : As.length = n) (hst : st = As.reverse ++ .ref b :: rest) (hroom : (rest.map fun v => v.category).sum ≤ 8) (d : decode cc pc = .ok (.invokevirtual index, 3)) (hc : cells ≤ Rm.cells ∧ slots ≤ Rm.slots)
    (kk : ∀ (H1 : Heap) (locs1 : List Loc), va_P D vwCl w' H1 → va_D A w' → va_S A H0 H1 locs1 → W p l e Rm s m args below meth c H1 locs1 cells slots Q (F0 m (pc + 3) ls (rest))) : W p l e Rm s m args below meth c H locs cells slots Q (F0 m pc ls st) := by
  have hF : ∀ q, va_A w H.size q → A q := fun q h => by
    rcases h with ⟨k, e, h⟩ | h
    · exact hD.2 k (q, e) h
    · exact hA q (Nat.le_trans hS.1 h)
  refine va_callv (va_runV (As := As) (rest := rest) ⟨hx, hb, hml, hown, hts⟩ (hM H.size) cw ⟨fun a U g mk q => by obtain ⟨q0, q1, qP, qK, qD⟩ := q; exact ⟨q0, q1, qP, va_K.moved (u := U) (U := U.calling g mk a) (Vm.Alike.refl U.vm) qK, qD⟩, hrc, fun U hU hW => ⟨rfl, by rw [hU], by rw [hU]; exact hP, va_K.moved hW.alike hK, hD.weaken (fun _ _ _ _ => trivial)⟩⟩ rfl hn hl hst (lv_room hroom) d ⟨hc.1, hc.2⟩) hS (fun q _ h => hF q h) hF (fun u t H1 locs1 ht hvm hw1 hB hz1 hk1 hS1 => ?_)
  rw [ht] at hB
  exact kk H1 locs1 hB (cd_Daddr hw hD) hS1
theorem cd_callS {y : MethodName} {bytes : ByteArray} {maxL nL n index : Nat} {ret : Option FieldType} {rm : Room} {own : String} {As st : List Value} {w w' : va_W} {tys : List (ClassId × FieldType)} {v : Int32} {ws : List Cond} (rest : List Value)
    (hx : p.tables.exec = Jvm.exec) (hb : c.code = cc) (hml : c.maxLocals = nL) (hown : s.vm.findClass own = some m.cls) (hts : ∀ w ∈ lw_all, w.before args s = true) (hA : ∀ q, H0.size ≤ q → A q)
    (hM : cd_I l y ws rm (As) D tys w v w') (cw : CallB Rm s args own index y bytes maxL ret ws rm 0 0 n ∧ (Cond.static y).before args s = true) (hK : va_K D vwCl tys s) (hD : va_D A w) (hP : va_P D vwCl w H) (hS : va_S A H0 H locs) (hw : w'.map Prod.fst = w.map Prod.fst)
    (hl : ls.size = nL) (hn : As.length = n) (hst : st = As.reverse ++ rest) (hroom : (rest.map fun v => v.category).sum ≤ 8) (d : decode cc pc = .ok (.invokestatic index, 3)) (hc : cells ≤ Rm.cells ∧ slots ≤ Rm.slots)
    (kk : ∀ (H1 : Heap) (locs1 : List Loc), va_P D vwCl w' H1 → va_D A w' → va_S A H0 H1 locs1 → W p l e Rm s m args below meth c H1 locs1 cells slots Q (F0 m (pc + 3) ls (.int v :: rest))) : W p l e Rm s m args below meth c H locs cells slots Q (F0 m pc ls st) := by
  have hF : ∀ q, va_A w H.size q → A q := fun q h => by
    rcases h with ⟨k, e, h⟩ | h
    · exact hD.2 k (q, e) h
    · exact hA q (Nat.le_trans hS.1 h)
  refine va_calli (va_runS (As := As) (rest := rest) ⟨hx, hb, hml, hown, hts⟩ (hM H.size) cw ⟨fun a U g mk q => by obtain ⟨q0, q1, qP, qK, qD⟩ := q; exact ⟨q0, q1, qP, va_K.moved (u := U) (U := U.calling g mk a) (Vm.Alike.refl U.vm) qK, qD⟩, fun U hU hW => ⟨rfl, by rw [hU], by rw [hU]; exact hP, va_K.moved hW.alike hK, hD.weaken (fun _ _ _ _ => trivial)⟩⟩ rfl hn hl hst (lv_room hroom) d ⟨hc.1, hc.2⟩) hS (fun q _ h => hF q h) hF (fun r u t H1 locs1 ht hvm hw1 hB hz1 hk1 hS1 => ?_)
  subst hw1
  rw [ht] at hB
  exact kk H1 locs1 hB (cd_Daddr hw hD) hS1
end CDR
end
section
/-! what the methods compute, in plain Lean -/
/-- the number of points of a simplex: its bits below x -/
def cd_pt (s : Nat) : Nat → Nat
  | 0 => 0
  | x + 1 => cd_pt s x + (s.testBit x).toNat
def cd_pts (s : Nat) : Nat := cd_pt s 5
/-- a held simplex of d points -/
def cd_sel (h : Nat → Bool) (d s : Nat) : Bool := h s && (cd_pts s == d)
/-- how many of them lie below i -/
def cd_rk (h : Nat → Bool) (d : Nat) : Nat → Nat
  | 0 => 0
  | i + 1 => cd_rk h d i + (if cd_sel h d i then 1 else 0)
def cd_cnt (h : Nat → Bool) (k : Nat) : Nat := cd_rk h (k + 1) 32
/-- the one of place i -/
def cd_nthF (h : Nat → Bool) (d i : Nat) : Nat → Nat
  | 0 => 0
  | s + 1 => if cd_sel h d s && (cd_rk h d s == i) then s else cd_nthF h d i s
def cd_nth (h : Nat → Bool) (d i : Nat) : Nat := cd_nthF h d i 32
/-- the faces of a simplex, as a chain -/
def cd_fc (h : Nat → Bool) (s : Nat) : Nat → Nat
  | 0 => 0
  | x + 1 => cd_fc h s x ^^^ (if s.testBit x then 2 ^ cd_rk h (cd_pts (s ^^^ 2 ^ x)) (s ^^^ 2 ^ x) else 0)
/-- the desk's boundary of a chain -/
def cd_bd (h : Nat → Bool) (k c : Nat) : Nat → Nat
  | 0 => 0
  | i + 1 => cd_bd h k c i ^^^ (if (k != 0) && c.testBit i then cd_fc h (cd_nth h (k + 1) i) 5 else 0)
def cd_bnd (h : Nat → Bool) (k c : Nat) : Nat := cd_bd h k c 10
/-- taking rows off a chain, from bit b down -/
def cd_red (R O : Nat → Nat) : Nat → Nat → Nat → Nat × Nat
  | 0, l, t => (l, t)
  | b + 1, l, t => if (R b != 0) && l.testBit b then cd_red R O b (l ^^^ R b) (t ^^^ O b) else cd_red R O b l t
/-- a chain without boundary goes among the others -/
def cd_addC (C : Nat → Nat) : Nat → Nat → (Nat → Nat)
  | 0, _ => C
  | b + 1, c => if c.testBit b then (if C b = 0 then cd_up C b c else cd_addC C b (c ^^^ C b)) else cd_addC C b c
/-- the highest bit below b -/
def cd_hi (l : Nat) : Nat → Nat
  | 0 => 0
  | b + 1 => if l.testBit b then b else cd_hi l b
/-- rows, origins, cycles, rank, left, taken -/
abbrev cd_E : Type := (Nat → Nat) × (Nat → Nat) × (Nat → Nat) × Nat × Nat × Nat
def cd_es (h : Nat → Bool) (k i : Nat) (u : cd_E) : cd_E :=
  if (cd_red u.1 u.2.1 10 (cd_bnd h k (2 ^ i)) 0).1 = 0 then
    (u.1, u.2.1, cd_addC u.2.2.1 10 ((cd_red u.1 u.2.1 10 (cd_bnd h k (2 ^ i)) 0).2 ^^^ 2 ^ i), u.2.2.2.1, (cd_red u.1 u.2.1 10 (cd_bnd h k (2 ^ i)) 0).1, (cd_red u.1 u.2.1 10 (cd_bnd h k (2 ^ i)) 0).2 ^^^ 2 ^ i)
  else
    (cd_up u.1 (cd_hi (cd_red u.1 u.2.1 10 (cd_bnd h k (2 ^ i)) 0).1 10) (cd_red u.1 u.2.1 10 (cd_bnd h k (2 ^ i)) 0).1, cd_up u.2.1 (cd_hi (cd_red u.1 u.2.1 10 (cd_bnd h k (2 ^ i)) 0).1 10) ((cd_red u.1 u.2.1 10 (cd_bnd h k (2 ^ i)) 0).2 ^^^ 2 ^ i), u.2.2.1, u.2.2.2.1 + 1, (cd_red u.1 u.2.1 10 (cd_bnd h k (2 ^ i)) 0).1, (cd_red u.1 u.2.1 10 (cd_bnd h k (2 ^ i)) 0).2 ^^^ 2 ^ i)
def cd_el (h : Nat → Bool) (k : Nat) (u : cd_E) : Nat → cd_E
  | 0 => u
  | i + 1 => cd_es h k i (cd_el h k u i)
/-- an array whose first b places are 0 -/
def cd_z (R : Nat → Nat) (b : Nat) : Nat → Nat := fun j => if j < b then 0 else R j
/-- how many simplices the elimination at k goes through -/
def cd_n (h : Nat → Bool) (k : Nat) : Nat := if k ≤ 4 then cd_cnt h k else 0
def cd_elim (h : Nat → Bool) (k : Nat) (R O C : Nat → Nat) (lf tk : Nat) : cd_E := cd_el h k (cd_z R 10, cd_z O 10, cd_z C 10, 0, lf, tk) (cd_n h k)
/-- what add and remove do -/
def cd_ad (x : Nat) (h : Nat → Bool) : Nat → (Nat → Bool) × Nat
  | 0 => (h, 0)
  | s + 1 => if (s != 0) && (s &&& x == s) && !((cd_ad x h s).1 s) then (cd_up (cd_ad x h s).1 s true, (cd_ad x h s).2 + 1) else cd_ad x h s
def cd_rem (x : Nat) (h : Nat → Bool) : Nat → (Nat → Bool) × Nat
  | 0 => (h, 0)
  | s + 1 => if (s != 0) && (s &&& x == x) && (cd_rem x h s).1 s then (cd_up (cd_rem x h s).1 s false, (cd_rem x h s).2 + 1) else cd_rem x h s
/-- alternating sums -/
def cd_al (h : Nat → Bool) : Nat → Int32
  | 0 => 0
  | k + 1 => cd_al h k + (if k % 2 = 0 then nI (cd_cnt h k) else -(nI (cd_cnt h k)))
def cd_am (h : Nat → Bool) : Nat → Int32
  | 0 => 0
  | s + 1 => cd_am h s + (if (s != 0) && h s then (if cd_pts s % 2 = 1 then 1 else -1) else 0)
/-- the reference: of how many of the chain's simplices f is a face -/
def cd_od (h : Nat → Bool) (k c f : Nat) : Nat → Nat
  | 0 => 0
  | i + 1 => cd_od h k c f i + (if c.testBit i && (cd_nth h (k + 1) i &&& f == f) then 1 else 0)
def cd_mb (h : Nat → Bool) (k c : Nat) : Nat → Nat
  | 0 => 0
  | i + 1 => cd_mb h k c i ||| (if cd_od h k c (cd_nth h k i) (cd_cnt h k) % 2 = 1 then 2 ^ i else 0)
def cd_mbnd (h : Nat → Bool) (k c : Nat) : Nat := if 1 ≤ k ∧ k ≤ 4 then cd_mb h k c (cd_cnt h (k - 1)) else 0
/-- marks, and how many were new -/
def cd_mk (h : Nat → Bool) (k : Nat) (M : Nat → Bool) : Nat → (Nat → Bool) × Nat
  | 0 => (M, 0)
  | c + 1 => (cd_up (cd_mk h k M c).1 (cd_mbnd h (k + 1) c) true, (cd_mk h k M c).2 + (if (cd_mk h k M c).1 (cd_mbnd h (k + 1) c) then 0 else 1))
def cd_zB (M : Nat → Bool) (b : Nat) : Nat → Bool := fun j => if j < b then false else M j
def cd_mark (h : Nat → Bool) (k : Nat) (M : Nat → Bool) : (Nat → Bool) × Nat := cd_mk h k (cd_zB M (2 ^ cd_n h k)) (2 ^ cd_n h (k + 1))
def cd_cy (h : Nat → Bool) (k : Nat) : Nat → Nat
  | 0 => 0
  | c + 1 => cd_cy h k c + (if cd_mbnd h k c = 0 then 1 else 0)
def cd_hb (f y : Nat) : Nat → Nat → Nat
  | 0, b => b
  | n + 1, b => if f * 2 ^ b < y then cd_hb f y n (b + 1) else b
def cd_fl (h : Nat → Bool) (k x : Nat) : Nat → Nat → Int32
  | 0, _ => -2
  | n + 1, c => if cd_mbnd h (k + 1) c = x then nI c else cd_fl h k x n (c + 1)
def cd_ls (M : Nat → Bool) (x : Nat) : Nat → Nat → Nat
  | 0, _ => x
  | n + 1, c => if M (c ^^^ x) then c else cd_ls M x n (c + 1)
/-- the arguments of a call -/
def cd_dim (k : Int32) : Bool := decide (0 ≤ k) && decide (k ≤ 4)
def cd_k (k : Int32) : Nat := k.toNatClampNeg
def cd_chn (h : Nat → Bool) (k x : Int32) : Bool := cd_dim k && decide (0 ≤ x) && decide (cd_k x < 2 ^ cd_cnt h (cd_k k))
end
section
/-! facts of the plain definitions that the walks need: ranges -/
set_option maxRecDepth 100000
theorem cd_inc (i : Nat) : nI i + Int32.ofInt 1 = nI (i + 1) := nI_1 i
theorem cd_dec {a : Nat} (h : 0 < a) : nI a + Int32.ofInt (-1) = nI (a - 1) := by
  rw [cd_m1e]
  exact sb_m1 h
theorem cd_m10 : cd_m 10 = nI 9 := cd_mS 9
theorem cd_pts0 : cd_pts 0 = 0 := by decide
theorem cd_pt_le (s : Nat) : ∀ x, cd_pt s x ≤ x := by
  intro x
  induction x with
  | zero => exact Nat.le_refl _
  | succ x ih =>
    show cd_pt s x + (s.testBit x).toNat ≤ x + 1
    have := Bool.toNat_le (s.testBit x)
    omega
theorem cd_pts_le (s : Nat) : cd_pts s ≤ 5 := cd_pt_le s 5
theorem cd_rkS {h : Nat → Bool} {d i : Nat} (hs : cd_sel h d i = true) : cd_rk h d (i + 1) = cd_rk h d i + 1 := by
  show cd_rk h d i + (if cd_sel h d i = true then 1 else 0) = _
  rw [if_pos hs]
theorem cd_rkN {h : Nat → Bool} {d i : Nat} (hs : cd_sel h d i = false) : cd_rk h d (i + 1) = cd_rk h d i := by
  show cd_rk h d i + (if cd_sel h d i = true then 1 else 0) = _
  rw [if_neg (by rw [hs]; decide)]
  rfl
theorem cd_sel0 {h : Nat → Bool} {d : Nat} (hd : 0 < d) : cd_sel h d 0 = false := by
  unfold cd_sel
  have e2 : (cd_pts 0 == d) = false := by rw [cd_pts0, beq_eq_false_iff_ne]; omega
  rw [e2, Bool.and_false]
theorem cd_rk1 {h : Nat → Bool} {d : Nat} (hd : 0 < d) : cd_rk h d 1 = 0 := cd_rkN (i := 0) (cd_sel0 hd)
theorem cd_rk_le (h : Nat → Bool) (d : Nat) : ∀ i, cd_rk h d i ≤ i := by
  intro i
  induction i with
  | zero => exact Nat.le_refl _
  | succ i ih =>
    show cd_rk h d i + (if cd_sel h d i = true then 1 else 0) ≤ i + 1
    split <;> omega
theorem cd_rk_mono (h : Nat → Bool) (d : Nat) {i j : Nat} (hij : i ≤ j) : cd_rk h d i ≤ cd_rk h d j := by
  induction hij with
  | refl => exact Nat.le_refl _
  | step _ ih => exact Nat.le_trans ih (Nat.le_add_right _ _)
theorem cd_rk_lt {h : Nat → Bool} {d i j : Nat} (hs : cd_sel h d i = true) (hij : i < j) : cd_rk h d i < cd_rk h d j := by
  have := cd_rk_mono h d (show i + 1 ≤ j from hij)
  rw [cd_rkS hs] at this
  omega
theorem cd_rk_inj {h : Nat → Bool} {d i j : Nat} (hi : cd_sel h d i = true) (hj : cd_sel h d j = true) (e : cd_rk h d i = cd_rk h d j) : i = j := by
  rcases Nat.lt_trichotomy i j with q | q | q
  · have := cd_rk_lt hi q; omega
  · exact q
  · have := cd_rk_lt hj q; omega
theorem cd_nthF_spec {h : Nat → Bool} {d i : Nat} : ∀ n, i < cd_rk h d n → cd_sel h d (cd_nthF h d i n) = true ∧ cd_rk h d (cd_nthF h d i n) = i ∧ cd_nthF h d i n < n := by
  intro n
  induction n with
  | zero => intro q; exact absurd q (Nat.not_lt_zero _)
  | succ n ih =>
    intro q
    by_cases hs : (cd_sel h d n && (cd_rk h d n == i)) = true
    · have e : cd_nthF h d i (n + 1) = n := by
        show (if (cd_sel h d n && (cd_rk h d n == i)) = true then n else cd_nthF h d i n) = n
        rw [if_pos hs]
      rw [e]
      rw [Bool.and_eq_true, beq_iff_eq] at hs
      exact ⟨hs.1, hs.2, Nat.lt_succ_self n⟩
    · have e : cd_nthF h d i (n + 1) = cd_nthF h d i n := by
        show (if (cd_sel h d n && (cd_rk h d n == i)) = true then n else cd_nthF h d i n) = _
        rw [if_neg hs]
      rw [e]
      have q2 : i < cd_rk h d n := by
        by_cases hn : cd_sel h d n = true
        · rw [cd_rkS hn] at q
          have : ¬ cd_rk h d n = i := fun r => hs (by rw [hn, r]; simp)
          omega
        · rw [cd_rkN (by simpa using hn)] at q
          exact q
      obtain ⟨a1, a2, a3⟩ := ih q2
      exact ⟨a1, a2, Nat.lt_succ_of_lt a3⟩
theorem cd_nth_eq {h : Nat → Bool} {d i j : Nat} (hj : j < 32) (hs : cd_sel h d j = true) (hr : cd_rk h d j = i) : cd_nth h d i = j := by
  have q : i < cd_rk h d 32 := by rw [← hr]; exact cd_rk_lt hs hj
  obtain ⟨a1, a2, -⟩ := cd_nthF_spec 32 q
  exact cd_rk_inj a1 hs (a2.trans hr.symm)
theorem cd_nthF_lt (h : Nat → Bool) (d i : Nat) : ∀ n, cd_nthF h d i (n + 1) < n + 1 := by
  intro n
  induction n with
  | zero =>
    show (if (cd_sel h d 0 && (cd_rk h d 0 == i)) = true then 0 else cd_nthF h d i 0) < 1
    split
    · decide
    · exact Nat.lt_succ_self 0
  | succ n ih =>
    show (if (cd_sel h d (n + 1) && (cd_rk h d (n + 1) == i)) = true then n + 1 else cd_nthF h d i (n + 1)) < n + 1 + 1
    split <;> omega
theorem cd_nth_lt (h : Nat → Bool) (d i : Nat) : cd_nth h d i < 32 := cd_nthF_lt h d i 31
theorem cd_nth_pts {h : Nat → Bool} {d i : Nat} (hi : i < cd_rk h d 32) : cd_pts (cd_nth h d i) = d := by
  obtain ⟨a1, -, -⟩ := cd_nthF_spec 32 hi
  unfold cd_sel at a1
  rw [Bool.and_eq_true, beq_iff_eq] at a1
  exact a1.2
theorem cd_rk_all (h : Nat → Bool) (d : Nat) : ∀ n, cd_rk h d n ≤ cd_rk (fun _ => true) d n := by
  intro n
  induction n with
  | zero => exact Nat.le_refl _
  | succ n ih =>
    by_cases hs : cd_sel h d n = true
    · have h2 : cd_sel (fun _ => true) d n = true := by
        unfold cd_sel at hs ⊢
        rw [Bool.and_eq_true] at hs
        rw [hs.2]
        rfl
      rw [cd_rkS hs, cd_rkS h2]
      omega
    · rw [cd_rkN (by simpa using hs)]
      exact Nat.le_trans ih (cd_rk_mono _ _ (Nat.le_succ n))
theorem cd_all6 : ∀ d, d < 6 → cd_rk (fun _ => true) d 32 ≤ 10 := by decide +kernel
theorem cd_rk_10 {h : Nat → Bool} {d i : Nat} (hd : d ≤ 5) (hi : i ≤ 32) : cd_rk h d i ≤ 10 := Nat.le_trans (cd_rk_mono h d hi) (Nat.le_trans (cd_rk_all h d 32) (cd_all6 d (by omega)))
theorem cd_cnt_le {h : Nat → Bool} {k : Nat} (hk : k ≤ 4) : cd_cnt h k ≤ 10 := cd_rk_10 (by omega) (Nat.le_refl _)
theorem cd_n_le (h : Nat → Bool) (k : Nat) : cd_n h k ≤ 10 := by
  unfold cd_n
  split
  · exact cd_cnt_le (by assumption)
  · omega
theorem cd_n_of {h : Nat → Bool} {k : Nat} (hk : k ≤ 4) : cd_n h k = cd_cnt h k := if_pos hk
theorem cd_n_5 {h : Nat → Bool} {k : Nat} (hk : ¬ k ≤ 4) : cd_n h k = 0 := if_neg hk
theorem cd_pow_le {n : Nat} (hn : n ≤ 10) : 2 ^ n ≤ 1024 := Nat.le_trans (Nat.pow_le_pow_right (by decide) hn) (by decide)
theorem cd_bit_lt {x n i : Nat} (hx : x < 2 ^ n) (hb : x.testBit i = true) : i < n := by
  rcases Nat.lt_or_ge i n with q | q
  · exact q
  · have e := Nat.testBit_lt_two_pow (Nat.lt_of_lt_of_le hx (Nat.pow_le_pow_right (by decide) q))
    rw [e] at hb
    cases hb
theorem cd_clr : ∀ sx, sx < 32 → ∀ i, i < 5 → sx.testBit i = true → nI sx &&& (nI (2 ^ i) ^^^ (-1)) = nI (sx ^^^ 2 ^ i) := by decide +kernel
theorem cd_nz : ∀ sx, sx < 32 → ∀ i, i < 5 → sx.testBit i = true → 2 ≤ cd_pts sx → (sx ^^^ 2 ^ i < 32 ∧ 1 ≤ sx ^^^ 2 ^ i) := by decide +kernel
theorem cd_subm : ∀ j, j < 32 → ∀ x, x < 32 → ((nI j &&& (nI x ^^^ (-1)) = 0) ↔ j &&& x = j) := by decide +kernel
theorem cd_pos_pts : ∀ sx, sx < 32 → 1 ≤ sx → 1 ≤ cd_pts sx := by decide +kernel
theorem cd_dimE {k0 : Int32} (hd : cd_dim k0 = true) : ∃ k : Nat, k ≤ 4 ∧ k0 = nI k := by
  unfold cd_dim at hd
  rw [Bool.and_eq_true, decide_eq_true_eq, decide_eq_true_eq] at hd
  exact nI_of2 (M := 4) (n := 4) (by decide) (Int32.not_lt.mpr hd.1) hd.2
theorem cd_k_nI {k : Nat} (h : k < 2 ^ 31) : cd_k (nI k) = k := nI_clamp h
theorem cd_dim_nI {k : Nat} (hk : k ≤ 4) : cd_dim (nI k) = true := by
  show (decide (0 ≤ nI k) && decide (nI k ≤ nI 4)) = true
  rw [decide_eq_true (nI_pos' (by omega)), decide_eq_true ((nI_leI (by omega) (by decide)).mpr hk)]
  rfl
theorem cd_chnE {h : Nat → Bool} {k0 x0 : Int32} (hc : cd_chn h k0 x0 = true) : ∃ k x : Nat, k ≤ 4 ∧ x < 2 ^ cd_cnt h k ∧ x < 1024 ∧ k0 = nI k ∧ x0 = nI x := by
  unfold cd_chn at hc
  rw [Bool.and_eq_true, Bool.and_eq_true, decide_eq_true_eq, decide_eq_true_eq] at hc
  obtain ⟨⟨h1, h2⟩, h3⟩ := hc
  obtain ⟨k, hk, rfl⟩ := cd_dimE h1
  obtain ⟨x, hx, rfl⟩ := nI_of (Int32.not_lt.mpr h2)
  rw [cd_k_nI hx, cd_k_nI (by omega)] at h3
  exact ⟨k, x, hk, h3, Nat.lt_of_lt_of_le h3 (cd_pow_le (cd_cnt_le hk)), rfl, rfl⟩
theorem cd_chn_nI {h : Nat → Bool} {k x : Nat} (hk : k ≤ 4) (hx : x < 2 ^ 31) : cd_chn h (nI k) (nI x) = decide (x < 2 ^ cd_cnt h k) := by
  unfold cd_chn
  rw [cd_dim_nI hk, decide_eq_true (nI_pos' hx), cd_k_nI hx, cd_k_nI (by omega)]
  rfl
theorem cd_x2 {x y : Nat} (hx : x < 2048) (hy : y < 2048) : x ^^^ y < 2048 := Nat.xor_lt_two_pow (n := 11) hx hy
theorem cd_p2 {n : Nat} (hn : n ≤ 10) : 2 ^ n < 2048 := Nat.lt_of_le_of_lt (cd_pow_le hn) (by decide)
theorem cd_fc_lt (h : Nat → Bool) {s : Nat} (hs : s < 32) : ∀ x, x ≤ 5 → cd_fc h s x < 2048 := by
  intro x
  induction x with
  | zero => intro _; exact (by decide : 0 < 2048)
  | succ x ih =>
    intro hx
    show cd_fc h s x ^^^ (if s.testBit x = true then 2 ^ cd_rk h (cd_pts (s ^^^ 2 ^ x)) (s ^^^ 2 ^ x) else 0) < 2048
    refine cd_x2 (ih (by omega)) ?_
    have hp : 2 ^ x < 2 ^ 5 := Nat.pow_lt_pow_right (by decide) (by omega)
    have h2 : s ^^^ 2 ^ x < 32 := Nat.xor_lt_two_pow (n := 5) hs hp
    split
    · exact cd_p2 (cd_rk_10 (cd_pts_le _) (by omega))
    · decide
theorem cd_bd_lt (h : Nat → Bool) (k c : Nat) : ∀ i, cd_bd h k c i < 2048 := by
  intro i
  induction i with
  | zero => exact (by decide : 0 < 2048)
  | succ i ih =>
    show cd_bd h k c i ^^^ (if ((k != 0) && c.testBit i) = true then cd_fc h (cd_nth h (k + 1) i) 5 else 0) < 2048
    refine cd_x2 ih ?_
    split
    · exact cd_fc_lt h (cd_nth_lt _ _ _) 5 (Nat.le_refl _)
    · decide
theorem cd_bnd_lt (h : Nat → Bool) (k c : Nat) : cd_bnd h k c < 2048 := cd_bd_lt h k c 10
theorem cd_red_lt {R O : Nat → Nat} (hR : ∀ b, b < 10 → R b < 2048) : ∀ n, n ≤ 10 → ∀ l t, l < 2048 → (cd_red R O n l t).1 < 2048 := by
  intro n
  induction n with
  | zero => intro _ l t hl; exact hl
  | succ n ih =>
    intro hn l t hl
    show (if ((R n != 0) && l.testBit n) = true then cd_red R O n (l ^^^ R n) (t ^^^ O n) else cd_red R O n l t).1 < 2048
    split
    · exact ih (by omega) _ _ (cd_x2 hl (hR n (by omega)))
    · exact ih (by omega) _ _ hl
theorem cd_red_lt2 {R O : Nat → Nat} (hO : ∀ b, b < 10 → O b < 2048) : ∀ n, n ≤ 10 → ∀ l t, t < 2048 → (cd_red R O n l t).2 < 2048 := by
  intro n
  induction n with
  | zero => intro _ l t hl; exact hl
  | succ n ih =>
    intro hn l t hl
    show (if ((R n != 0) && l.testBit n) = true then cd_red R O n (l ^^^ R n) (t ^^^ O n) else cd_red R O n l t).2 < 2048
    split
    · exact ih (by omega) _ _ (cd_x2 hl (hO n (by omega)))
    · exact ih (by omega) _ _ hl
theorem cd_hi_lt (l : Nat) : ∀ n, cd_hi l (n + 1) < n + 1 := by
  intro n
  induction n with
  | zero =>
    show (if l.testBit 0 = true then 0 else cd_hi l 0) < 1
    split
    · decide
    · exact Nat.lt_succ_self 0
  | succ n ih =>
    show (if l.testBit (n + 1) = true then n + 1 else cd_hi l (n + 1)) < n + 1 + 1
    split <;> omega
theorem cd_up_lt {C : Nat → Nat} {k v : Nat} (hC : ∀ b, b < 10 → C b < 2048) (hv : v < 2048) : ∀ b, b < 10 → cd_up C k v b < 2048 := by
  intro b hb
  unfold cd_up
  split
  · exact hv
  · exact hC b hb
theorem cd_addC_lt {C : Nat → Nat} (hC : ∀ b, b < 10 → C b < 2048) : ∀ n, n ≤ 10 → ∀ c, c < 2048 → ∀ b, b < 10 → cd_addC C n c b < 2048 := by
  intro n
  induction n with
  | zero => intro _ c _; exact hC
  | succ n ih =>
    intro hn c hc b hb
    show (if c.testBit n = true then (if C n = 0 then cd_up C n c else cd_addC C n (c ^^^ C n)) else cd_addC C n c) b < 2048
    split
    · split
      · exact cd_up_lt hC hc b hb
      · exact ih (by omega) _ (cd_x2 hc (hC n (by omega))) b hb
    · exact ih (by omega) _ hc b hb
def cd_B (u : cd_E) : Prop := (∀ b, b < 10 → u.1 b < 2048) ∧ (∀ b, b < 10 → u.2.1 b < 2048) ∧ (∀ b, b < 10 → u.2.2.1 b < 2048)
theorem cd_es_B {h : Nat → Bool} {k i : Nat} {u : cd_E} (hi : i ≤ 10) (hB : cd_B u) : cd_B (cd_es h k i u) := by
  obtain ⟨h1, h2, h3⟩ := hB
  have hl := cd_red_lt (O := u.2.1) h1 10 (Nat.le_refl _) (cd_bnd h k (2 ^ i)) 0 (cd_bnd_lt _ _ _)
  have ht := cd_x2 (cd_red_lt2 (R := u.1) h2 10 (Nat.le_refl _) (cd_bnd h k (2 ^ i)) 0 (by decide)) (cd_p2 hi)
  unfold cd_es
  split
  · exact ⟨h1, h2, cd_addC_lt h3 10 (Nat.le_refl _) _ ht⟩
  · exact ⟨cd_up_lt h1 hl, cd_up_lt h2 ht, h3⟩
theorem cd_el_B {h : Nat → Bool} {k : Nat} {u : cd_E} (hB : cd_B u) : ∀ n, n ≤ 10 → cd_B (cd_el h k u n) := by
  intro n
  induction n with
  | zero => intro _; exact hB
  | succ n ih => intro hn; exact cd_es_B (by omega) (ih (by omega))
theorem cd_z_lt (R : Nat → Nat) : ∀ b, b < 10 → cd_z R 10 b < 2048 := by
  intro b hb
  unfold cd_z
  rw [if_pos hb]
  decide
theorem cd_z_B (R O C : Nat → Nat) (x y w : Nat) : cd_B (cd_z R 10, cd_z O 10, cd_z C 10, x, y, w) := ⟨cd_z_lt R, cd_z_lt O, cd_z_lt C⟩
theorem cd_elim_B (h : Nat → Bool) (k : Nat) (R O C : Nat → Nat) (lf tk : Nat) : cd_B (cd_elim h k R O C lf tk) := cd_el_B (cd_z_B _ _ _ _ _ _) _ (cd_n_le h k)
theorem cd_zS (R : Nat → Nat) (b : Nat) : cd_up (cd_z R b) b 0 = cd_z R (b + 1) := by
  funext j
  unfold cd_up cd_z
  by_cases h1 : j = b
  · rw [if_pos h1, if_pos (by omega)]
  · rw [if_neg h1]
    by_cases h2 : j < b
    · rw [if_pos h2, if_pos (by omega)]
    · rw [if_neg h2, if_neg (by omega)]
theorem cd_z0 (R : Nat → Nat) : cd_z R 0 = R := by
  funext j
  unfold cd_z
  rw [if_neg (Nat.not_lt_zero j)]
theorem cd_zBS (R : Nat → Bool) (b : Nat) : cd_up (cd_zB R b) b false = cd_zB R (b + 1) := by
  funext j
  unfold cd_up cd_zB
  by_cases h1 : j = b
  · rw [if_pos h1, if_pos (by omega)]
  · rw [if_neg h1]
    by_cases h2 : j < b
    · rw [if_pos h2, if_pos (by omega)]
    · rw [if_neg h2, if_neg (by omega)]
theorem cd_zB0 (R : Nat → Bool) : cd_zB R 0 = R := by
  funext j
  unfold cd_zB
  rw [if_neg (Nat.not_lt_zero j)]
theorem cd_mb_lt (h : Nat → Bool) (k c : Nat) : ∀ i, cd_mb h k c i < 2 ^ i := by
  intro i
  induction i with
  | zero => exact (by decide : 0 < 1)
  | succ i ih =>
    show cd_mb h k c i ||| (if cd_od h k c (cd_nth h k i) (cd_cnt h k) % 2 = 1 then 2 ^ i else 0) < 2 ^ (i + 1)
    have hp : 2 ^ i < 2 ^ (i + 1) := Nat.pow_lt_pow_right (by decide) (by omega)
    refine Nat.or_lt_two_pow (Nat.lt_trans ih hp) ?_
    split
    · exact hp
    · exact Nat.two_pow_pos _
theorem cd_mbnd_lt (h : Nat → Bool) {k : Nat} (hk : k ≤ 4) (c : Nat) : cd_mbnd h (k + 1) c < 2 ^ cd_n h k := by
  unfold cd_mbnd
  split
  · rw [cd_n_of hk]
    exact cd_mb_lt _ _ _ _
  · exact Nat.two_pow_pos _
theorem cd_mbnd_lt4 (h : Nat → Bool) {k : Nat} (hk : k ≤ 5) (c : Nat) : cd_mbnd h k c < 1024 := by
  cases k with
  | zero =>
    unfold cd_mbnd
    rw [if_neg (by omega)]
    decide
  | succ k => exact Nat.lt_of_lt_of_le (cd_mbnd_lt h (by omega) c) (cd_pow_le (cd_n_le h k))
theorem cd_od_le (h : Nat → Bool) (k c f : Nat) : ∀ i, cd_od h k c f i ≤ i := by
  intro i
  induction i with
  | zero => exact Nat.le_refl _
  | succ i ih =>
    show cd_od h k c f i + (if (c.testBit i && (cd_nth h (k + 1) i &&& f == f)) = true then 1 else 0) ≤ i + 1
    split <;> omega
theorem cd_mk2_le (h : Nat → Bool) (k : Nat) (M : Nat → Bool) : ∀ c, (cd_mk h k M c).2 ≤ c := by
  intro c
  induction c with
  | zero => exact Nat.le_refl _
  | succ c ih =>
    show (cd_mk h k M c).2 + (if (cd_mk h k M c).1 (cd_mbnd h (k + 1) c) = true then 0 else 1) ≤ c + 1
    split <;> omega
theorem cd_cy_le (h : Nat → Bool) (k : Nat) : ∀ c, cd_cy h k c ≤ c := by
  intro c
  induction c with
  | zero => exact Nat.le_refl _
  | succ c ih =>
    show cd_cy h k c + (if cd_mbnd h k c = 0 then 1 else 0) ≤ c + 1
    split <;> omega
end
section
/-! what a dimension is -/
theorem cd_dim_t {k : Int32} (h1 : ¬ k < 0) (h2 : ¬ nI 4 < k) : cd_dim k = true := by
  unfold cd_dim
  rw [decide_eq_true (Int32.not_lt.mp h1), decide_eq_true (show k ≤ 4 from Int32.not_lt.mp h2)]
  rfl
theorem cd_dim_t' {k : Int32} (h1 : ¬ k < 0) (h2 : k ≤ nI 4) : cd_dim k = true := cd_dim_t h1 (Int32.not_lt.mpr h2)
theorem cd_dim_f1 {k : Int32} (h1 : k < 0) : cd_dim k = false := by
  unfold cd_dim
  rw [decide_eq_false (fun q => absurd h1 (Int32.not_lt.mpr q))]
  rfl
theorem cd_dim_f2 {k : Int32} (h1 : nI 4 < k) : cd_dim k = false := by
  unfold cd_dim
  rw [decide_eq_false (p := k ≤ 4) (fun q => absurd h1 (Int32.not_lt.mpr q)), Bool.and_false]
theorem cd_dim_f3 {k : Int32} (h1 : ¬ k ≤ nI 4) : cd_dim k = false := by
  unfold cd_dim
  rw [decide_eq_false (p := k ≤ 4) h1, Bool.and_false]
theorem cd_chn_f1 {h : Nat → Bool} {k x : Int32} (h1 : cd_dim k = false) : cd_chn h k x = false := by
  unfold cd_chn
  rw [h1]
  rfl
theorem cd_chn_f2 {h : Nat → Bool} {k x : Int32} (h1 : x < 0) : cd_chn h k x = false := by
  unfold cd_chn
  rw [decide_eq_false (p := 0 ≤ x) (fun q => absurd h1 (Int32.not_lt.mpr q)), Bool.and_false]
  rfl

set_option maxHeartbeats 4000000 in
set_option maxRecDepth 100000 in
theorem mt0_points (l : Launch) (D : va_G) (tys : List (ClassId × FieldType)) (w : va_W) (sx : Nat) (hsx : sx < 32) : cd_I l yX0_points (ws_ yX0_points cX0_points 3 (some .int)) (cd_rm 0 0) [.int (nI sx)] D tys (w) (nI (cd_pts sx)) (w) := by
  refine cd_I.mk cX0_points 3 .int RX0 (by decide) rfl (cd_narI _) (Nat.le_of_ble_eq_true rfl) ?_
  intro p e s m args below meth c A Q hx hb hml hown hts hA hK hD hP hS hret ls hl
  have hl : lv_has ls 3 [(0, .int (nI sx))] := hl
  have loop : ∀ (n i : Nat), i ≤ 5 → 6 ≤ i + n → ∀ (H : Heap) (locs : List Loc), va_P D vwCl (w) H → va_D A (w) → va_S A s.heap H locs → ∀ ls : Array Slot, lv_has ls 3 [(0, .int (nI sx)), (1, .int (nI (cd_pt sx i))), (2, .int (nI i))] → W p l e (cd_rm 0 0) s m args below meth c H locs 0 0 Q (F0 m 4 ls []) := by
    intro n
    induction n with
    | zero => intro i h1 h2; omega
    | succ n ih =>
      intro i h1 h2 H locs hP hD hS ls hl
      refine lv_iload_n hx hb dX0_points_4 rfl (lv_at hl 2 rfl) ?_
      refine lv_iconst (v := nI 5) hx hb dX0_points_5 (by decide) ?_
      refine cn_ge (tgt := 23) hx hb dX0_points_6 (by decide) (by omega) (by omega) (fun c6 => ?_) (fun c6 => ?_)
      · refine lv_iload_n hx hb dX0_points_23 rfl (lv_at hl 1 rfl) ?_
        exact cd_top (by rw [show i = 5 by omega]; rfl) (hret hP hS dX0_points_24)
      · refine lv_iload_n hx hb dX0_points_9 rfl (lv_at hl 1 rfl) ?_
        refine lv_iload_n hx hb dX0_points_10 rfl (lv_at hl 0 rfl) ?_
        refine lv_iload_n hx hb dX0_points_11 rfl (lv_at hl 2 rfl) ?_
        refine cn_bitU hx hb (by omega) (by omega) dX0_points_12 dX0_points_13 dX0_points_14 ?_
        refine cn_addb hx hb dX0_points_15 ?_
        refine lv_istore_n (lv' := [(1, .int (nI ((cd_pt sx i) + (sx.testBit i).toNat))), (0, .int (nI sx)), (2, .int (nI i))]) hx hb dX0_points_16 rfl hl (by decide) rfl (fun ls hl => ?_)
        refine lv_iinc (v := (nI (i + 1))) (lv' := [(2, .int (nI (i + 1))), (1, .int (nI ((cd_pt sx i) + (sx.testBit i).toNat))), (0, .int (nI sx))]) hx hb dX0_points_17 hl (k := 2) rfl (cd_inc i) (by decide) rfl (fun ls hl => ?_)
        refine lv_goto (tgt := 4) hx hb dX0_points_20 (by decide) ?_
        have e1 : cd_pt sx (i + 1) = cd_pt sx i + (sx.testBit i).toNat := rfl
        exact ih (i + 1) (by omega) (by omega) _ _ hP hD hS _ (by rw [e1]; exact lv_sub hl [2, 1, 0] rfl)
  refine lv_iconst (v := nI 0) hx hb dX0_points_0 (by decide) ?_
  refine lv_istore_n (lv' := [(1, .int (nI 0)), (0, .int (nI sx))]) hx hb dX0_points_1 rfl hl (by decide) rfl (fun ls hl => ?_)
  refine lv_iconst (v := nI 0) hx hb dX0_points_2 (by decide) ?_
  refine lv_istore_n (lv' := [(2, .int (nI 0)), (1, .int (nI 0)), (0, .int (nI sx))]) hx hb dX0_points_3 rfl hl (by decide) rfl (fun ls hl => ?_)
  exact loop 6 0 (by omega) (by omega) _ _ hP hD hS _ (lv_sub hl [2, 1, 0] rfl)

set_option maxHeartbeats 4000000 in
set_option maxRecDepth 100000 in
theorem mt0_isDimension (l : Launch) (D : va_G) (tys : List (ClassId × FieldType)) (w : va_W) (k0 : Int32) : cd_I l yX0_isDimension (ws_ yX0_isDimension cX0_isDimension 1 (some .boolean)) (cd_rm 0 0) [.int k0] D tys (w) (cd_b (cd_dim k0)) (w) := by
  refine cd_I.mk cX0_isDimension 1 .boolean RX0 (by decide) rfl (cd_narB _) (Nat.le_of_ble_eq_true rfl) ?_
  intro p e s m args below meth c A Q hx hb hml hown hts hA hK hD hP hS hret ls hl
  have hl : lv_has ls 1 [(0, .int k0)] := hl
  refine lv_iload_n hx hb dX0_isDimension_0 rfl (lv_at hl 0 rfl) ?_
  refine lv_if_lt (tgt := 13) hx hb dX0_isDimension_1 (by decide) (fun c1 => ?_) (fun c1 => ?_)
  · refine lv_iconst (v := nI 0) hx hb dX0_isDimension_13 (by decide) ?_
    exact cd_top (by first | (rw [cd_dim_t (by assumption) (by assumption)]; rfl) | (rw [cd_dim_f1 (by assumption)]; rfl) | (rw [cd_dim_f2 (by assumption)]; rfl)) (hret hP hS dX0_isDimension_14)
  · refine lv_iload_n hx hb dX0_isDimension_4 rfl (lv_at hl 0 rfl) ?_
    refine lv_iconst (v := nI 4) hx hb dX0_isDimension_5 (by decide) ?_
    refine lv_icmp_gt (tgt := 13) hx hb dX0_isDimension_6 (by decide) (fun c6 => ?_) (fun c6 => ?_)
    · refine lv_iconst (v := nI 0) hx hb dX0_isDimension_13 (by decide) ?_
      exact cd_top (by first | (rw [cd_dim_t (by assumption) (by assumption)]; rfl) | (rw [cd_dim_f1 (by assumption)]; rfl) | (rw [cd_dim_f2 (by assumption)]; rfl)) (hret hP hS dX0_isDimension_14)
    · refine lv_iconst (v := nI 1) hx hb dX0_isDimension_9 (by decide) ?_
      refine lv_goto (tgt := 14) hx hb dX0_isDimension_10 (by decide) ?_
      exact cd_top (by first | (rw [cd_dim_t (by assumption) (by assumption)]; rfl) | (rw [cd_dim_f1 (by assumption)]; rfl) | (rw [cd_dim_f2 (by assumption)]; rfl)) (hret hP hS dX0_isDimension_14)

set_option maxHeartbeats 4000000 in
set_option maxRecDepth 100000 in
theorem mt0_countOf (l : Launch) (D : va_G) (a : Nat → Nat) (z : Nat → ClassId) (h : Nat → Bool) (R O C : Nat → Nat) (rk lf tk : Nat) (k : Nat) (hk : k ≤ 4) : cd_I l yX0_countOf (ws_ yX0_countOf cX0_countOf 4 (some .int)) (cd_rm 1 22) [.ref (a 0), .int (nI k)] D (cd_DT z) (cd_DW a z h R O C rk lf tk) (nI (cd_cnt h k)) (cd_DW a z h R O C rk lf tk) := by
  refine cd_I.mk cX0_countOf 4 .int RX0 (by decide) rfl (cd_narI _) (Nat.le_of_ble_eq_true rfl) ?_
  intro p e s m args below meth c A Q hx hb hml hown hts hA hK hD hP hS hret ls hl
  have hl : lv_has ls 4 [(0, .ref (a 0)), (1, .int (nI k))] := hl
  have loop : ∀ (n i : Nat), i ≤ 32 → 33 ≤ i + n → ∀ (H : Heap) (locs : List Loc), va_P D vwCl (cd_DW a z h R O C rk lf tk) H → va_D A (cd_DW a z h R O C rk lf tk) → va_S A s.heap H locs → ∀ ls : Array Slot, lv_has ls 4 [(0, .ref (a 0)), (1, .int (nI k)), (2, .int (nI (cd_rk h (k + 1) i))), (3, .int (nI i))] → W p l e (cd_rm 1 22) s m args below meth c H locs 0 0 Q (F0 m 4 ls []) := by
    intro n
    induction n with
    | zero => intro i h1 h2; omega
    | succ n ih =>
      intro i h1 h2 H locs hP hD hS ls hl
      refine lv_iload_n hx hb dX0_countOf_4 rfl (lv_at hl 3 rfl) ?_
      refine lv_bipush (v := nI 32) hx hb dX0_countOf_5 (by decide) ?_
      refine cn_ge (tgt := 43) hx hb dX0_countOf_7 (by decide) (by omega) (by omega) (fun c7 => ?_) (fun c7 => ?_)
      · refine lv_iload_n hx hb dX0_countOf_43 rfl (lv_at hl 2 rfl) ?_
        exact cd_top (by rw [show i = 32 by omega]; rfl) (hret hP hS dX0_countOf_44)
      · refine lv_iload_n hx hb dX0_countOf_10 rfl (lv_at hl 2 rfl) ?_
        refine lv_aload_n hx hb dX0_countOf_11 rfl (lv_at hl 0 rfl) ?_
        refine gx_held hx hb hts hown hK hP dX0_countOf_12 ?_
        refine lv_iload_n hx hb dX0_countOf_15 rfl (lv_at hl 3 rfl) ?_
        refine ax_held hx hb hK hP (by omega) dX0_countOf_16 ?_
        refine cb_ifeq (tgt := 34) hx hb dX0_countOf_17 (by decide) (fun c17 => ?_) (fun c17 => ?_)
        · refine lv_iconst (v := nI 0) hx hb dX0_countOf_34 (by decide) ?_
          refine cn_add hx hb dX0_countOf_35 ?_
          refine lv_istore_n (lv' := [(2, .int (nI ((cd_rk h (k + 1) i) + 0))), (0, .ref (a 0)), (1, .int (nI k)), (3, .int (nI i))]) hx hb dX0_countOf_36 rfl hl (by decide) rfl (fun ls hl => ?_)
          refine lv_iinc (v := (nI (i + 1))) (lv' := [(3, .int (nI (i + 1))), (2, .int (nI ((cd_rk h (k + 1) i) + 0))), (0, .ref (a 0)), (1, .int (nI k))]) hx hb dX0_countOf_37 hl (k := 3) rfl (cd_inc i) (by decide) rfl (fun ls hl => ?_)
          refine lv_goto (tgt := 4) hx hb dX0_countOf_40 (by decide) ?_
          have e1 : cd_rk h (k + 1) (i + 1) = (cd_rk h (k + 1) i) + 0 := cd_rkN (by simp [cd_sel, c17])
          exact ih (i + 1) (by omega) (by omega) _ _ hP hD hS _ (by rw [e1]; exact lv_sub hl [2, 3, 1, 0] rfl)
        · refine lv_iload_n hx hb dX0_countOf_20 rfl (lv_at hl 3 rfl) ?_
          refine cd_callS [.int (nI (cd_rk h (k + 1) i))] hx hb hml hown hts hA (mt0_points l D _ _ i (by omega)) (va_cwS 1 hts (lw_S q68 q69 q15 q70) rfl rfl rfl (by decide +kernel) ⟨Nat.le_of_ble_eq_true rfl, Nat.le_of_ble_eq_true rfl⟩) hK hD hP hS rfl hl.1 rfl rfl (Nat.le_of_ble_eq_true rfl) dX0_countOf_21 ⟨Nat.zero_le _, Nat.zero_le _⟩ (fun H locs hP hD hS => ?_)
          refine lv_iload_n hx hb dX0_countOf_24 rfl (lv_at hl 1 rfl) ?_
          refine lv_iconst (v := nI 1) hx hb dX0_countOf_25 (by decide) ?_
          refine cn_add hx hb dX0_countOf_26 ?_
          refine cn_ne (tgt := 34) hx hb dX0_countOf_27 (by decide) (by have := cd_pts_le i; omega) (by omega) (fun c27 => ?_) (fun c27 => ?_)
          · refine lv_iconst (v := nI 0) hx hb dX0_countOf_34 (by decide) ?_
            refine cn_add hx hb dX0_countOf_35 ?_
            refine lv_istore_n (lv' := [(2, .int (nI ((cd_rk h (k + 1) i) + 0))), (0, .ref (a 0)), (1, .int (nI k)), (3, .int (nI i))]) hx hb dX0_countOf_36 rfl hl (by decide) rfl (fun ls hl => ?_)
            refine lv_iinc (v := (nI (i + 1))) (lv' := [(3, .int (nI (i + 1))), (2, .int (nI ((cd_rk h (k + 1) i) + 0))), (0, .ref (a 0)), (1, .int (nI k))]) hx hb dX0_countOf_37 hl (k := 3) rfl (cd_inc i) (by decide) rfl (fun ls hl => ?_)
            refine lv_goto (tgt := 4) hx hb dX0_countOf_40 (by decide) ?_
            have e1 : cd_rk h (k + 1) (i + 1) = (cd_rk h (k + 1) i) + 0 := cd_rkN (by simp [cd_sel, c17, c27])
            exact ih (i + 1) (by omega) (by omega) _ _ hP hD hS _ (by rw [e1]; exact lv_sub hl [2, 3, 1, 0] rfl)
          · refine lv_iconst (v := nI 1) hx hb dX0_countOf_30 (by decide) ?_
            refine lv_goto (tgt := 35) hx hb dX0_countOf_31 (by decide) ?_
            refine cn_add hx hb dX0_countOf_35 ?_
            refine lv_istore_n (lv' := [(2, .int (nI ((cd_rk h (k + 1) i) + 1))), (0, .ref (a 0)), (1, .int (nI k)), (3, .int (nI i))]) hx hb dX0_countOf_36 rfl hl (by decide) rfl (fun ls hl => ?_)
            refine lv_iinc (v := (nI (i + 1))) (lv' := [(3, .int (nI (i + 1))), (2, .int (nI ((cd_rk h (k + 1) i) + 1))), (0, .ref (a 0)), (1, .int (nI k))]) hx hb dX0_countOf_37 hl (k := 3) rfl (cd_inc i) (by decide) rfl (fun ls hl => ?_)
            refine lv_goto (tgt := 4) hx hb dX0_countOf_40 (by decide) ?_
            have e1 : cd_rk h (k + 1) (i + 1) = (cd_rk h (k + 1) i) + 1 := cd_rkS (by simp [cd_sel, c17, c27])
            exact ih (i + 1) (by omega) (by omega) _ _ hP hD hS _ (by rw [e1]; exact lv_sub hl [2, 3, 1, 0] rfl)
  refine lv_iconst (v := nI 0) hx hb dX0_countOf_0 (by decide) ?_
  refine lv_istore_n (lv' := [(2, .int (nI 0)), (0, .ref (a 0)), (1, .int (nI k))]) hx hb dX0_countOf_1 rfl hl (by decide) rfl (fun ls hl => ?_)
  refine lv_iconst (v := nI 1) hx hb dX0_countOf_2 (by decide) ?_
  refine lv_istore_n (lv' := [(3, .int (nI 1)), (2, .int (nI 0)), (0, .ref (a 0)), (1, .int (nI k))]) hx hb dX0_countOf_3 rfl hl (by decide) rfl (fun ls hl => ?_)
  exact loop 33 1 (by omega) (by omega) _ _ hP hD hS _ (by rw [cd_rk1 (by omega)]; exact lv_sub hl [2, 3, 1, 0] rfl)

set_option maxHeartbeats 4000000 in
set_option maxRecDepth 100000 in
theorem mt0_simplexAt (l : Launch) (D : va_G) (a : Nat → Nat) (z : Nat → ClassId) (h : Nat → Bool) (R O C : Nat → Nat) (rk lf tk : Nat) (k i0 : Nat) (hk : k ≤ 4) (hi : i0 < cd_cnt h k) : cd_I l yX0_simplexAt (ws_ yX0_simplexAt cX0_simplexAt 5 (some .int)) (cd_rm 1 22) [.ref (a 0), .int (nI k), .int (nI i0)] D (cd_DT z) (cd_DW a z h R O C rk lf tk) (nI (cd_nth h (k + 1) i0)) (cd_DW a z h R O C rk lf tk) := by
  refine cd_I.mk cX0_simplexAt 5 .int RX0 (by decide) rfl (cd_narI _) (Nat.le_of_ble_eq_true rfl) ?_
  intro p e s m args below meth c A Q hx hb hml hown hts hA hK hD hP hS hret ls hl
  have hl : lv_has ls 5 [(0, .ref (a 0)), (1, .int (nI k)), (2, .int (nI i0))] := hl
  have hi10 := cd_cnt_le (h := h) hk
  have loop : ∀ (n i : Nat), i ≤ 32 → 33 ≤ i + n → cd_rk h (k + 1) i ≤ i0 → ∀ (H : Heap) (locs : List Loc), va_P D vwCl (cd_DW a z h R O C rk lf tk) H → va_D A (cd_DW a z h R O C rk lf tk) → va_S A s.heap H locs → ∀ ls : Array Slot, lv_has ls 5 [(0, .ref (a 0)), (1, .int (nI k)), (2, .int (nI i0)), (3, .int (nI (i0 - cd_rk h (k + 1) i))), (4, .int (nI i))] → W p l e (cd_rm 1 22) s m args below meth c H locs 0 0 Q (F0 m 5 ls []) := by
    intro n
    induction n with
    | zero => intro i h1 h2; omega
    | succ n ih =>
      intro i h1 h2 hr H locs hP hD hS ls hl
      refine lv_iload hx hb dX0_simplexAt_5 (lv_at hl 4 rfl) ?_
      refine lv_bipush (v := nI 32) hx hb dX0_simplexAt_7 (by decide) ?_
      refine cn_ge (tgt := 49) hx hb dX0_simplexAt_9 (by decide) (by omega) (by omega) (fun c9 => ?_) (fun c9 => ?_)
      · have e : i = 32 := by omega
        subst e
        exact absurd hi (Nat.not_lt.mpr hr)
      · refine lv_aload_n hx hb dX0_simplexAt_12 rfl (lv_at hl 0 rfl) ?_
        refine gx_held hx hb hts hown hK hP dX0_simplexAt_13 ?_
        refine lv_iload hx hb dX0_simplexAt_16 (lv_at hl 4 rfl) ?_
        refine ax_held hx hb hK hP (by omega) dX0_simplexAt_18 ?_
        refine cb_ifeq (tgt := 43) hx hb dX0_simplexAt_19 (by decide) (fun c19 => ?_) (fun c19 => ?_)
        · refine lv_iinc (v := (nI (i + 1))) (lv' := [(4, .int (nI (i + 1))), (0, .ref (a 0)), (1, .int (nI k)), (2, .int (nI i0)), (3, .int (nI (i0 - cd_rk h (k + 1) i)))]) hx hb dX0_simplexAt_43 hl (k := 4) rfl (cd_inc i) (by decide) rfl (fun ls hl => ?_)
          refine lv_goto (tgt := 5) hx hb dX0_simplexAt_46 (by decide) ?_
          have hs : cd_sel h (k + 1) i = false := by first | simp [cd_sel, c19, c30] | simp [cd_sel, c19]
          have e1 := cd_rkN hs
          have e2 : i0 - cd_rk h (k + 1) (i + 1) = i0 - cd_rk h (k + 1) i := by omega
          exact ih (i + 1) (by omega) (by omega) (by omega) _ _ hP hD hS _ (by rw [e2]; exact lv_sub hl [1, 2, 3, 4, 0] rfl)
        · refine lv_iload hx hb dX0_simplexAt_22 (lv_at hl 4 rfl) ?_
          refine cd_callS [] hx hb hml hown hts hA (mt0_points l D _ _ i (by omega)) (va_cwS 1 hts (lw_S q68 q69 q15 q70) rfl rfl rfl (by decide +kernel) ⟨Nat.le_of_ble_eq_true rfl, Nat.le_of_ble_eq_true rfl⟩) hK hD hP hS rfl hl.1 rfl rfl (Nat.le_of_ble_eq_true rfl) dX0_simplexAt_24 ⟨Nat.zero_le _, Nat.zero_le _⟩ (fun H locs hP hD hS => ?_)
          refine lv_iload_n hx hb dX0_simplexAt_27 rfl (lv_at hl 1 rfl) ?_
          refine lv_iconst (v := nI 1) hx hb dX0_simplexAt_28 (by decide) ?_
          refine cn_add hx hb dX0_simplexAt_29 ?_
          refine cn_ne (tgt := 43) hx hb dX0_simplexAt_30 (by decide) (by have := cd_pts_le i; omega) (by omega) (fun c30 => ?_) (fun c30 => ?_)
          · refine lv_iinc (v := (nI (i + 1))) (lv' := [(4, .int (nI (i + 1))), (0, .ref (a 0)), (1, .int (nI k)), (2, .int (nI i0)), (3, .int (nI (i0 - cd_rk h (k + 1) i)))]) hx hb dX0_simplexAt_43 hl (k := 4) rfl (cd_inc i) (by decide) rfl (fun ls hl => ?_)
            refine lv_goto (tgt := 5) hx hb dX0_simplexAt_46 (by decide) ?_
            have hs : cd_sel h (k + 1) i = false := by first | simp [cd_sel, c19, c30] | simp [cd_sel, c19]
            have e1 := cd_rkN hs
            have e2 : i0 - cd_rk h (k + 1) (i + 1) = i0 - cd_rk h (k + 1) i := by omega
            exact ih (i + 1) (by omega) (by omega) (by omega) _ _ hP hD hS _ (by rw [e2]; exact lv_sub hl [1, 2, 3, 4, 0] rfl)
          · refine lv_iload_n hx hb dX0_simplexAt_33 rfl (lv_at hl 3 rfl) ?_
            refine cn_ifne (tgt := 40) hx hb dX0_simplexAt_34 (by decide) (by omega) (fun c34 => ?_) (fun c34 => ?_)
            · refine lv_iinc (v := (nI (i0 - cd_rk h (k + 1) i - 1))) (lv' := [(3, .int (nI (i0 - cd_rk h (k + 1) i - 1))), (0, .ref (a 0)), (1, .int (nI k)), (2, .int (nI i0)), (4, .int (nI i))]) hx hb dX0_simplexAt_40 hl (k := 3) rfl (cd_dec (by omega)) (by decide) rfl (fun ls hl => ?_)
              refine lv_iinc (v := (nI (i + 1))) (lv' := [(4, .int (nI (i + 1))), (3, .int (nI (i0 - cd_rk h (k + 1) i - 1))), (0, .ref (a 0)), (1, .int (nI k)), (2, .int (nI i0))]) hx hb dX0_simplexAt_43 hl (k := 4) rfl (cd_inc i) (by decide) rfl (fun ls hl => ?_)
              refine lv_goto (tgt := 5) hx hb dX0_simplexAt_46 (by decide) ?_
              have hs : cd_sel h (k + 1) i = true := by simp [cd_sel, c19, c30]
              have e1 := cd_rkS hs
              have e2 : i0 - cd_rk h (k + 1) (i + 1) = i0 - cd_rk h (k + 1) i - 1 := by omega
              exact ih (i + 1) (by omega) (by omega) (by omega) _ _ hP hD hS _ (by rw [e2]; exact lv_sub hl [2, 3, 4, 1, 0] rfl)
            · refine lv_iload hx hb dX0_simplexAt_37 (lv_at hl 4 rfl) ?_
              exact cd_top (by rw [cd_nth_eq (j := i) (by omega) (by simp [cd_sel, c19, c30]) (by omega)]) (hret hP hS dX0_simplexAt_39)
  refine lv_iload_n hx hb dX0_simplexAt_0 rfl (lv_at hl 2 rfl) ?_
  refine lv_istore_n (lv' := [(3, .int (nI i0)), (0, .ref (a 0)), (1, .int (nI k)), (2, .int (nI i0))]) hx hb dX0_simplexAt_1 rfl hl (by decide) rfl (fun ls hl => ?_)
  refine lv_iconst (v := nI 1) hx hb dX0_simplexAt_2 (by decide) ?_
  refine lv_istore (lv' := [(4, .int (nI 1)), (3, .int (nI i0)), (0, .ref (a 0)), (1, .int (nI k)), (2, .int (nI i0))]) hx hb dX0_simplexAt_3 hl (by decide) rfl (fun ls hl => ?_)
  have e1 : cd_rk h (k + 1) 1 = 0 := cd_rk1 (by omega)
  exact loop 33 1 (by omega) (by omega) (by omega) _ _ hP hD hS _ (by rw [e1]; exact lv_sub hl [2, 3, 4, 1, 0] rfl)

set_option maxHeartbeats 4000000 in
set_option maxRecDepth 100000 in
theorem mt0_placeOf (l : Launch) (D : va_G) (a : Nat → Nat) (z : Nat → ClassId) (h : Nat → Bool) (R O C : Nat → Nat) (rk lf tk : Nat) (sx : Nat) (hsx : sx < 32) (h1x : 1 ≤ sx) : cd_I l yX0_placeOf (ws_ yX0_placeOf cX0_placeOf 5 (some .int)) (cd_rm 1 22) [.ref (a 0), .int (nI sx)] D (cd_DT z) (cd_DW a z h R O C rk lf tk) (nI (cd_rk h (cd_pts sx) sx)) (cd_DW a z h R O C rk lf tk) := by
  refine cd_I.mk cX0_placeOf 5 .int RX0 (by decide) rfl (cd_narI _) (Nat.le_of_ble_eq_true rfl) ?_
  intro p e s m args below meth c A Q hx hb hml hown hts hA hK hD hP hS hret ls hl
  have hl : lv_has ls 5 [(0, .ref (a 0)), (1, .int (nI sx))] := hl
  have hp5 := cd_pts_le sx
  have loop : ∀ (n i : Nat), i ≤ sx → sx + 1 ≤ i + n → ∀ (H : Heap) (locs : List Loc), va_P D vwCl (cd_DW a z h R O C rk lf tk) H → va_D A (cd_DW a z h R O C rk lf tk) → va_S A s.heap H locs → ∀ ls : Array Slot, lv_has ls 5 [(0, .ref (a 0)), (1, .int (nI sx)), (2, .int (nI (cd_pts sx))), (3, .int (nI (cd_rk h (cd_pts sx) i))), (4, .int (nI i))] → W p l e (cd_rm 1 22) s m args below meth c H locs 0 0 Q (F0 m 10 ls []) := by
    intro n
    induction n with
    | zero => intro i h1 h2; omega
    | succ n ih =>
      intro i h1 h2 H locs hP hD hS ls hl
      refine lv_iload hx hb dX0_placeOf_10 (lv_at hl 4 rfl) ?_
      refine lv_iload_n hx hb dX0_placeOf_12 rfl (lv_at hl 1 rfl) ?_
      refine cn_ge (tgt := 49) hx hb dX0_placeOf_13 (by decide) (by omega) (by omega) (fun c13 => ?_) (fun c13 => ?_)
      · refine lv_iload_n hx hb dX0_placeOf_49 rfl (lv_at hl 3 rfl) ?_
        exact cd_top (by rw [show i = sx by omega]) (hret hP hS dX0_placeOf_50)
      · refine lv_iload_n hx hb dX0_placeOf_16 rfl (lv_at hl 3 rfl) ?_
        refine lv_aload_n hx hb dX0_placeOf_17 rfl (lv_at hl 0 rfl) ?_
        refine gx_held hx hb hts hown hK hP dX0_placeOf_18 ?_
        refine lv_iload hx hb dX0_placeOf_21 (lv_at hl 4 rfl) ?_
        refine ax_held hx hb hK hP (by omega) dX0_placeOf_23 ?_
        refine cb_ifeq (tgt := 40) hx hb dX0_placeOf_24 (by decide) (fun c24 => ?_) (fun c24 => ?_)
        · refine lv_iconst (v := nI 0) hx hb dX0_placeOf_40 (by decide) ?_
          refine cn_add hx hb dX0_placeOf_41 ?_
          refine lv_istore_n (lv' := [(3, .int (nI ((cd_rk h (cd_pts sx) i) + 0))), (0, .ref (a 0)), (1, .int (nI sx)), (2, .int (nI (cd_pts sx))), (4, .int (nI i))]) hx hb dX0_placeOf_42 rfl hl (by decide) rfl (fun ls hl => ?_)
          refine lv_iinc (v := (nI (i + 1))) (lv' := [(4, .int (nI (i + 1))), (3, .int (nI ((cd_rk h (cd_pts sx) i) + 0))), (0, .ref (a 0)), (1, .int (nI sx)), (2, .int (nI (cd_pts sx)))]) hx hb dX0_placeOf_43 hl (k := 4) rfl (cd_inc i) (by decide) rfl (fun ls hl => ?_)
          refine lv_goto (tgt := 10) hx hb dX0_placeOf_46 (by decide) ?_
          have e1 : cd_rk h (cd_pts sx) (i + 1) = (cd_rk h (cd_pts sx) i) + 0 := cd_rkN (by simp [cd_sel, c24])
          exact ih (i + 1) (by omega) (by omega) _ _ hP hD hS _ (by rw [e1]; exact lv_sub hl [2, 3, 4, 1, 0] rfl)
        · refine lv_iload hx hb dX0_placeOf_27 (lv_at hl 4 rfl) ?_
          refine cd_callS [.int (nI (cd_rk h (cd_pts sx) i))] hx hb hml hown hts hA (mt0_points l D _ _ i (by omega)) (va_cwS 1 hts (lw_S q68 q69 q15 q70) rfl rfl rfl (by decide +kernel) ⟨Nat.le_of_ble_eq_true rfl, Nat.le_of_ble_eq_true rfl⟩) hK hD hP hS rfl hl.1 rfl rfl (Nat.le_of_ble_eq_true rfl) dX0_placeOf_29 ⟨Nat.zero_le _, Nat.zero_le _⟩ (fun H locs hP hD hS => ?_)
          refine lv_iload_n hx hb dX0_placeOf_32 rfl (lv_at hl 2 rfl) ?_
          refine cn_ne (tgt := 40) hx hb dX0_placeOf_33 (by decide) (by have := cd_pts_le i; omega) (by omega) (fun c33 => ?_) (fun c33 => ?_)
          · refine lv_iconst (v := nI 0) hx hb dX0_placeOf_40 (by decide) ?_
            refine cn_add hx hb dX0_placeOf_41 ?_
            refine lv_istore_n (lv' := [(3, .int (nI ((cd_rk h (cd_pts sx) i) + 0))), (0, .ref (a 0)), (1, .int (nI sx)), (2, .int (nI (cd_pts sx))), (4, .int (nI i))]) hx hb dX0_placeOf_42 rfl hl (by decide) rfl (fun ls hl => ?_)
            refine lv_iinc (v := (nI (i + 1))) (lv' := [(4, .int (nI (i + 1))), (3, .int (nI ((cd_rk h (cd_pts sx) i) + 0))), (0, .ref (a 0)), (1, .int (nI sx)), (2, .int (nI (cd_pts sx)))]) hx hb dX0_placeOf_43 hl (k := 4) rfl (cd_inc i) (by decide) rfl (fun ls hl => ?_)
            refine lv_goto (tgt := 10) hx hb dX0_placeOf_46 (by decide) ?_
            have e1 : cd_rk h (cd_pts sx) (i + 1) = (cd_rk h (cd_pts sx) i) + 0 := cd_rkN (by simp [cd_sel, c24, c33])
            exact ih (i + 1) (by omega) (by omega) _ _ hP hD hS _ (by rw [e1]; exact lv_sub hl [2, 3, 4, 1, 0] rfl)
          · refine lv_iconst (v := nI 1) hx hb dX0_placeOf_36 (by decide) ?_
            refine lv_goto (tgt := 41) hx hb dX0_placeOf_37 (by decide) ?_
            refine cn_add hx hb dX0_placeOf_41 ?_
            refine lv_istore_n (lv' := [(3, .int (nI ((cd_rk h (cd_pts sx) i) + 1))), (0, .ref (a 0)), (1, .int (nI sx)), (2, .int (nI (cd_pts sx))), (4, .int (nI i))]) hx hb dX0_placeOf_42 rfl hl (by decide) rfl (fun ls hl => ?_)
            refine lv_iinc (v := (nI (i + 1))) (lv' := [(4, .int (nI (i + 1))), (3, .int (nI ((cd_rk h (cd_pts sx) i) + 1))), (0, .ref (a 0)), (1, .int (nI sx)), (2, .int (nI (cd_pts sx)))]) hx hb dX0_placeOf_43 hl (k := 4) rfl (cd_inc i) (by decide) rfl (fun ls hl => ?_)
            refine lv_goto (tgt := 10) hx hb dX0_placeOf_46 (by decide) ?_
            have e1 : cd_rk h (cd_pts sx) (i + 1) = (cd_rk h (cd_pts sx) i) + 1 := cd_rkS (by simp [cd_sel, c24, c33])
            exact ih (i + 1) (by omega) (by omega) _ _ hP hD hS _ (by rw [e1]; exact lv_sub hl [2, 3, 4, 1, 0] rfl)
  refine lv_iload_n hx hb dX0_placeOf_0 rfl (lv_at hl 1 rfl) ?_
  refine cd_callS [] hx hb hml hown hts hA (mt0_points l D _ _ sx hsx) (va_cwS 1 hts (lw_S q68 q69 q15 q70) rfl rfl rfl (by decide +kernel) ⟨Nat.le_of_ble_eq_true rfl, Nat.le_of_ble_eq_true rfl⟩) hK hD hP hS rfl hl.1 rfl rfl (Nat.le_of_ble_eq_true rfl) dX0_placeOf_1 ⟨Nat.zero_le _, Nat.zero_le _⟩ (fun H locs hP hD hS => ?_)
  refine lv_istore_n (lv' := [(2, .int (nI (cd_pts sx))), (0, .ref (a 0)), (1, .int (nI sx))]) hx hb dX0_placeOf_4 rfl hl (by decide) rfl (fun ls hl => ?_)
  refine lv_iconst (v := nI 0) hx hb dX0_placeOf_5 (by decide) ?_
  refine lv_istore_n (lv' := [(3, .int (nI 0)), (2, .int (nI (cd_pts sx))), (0, .ref (a 0)), (1, .int (nI sx))]) hx hb dX0_placeOf_6 rfl hl (by decide) rfl (fun ls hl => ?_)
  refine lv_iconst (v := nI 1) hx hb dX0_placeOf_7 (by decide) ?_
  refine lv_istore (lv' := [(4, .int (nI 1)), (3, .int (nI 0)), (2, .int (nI (cd_pts sx))), (0, .ref (a 0)), (1, .int (nI sx))]) hx hb dX0_placeOf_8 hl (by decide) rfl (fun ls hl => ?_)
  exact loop (sx + 1) 1 (by omega) (by omega) _ _ hP hD hS _ (by rw [cd_rk1 (cd_pos_pts sx hsx h1x)]; exact lv_sub hl [3, 4, 2, 1, 0] rfl)

set_option maxHeartbeats 4000000 in
set_option maxRecDepth 100000 in
theorem mt0_facesOf (l : Launch) (D : va_G) (a : Nat → Nat) (z : Nat → ClassId) (h : Nat → Bool) (R O C : Nat → Nat) (rk lf tk : Nat) (sx : Nat) (hsx : sx < 32) (h2x : 2 ≤ cd_pts sx) : cd_I l yX0_facesOf (ws_ yX0_facesOf cX0_facesOf 5 (some .int)) (cd_rm 2 46) [.ref (a 0), .int (nI sx)] D (cd_DT z) (cd_DW a z h R O C rk lf tk) (nI (cd_fc h sx 5)) (cd_DW a z h R O C rk lf tk) := by
  refine cd_I.mk cX0_facesOf 5 .int RX0 (by decide) rfl (cd_narI _) (Nat.le_of_ble_eq_true rfl) ?_
  intro p e s m args below meth c A Q hx hb hml hown hts hA hK hD hP hS hret ls hl
  have hl : lv_has ls 5 [(0, .ref (a 0)), (1, .int (nI sx))] := hl
  have loop : ∀ (n i : Nat), i ≤ 5 → 6 ≤ i + n → ∀ (H : Heap) (locs : List Loc), va_P D vwCl (cd_DW a z h R O C rk lf tk) H → va_D A (cd_DW a z h R O C rk lf tk) → va_S A s.heap H locs → ∀ ls : Array Slot, lv_has ls 5 [(0, .ref (a 0)), (1, .int (nI sx)), (2, .int (nI (cd_fc h sx i))), (3, .int (nI i))] → W p l e (cd_rm 2 46) s m args below meth c H locs 0 0 Q (F0 m 4 ls []) := by
    intro n
    induction n with
    | zero => intro i h1 h2; omega
    | succ n ih =>
      intro i h1 h2 H locs hP hD hS ls hl
      refine lv_iload_n hx hb dX0_facesOf_4 rfl (lv_at hl 3 rfl) ?_
      refine lv_iconst (v := nI 5) hx hb dX0_facesOf_5 (by decide) ?_
      refine cn_ge (tgt := 43) hx hb dX0_facesOf_6 (by decide) (by omega) (by omega) (fun c6 => ?_) (fun c6 => ?_)
      · refine lv_iload_n hx hb dX0_facesOf_43 rfl (lv_at hl 2 rfl) ?_
        exact cd_top (by rw [show i = 5 by omega]) (hret hP hS dX0_facesOf_44)
      · refine lv_iload_n hx hb dX0_facesOf_9 rfl (lv_at hl 1 rfl) ?_
        refine lv_iload_n hx hb dX0_facesOf_10 rfl (lv_at hl 3 rfl) ?_
        refine cn_bitU hx hb (by omega) (by omega) dX0_facesOf_11 dX0_facesOf_12 dX0_facesOf_13 ?_
        refine cb_ifeq (tgt := 37) hx hb dX0_facesOf_14 (by decide) (fun c14 => ?_) (fun c14 => ?_)
        · refine lv_iinc (v := (nI (i + 1))) (lv' := [(3, .int (nI (i + 1))), (0, .ref (a 0)), (1, .int (nI sx)), (2, .int (nI (cd_fc h sx i)))]) hx hb dX0_facesOf_37 hl (k := 3) rfl (cd_inc i) (by decide) rfl (fun ls hl => ?_)
          refine lv_goto (tgt := 4) hx hb dX0_facesOf_40 (by decide) ?_
          have e1 : cd_fc h sx (i + 1) = cd_fc h sx i := by
            show cd_fc h sx i ^^^ (if sx.testBit i = true then 2 ^ cd_rk h (cd_pts (sx ^^^ 2 ^ i)) (sx ^^^ 2 ^ i) else 0) = _
            rw [c14]; simp
          exact ih (i + 1) (by omega) (by omega) _ _ hP hD hS _ (by rw [e1]; exact lv_sub hl [1, 2, 3, 0] rfl)
        · refine lv_aload_n hx hb dX0_facesOf_17 rfl (lv_at hl 0 rfl) ?_
          refine lv_iload_n hx hb dX0_facesOf_18 rfl (lv_at hl 1 rfl) ?_
          refine lv_iconst (v := nI 1) hx hb dX0_facesOf_19 (by decide) ?_
          refine lv_iload_n hx hb dX0_facesOf_20 rfl (lv_at hl 3 rfl) ?_
          refine cn_shl1 hx hb (by omega) dX0_facesOf_21 ?_
          refine lv_iconst (v := -1) hx hb dX0_facesOf_22 (by decide) ?_
          refine lv_ixor hx hb dX0_facesOf_23 ?_
          refine lv_iand hx hb dX0_facesOf_24 ?_
          have hz := cd_nz sx hsx i (by omega) c14 h2x
          refine cd_top (cd_clr sx hsx i (by omega) c14) ?_
          refine cd_callV [] hx hb hml hown hts hA (mt0_placeOf l D a z h R O C rk lf tk (sx ^^^ 2 ^ i) hz.1 hz.2) (cwV 1 hts (lw_V q95 q97 qs5 q15 q98) rfl rfl rfl (by decide +kernel) ⟨Nat.le_of_ble_eq_true rfl, Nat.le_of_ble_eq_true rfl⟩) hK hD hP hS rfl (va_recv hK hP (ci := 0) (q0 := 0) rfl rfl) hl.1 rfl rfl (Nat.le_of_ble_eq_true rfl) dX0_facesOf_25 ⟨Nat.zero_le _, Nat.zero_le _⟩ (fun H locs hP hD hS => ?_)
          refine lv_istore (lv' := [(4, .int (nI (cd_rk h (cd_pts (sx ^^^ 2 ^ i)) (sx ^^^ 2 ^ i)))), (0, .ref (a 0)), (1, .int (nI sx)), (2, .int (nI (cd_fc h sx i))), (3, .int (nI i))]) hx hb dX0_facesOf_28 hl (by decide) rfl (fun ls hl => ?_)
          refine lv_iload_n hx hb dX0_facesOf_30 rfl (lv_at hl 3 rfl) ?_
          refine lv_iconst (v := nI 1) hx hb dX0_facesOf_31 (by decide) ?_
          refine lv_iload hx hb dX0_facesOf_32 (lv_at hl 0 rfl) ?_
          refine cn_shl1 hx hb (by have := cd_rk_le h (cd_pts (sx ^^^ 2 ^ i)) (sx ^^^ 2 ^ i); omega) dX0_facesOf_34 ?_
          refine cn_xor hx hb dX0_facesOf_35 ?_
          refine lv_istore_n (lv' := [(2, .int (nI ((cd_fc h sx i) ^^^ (2 ^ (cd_rk h (cd_pts (sx ^^^ 2 ^ i)) (sx ^^^ 2 ^ i)))))), (4, .int (nI (cd_rk h (cd_pts (sx ^^^ 2 ^ i)) (sx ^^^ 2 ^ i)))), (0, .ref (a 0)), (1, .int (nI sx)), (3, .int (nI i))]) hx hb dX0_facesOf_36 rfl hl (by decide) rfl (fun ls hl => ?_)
          refine lv_iinc (v := (nI (i + 1))) (lv' := [(3, .int (nI (i + 1))), (2, .int (nI ((cd_fc h sx i) ^^^ (2 ^ (cd_rk h (cd_pts (sx ^^^ 2 ^ i)) (sx ^^^ 2 ^ i)))))), (4, .int (nI (cd_rk h (cd_pts (sx ^^^ 2 ^ i)) (sx ^^^ 2 ^ i)))), (0, .ref (a 0)), (1, .int (nI sx))]) hx hb dX0_facesOf_37 hl (k := 4) rfl (cd_inc i) (by decide) rfl (fun ls hl => ?_)
          refine lv_goto (tgt := 4) hx hb dX0_facesOf_40 (by decide) ?_
          have e1 : cd_fc h sx (i + 1) = (cd_fc h sx i) ^^^ (2 ^ (cd_rk h (cd_pts (sx ^^^ 2 ^ i)) (sx ^^^ 2 ^ i))) := by
            show cd_fc h sx i ^^^ (if sx.testBit i = true then 2 ^ cd_rk h (cd_pts (sx ^^^ 2 ^ i)) (sx ^^^ 2 ^ i) else 0) = _
            rw [c14]; simp
          exact ih (i + 1) (by omega) (by omega) _ _ hP hD hS _ (by rw [e1]; exact lv_sub hl [3, 4, 1, 0] rfl)
  refine lv_iconst (v := nI 0) hx hb dX0_facesOf_0 (by decide) ?_
  refine lv_istore_n (lv' := [(2, .int (nI 0)), (0, .ref (a 0)), (1, .int (nI sx))]) hx hb dX0_facesOf_1 rfl hl (by decide) rfl (fun ls hl => ?_)
  refine lv_iconst (v := nI 0) hx hb dX0_facesOf_2 (by decide) ?_
  refine lv_istore_n (lv' := [(3, .int (nI 0)), (2, .int (nI 0)), (0, .ref (a 0)), (1, .int (nI sx))]) hx hb dX0_facesOf_3 rfl hl (by decide) rfl (fun ls hl => ?_)
  exact loop 6 0 (by omega) (by omega) _ _ hP hD hS _ (lv_sub hl [2, 3, 1, 0] rfl)

set_option maxHeartbeats 4000000 in
set_option maxRecDepth 100000 in
theorem mt0_boundaryOf (l : Launch) (D : va_G) (a : Nat → Nat) (z : Nat → ClassId) (h : Nat → Bool) (R O C : Nat → Nat) (rk lf tk : Nat) (k ch : Nat) (hk : k ≤ 4) (hch : ch < 2 ^ cd_cnt h k) : cd_I l yX0_boundaryOf (ws_ yX0_boundaryOf cX0_boundaryOf 6 (some .int)) (cd_rm 3 70) [.ref (a 0), .int (nI k), .int (nI ch)] D (cd_DT z) (cd_DW a z h R O C rk lf tk) (nI (cd_bnd h k ch)) (cd_DW a z h R O C rk lf tk) := by
  refine cd_I.mk cX0_boundaryOf 6 .int RX0 (by decide) rfl (cd_narI _) (Nat.le_of_ble_eq_true rfl) ?_
  intro p e s m args below meth c A Q hx hb hml hown hts hA hK hD hP hS hret ls hl
  have hl : lv_has ls 6 [(0, .ref (a 0)), (1, .int (nI k)), (2, .int (nI ch))] := hl
  have hi10 := cd_cnt_le (h := h) hk
  have hch2 : ch < 1024 := Nat.lt_of_lt_of_le hch (cd_pow_le hi10)
  have loop : ∀ (n i : Nat), i ≤ 10 → 11 ≤ i + n → ∀ (H : Heap) (locs : List Loc), va_P D vwCl (cd_DW a z h R O C rk lf tk) H → va_D A (cd_DW a z h R O C rk lf tk) → va_S A s.heap H locs → ∀ ls : Array Slot, lv_has ls 6 [(0, .ref (a 0)), (1, .int (nI k)), (2, .int (nI ch)), (3, .int (nI (cd_bd h k ch i))), (4, .int (nI i))] → W p l e (cd_rm 3 70) s m args below meth c H locs 0 0 Q (F0 m 5 ls []) := by
    intro n
    induction n with
    | zero => intro i h1 h2; omega
    | succ n ih =>
      intro i h1 h2 H locs hP hD hS ls hl
      refine lv_iload hx hb dX0_boundaryOf_5 (lv_at hl 4 rfl) ?_
      refine lv_bipush (v := nI 10) hx hb dX0_boundaryOf_7 (by decide) ?_
      refine cn_ge (tgt := 49) hx hb dX0_boundaryOf_9 (by decide) (by omega) (by omega) (fun c9 => ?_) (fun c9 => ?_)
      · refine lv_iload_n hx hb dX0_boundaryOf_49 rfl (lv_at hl 3 rfl) ?_
        exact cd_top (by rw [show i = 10 by omega]; rfl) (hret hP hS dX0_boundaryOf_50)
      · refine lv_iload_n hx hb dX0_boundaryOf_12 rfl (lv_at hl 1 rfl) ?_
        refine cn_ifle (tgt := 43) hx hb dX0_boundaryOf_13 (by decide) (by omega) (fun c13 => ?_) (fun c13 => ?_)
        · refine lv_iinc (v := (nI (i + 1))) (lv' := [(4, .int (nI (i + 1))), (0, .ref (a 0)), (1, .int (nI k)), (2, .int (nI ch)), (3, .int (nI (cd_bd h k ch i)))]) hx hb dX0_boundaryOf_43 hl (k := 4) rfl (cd_inc i) (by decide) rfl (fun ls hl => ?_)
          refine lv_goto (tgt := 5) hx hb dX0_boundaryOf_46 (by decide) ?_
          have e1 : cd_bd h k ch (i + 1) = cd_bd h k ch i := by
            show cd_bd h k ch i ^^^ (if ((k != 0) && ch.testBit i) = true then cd_fc h (cd_nth h (k + 1) i) 5 else 0) = _
            first | (simp [c13, c22]; done) | (simp [c13]; done)
          exact ih (i + 1) (by omega) (by omega) _ _ hP hD hS _ (by rw [e1]; exact lv_sub hl [1, 2, 3, 4, 0] rfl)
        · refine lv_iload_n hx hb dX0_boundaryOf_16 rfl (lv_at hl 2 rfl) ?_
          refine lv_iload hx hb dX0_boundaryOf_17 (lv_at hl 4 rfl) ?_
          refine cn_bitU hx hb (by omega) (by omega) dX0_boundaryOf_19 dX0_boundaryOf_20 dX0_boundaryOf_21 ?_
          refine cb_ifeq (tgt := 43) hx hb dX0_boundaryOf_22 (by decide) (fun c22 => ?_) (fun c22 => ?_)
          · refine lv_iinc (v := (nI (i + 1))) (lv' := [(4, .int (nI (i + 1))), (0, .ref (a 0)), (1, .int (nI k)), (2, .int (nI ch)), (3, .int (nI (cd_bd h k ch i)))]) hx hb dX0_boundaryOf_43 hl (k := 4) rfl (cd_inc i) (by decide) rfl (fun ls hl => ?_)
            refine lv_goto (tgt := 5) hx hb dX0_boundaryOf_46 (by decide) ?_
            have e1 : cd_bd h k ch (i + 1) = cd_bd h k ch i := by
              show cd_bd h k ch i ^^^ (if ((k != 0) && ch.testBit i) = true then cd_fc h (cd_nth h (k + 1) i) 5 else 0) = _
              first | (simp [c13, c22]; done) | (simp [c13]; done)
            exact ih (i + 1) (by omega) (by omega) _ _ hP hD hS _ (by rw [e1]; exact lv_sub hl [1, 2, 3, 4, 0] rfl)
          · have hic : i < cd_cnt h k := cd_bit_lt hch c22
            have hnp := cd_nth_pts (h := h) (d := k + 1) (i := i) hic
            refine lv_aload_n hx hb dX0_boundaryOf_25 rfl (lv_at hl 0 rfl) ?_
            refine lv_iload_n hx hb dX0_boundaryOf_26 rfl (lv_at hl 1 rfl) ?_
            refine lv_iload hx hb dX0_boundaryOf_27 (lv_at hl 4 rfl) ?_
            refine cd_callV [] hx hb hml hown hts hA (mt0_simplexAt l D a z h R O C rk lf tk k i hk hic) (cwV 2 hts (lw_V q75 q77 qs1 q15 q78) rfl rfl rfl (by decide +kernel) ⟨Nat.le_of_ble_eq_true rfl, Nat.le_of_ble_eq_true rfl⟩) hK hD hP hS rfl (va_recv hK hP (ci := 0) (q0 := 0) rfl rfl) hl.1 rfl rfl (Nat.le_of_ble_eq_true rfl) dX0_boundaryOf_29 ⟨Nat.zero_le _, Nat.zero_le _⟩ (fun H locs hP hD hS => ?_)
            refine lv_istore (lv' := [(5, .int (nI (cd_nth h (k + 1) i))), (0, .ref (a 0)), (1, .int (nI k)), (2, .int (nI ch)), (3, .int (nI (cd_bd h k ch i))), (4, .int (nI i))]) hx hb dX0_boundaryOf_32 hl (by decide) rfl (fun ls hl => ?_)
            refine lv_iload_n hx hb dX0_boundaryOf_34 rfl (lv_at hl 4 rfl) ?_
            refine lv_aload_n hx hb dX0_boundaryOf_35 rfl (lv_at hl 1 rfl) ?_
            refine lv_iload hx hb dX0_boundaryOf_36 (lv_at hl 0 rfl) ?_
            refine cd_callV [.int (nI (cd_bd h k ch i))] hx hb hml hown hts hA (mt0_facesOf l D a z h R O C rk lf tk (cd_nth h (k + 1) i) (cd_nth_lt h (k + 1) i) (by omega)) (cwV 1 hts (lw_V q91 q93 qs4 q15 q94) rfl rfl rfl (by decide +kernel) ⟨Nat.le_of_ble_eq_true rfl, Nat.le_of_ble_eq_true rfl⟩) hK hD hP hS rfl (va_recv hK hP (ci := 0) (q0 := 0) rfl rfl) hl.1 rfl rfl (Nat.le_of_ble_eq_true rfl) dX0_boundaryOf_38 ⟨Nat.zero_le _, Nat.zero_le _⟩ (fun H locs hP hD hS => ?_)
            refine cn_xor hx hb dX0_boundaryOf_41 ?_
            refine lv_istore_n (lv' := [(3, .int (nI ((cd_bd h k ch i) ^^^ (cd_fc h (cd_nth h (k + 1) i) 5)))), (5, .int (nI (cd_nth h (k + 1) i))), (0, .ref (a 0)), (1, .int (nI k)), (2, .int (nI ch)), (4, .int (nI i))]) hx hb dX0_boundaryOf_42 rfl hl (by decide) rfl (fun ls hl => ?_)
            refine lv_iinc (v := (nI (i + 1))) (lv' := [(4, .int (nI (i + 1))), (3, .int (nI ((cd_bd h k ch i) ^^^ (cd_fc h (cd_nth h (k + 1) i) 5)))), (5, .int (nI (cd_nth h (k + 1) i))), (0, .ref (a 0)), (1, .int (nI k)), (2, .int (nI ch))]) hx hb dX0_boundaryOf_43 hl (k := 5) rfl (cd_inc i) (by decide) rfl (fun ls hl => ?_)
            refine lv_goto (tgt := 5) hx hb dX0_boundaryOf_46 (by decide) ?_
            have e1 : cd_bd h k ch (i + 1) = (cd_bd h k ch i) ^^^ (cd_fc h (cd_nth h (k + 1) i) 5) := by
              show cd_bd h k ch i ^^^ (if ((k != 0) && ch.testBit i) = true then cd_fc h (cd_nth h (k + 1) i) 5 else 0) = _
              first | (simp [c13, c22]; done) | (simp [c13]; done)
            exact ih (i + 1) (by omega) (by omega) _ _ hP hD hS _ (by rw [e1]; exact lv_sub hl [3, 4, 5, 1, 0] rfl)
  refine lv_iconst (v := nI 0) hx hb dX0_boundaryOf_0 (by decide) ?_
  refine lv_istore_n (lv' := [(3, .int (nI 0)), (0, .ref (a 0)), (1, .int (nI k)), (2, .int (nI ch))]) hx hb dX0_boundaryOf_1 rfl hl (by decide) rfl (fun ls hl => ?_)
  refine lv_iconst (v := nI 0) hx hb dX0_boundaryOf_2 (by decide) ?_
  refine lv_istore (lv' := [(4, .int (nI 0)), (3, .int (nI 0)), (0, .ref (a 0)), (1, .int (nI k)), (2, .int (nI ch))]) hx hb dX0_boundaryOf_3 hl (by decide) rfl (fun ls hl => ?_)
  exact loop 11 0 (by omega) (by omega) _ _ hP hD hS _ (lv_sub hl [2, 3, 4, 1, 0] rfl)

set_option maxHeartbeats 4000000 in
set_option maxRecDepth 100000 in
theorem mt0_isChain (l : Launch) (D : va_G) (a : Nat → Nat) (z : Nat → ClassId) (h : Nat → Bool) (R O C : Nat → Nat) (rk lf tk : Nat) (k0 x0 : Int32) : cd_I l yX0_isChain (ws_ yX0_isChain cX0_isChain 3 (some .boolean)) (cd_rm 2 45) [.ref (a 0), .int k0, .int x0] D (cd_DT z) (cd_DW a z h R O C rk lf tk) (cd_b (cd_chn h k0 x0)) (cd_DW a z h R O C rk lf tk) := by
  refine cd_I.mk cX0_isChain 3 .boolean RX0 (by decide) rfl (cd_narB _) (Nat.le_of_ble_eq_true rfl) ?_
  intro p e s m args below meth c A Q hx hb hml hown hts hA hK hD hP hS hret ls hl
  have hl : lv_has ls 3 [(0, .ref (a 0)), (1, .int k0), (2, .int x0)] := hl
  refine lv_iload_n hx hb dX0_isChain_0 rfl (lv_at hl 1 rfl) ?_
  refine cd_callS [] hx hb hml hown hts hA (mt0_isDimension l D _ _ k0) (va_cwS 1 hts (lw_S q61 q62 q15 q63) rfl rfl rfl (by decide +kernel) ⟨Nat.le_of_ble_eq_true rfl, Nat.le_of_ble_eq_true rfl⟩) hK hD hP hS rfl hl.1 rfl rfl (Nat.le_of_ble_eq_true rfl) dX0_isChain_1 ⟨Nat.zero_le _, Nat.zero_le _⟩ (fun H locs hP hD hS => ?_)
  refine cb_ifeq (tgt := 26) hx hb dX0_isChain_4 (by decide) (fun c4 => ?_) (fun c4 => ?_)
  · refine lv_iconst (v := nI 0) hx hb dX0_isChain_26 (by decide) ?_
    exact cd_top (by first | (rw [cd_chn_nI hk hx2, decide_eq_false (Nat.not_lt.mpr c19)]; rfl) | (rw [cd_chn_f2 c8]; rfl) | (rw [cd_chn_f1 c4]; rfl)) (hret hP hS dX0_isChain_27)
  · obtain ⟨k, hk, rfl⟩ := cd_dimE c4
    have hi10 := cd_cnt_le (h := h) hk
    have hp10 := cd_pow_le hi10
    refine lv_iload_n hx hb dX0_isChain_7 rfl (lv_at hl 2 rfl) ?_
    refine lv_if_lt (tgt := 26) hx hb dX0_isChain_8 (by decide) (fun c8 => ?_) (fun c8 => ?_)
    · refine lv_iconst (v := nI 0) hx hb dX0_isChain_26 (by decide) ?_
      exact cd_top (by first | (rw [cd_chn_nI hk hx2, decide_eq_false (Nat.not_lt.mpr c19)]; rfl) | (rw [cd_chn_f2 c8]; rfl) | (rw [cd_chn_f1 c4]; rfl)) (hret hP hS dX0_isChain_27)
    · obtain ⟨x, hx2, rfl⟩ := nI_of c8
      refine lv_iload_n hx hb dX0_isChain_11 rfl (lv_at hl 2 rfl) ?_
      refine lv_iconst (v := nI 1) hx hb dX0_isChain_12 (by decide) ?_
      refine lv_aload_n hx hb dX0_isChain_13 rfl (lv_at hl 0 rfl) ?_
      refine lv_iload_n hx hb dX0_isChain_14 rfl (lv_at hl 1 rfl) ?_
      refine cd_callV [.int (nI 1), .int (nI x)] hx hb hml hown hts hA (mt0_countOf l D a z h R O C rk lf tk k hk) (cwV 1 hts (lw_V q64 q66 qs0 q15 q67) rfl rfl rfl (by decide +kernel) ⟨Nat.le_of_ble_eq_true rfl, Nat.le_of_ble_eq_true rfl⟩) hK hD hP hS rfl (va_recv hK hP (ci := 0) (q0 := 0) rfl rfl) hl.1 rfl rfl (Nat.le_of_ble_eq_true rfl) dX0_isChain_15 ⟨Nat.zero_le _, Nat.zero_le _⟩ (fun H locs hP hD hS => ?_)
      refine cn_shl1 hx hb (by omega) dX0_isChain_18 ?_
      refine cn_ge (tgt := 26) hx hb dX0_isChain_19 (by decide) (by omega) (by omega) (fun c19 => ?_) (fun c19 => ?_)
      · refine lv_iconst (v := nI 0) hx hb dX0_isChain_26 (by decide) ?_
        exact cd_top (by first | (rw [cd_chn_nI hk hx2, decide_eq_false (Nat.not_lt.mpr c19)]; rfl) | (rw [cd_chn_f2 c8]; rfl) | (rw [cd_chn_f1 c4]; rfl)) (hret hP hS dX0_isChain_27)
      · refine lv_iconst (v := nI 1) hx hb dX0_isChain_22 (by decide) ?_
        refine lv_goto (tgt := 27) hx hb dX0_isChain_23 (by decide) ?_
        exact cd_top (by rw [cd_chn_nI hk hx2, decide_eq_true c19]; rfl) (hret hP hS dX0_isChain_27)
end
section
set_option maxHeartbeats 4000000 in
set_option maxRecDepth 100000 in
theorem mt0_highest (l : Launch) (D : va_G) (tys : List (ClassId × FieldType)) (w : va_W) (x : Nat) (hx2 : x < 2048) : cd_I l yX0_highest (ws_ yX0_highest cX0_highest 3 (some .int)) (cd_rm 0 0) [.int (nI x)] D tys (w) (nI (cd_hi x 10)) (w) := by
  refine cd_I.mk cX0_highest 3 .int RX0 (by decide) rfl (cd_narI _) (Nat.le_of_ble_eq_true rfl) ?_
  intro p e s m args below meth c A Q hx hb hml hown hts hA hK hD hP hS hret ls hl
  have hl : lv_has ls 3 [(0, .int (nI x))] := hl
  have loop : ∀ (n i : Nat), i ≤ 10 → 11 ≤ i + n → ∀ (H : Heap) (locs : List Loc), va_P D vwCl (w) H → va_D A (w) → va_S A s.heap H locs → ∀ ls : Array Slot, lv_has ls 3 [(0, .int (nI x)), (1, .int (nI (cd_hi x i))), (2, .int (nI i))] → W p l e (cd_rm 0 0) s m args below meth c H locs 0 0 Q (F0 m 4 ls []) := by
    intro n
    induction n with
    | zero => intro i h1 h2; omega
    | succ n ih =>
      intro i h1 h2 H locs hP hD hS ls hl
      refine lv_iload_n hx hb dX0_highest_4 rfl (lv_at hl 2 rfl) ?_
      refine lv_bipush (v := nI 10) hx hb dX0_highest_5 (by decide) ?_
      refine cn_ge (tgt := 30) hx hb dX0_highest_7 (by decide) (by omega) (by omega) (fun c7 => ?_) (fun c7 => ?_)
      · refine lv_iload_n hx hb dX0_highest_30 rfl (lv_at hl 1 rfl) ?_
        exact cd_top (by rw [show i = 10 by omega]) (hret hP hS dX0_highest_31)
      · refine lv_iload_n hx hb dX0_highest_10 rfl (lv_at hl 0 rfl) ?_
        refine lv_iload_n hx hb dX0_highest_11 rfl (lv_at hl 2 rfl) ?_
        refine cn_bitU hx hb (by omega) (by omega) dX0_highest_12 dX0_highest_13 dX0_highest_14 ?_
        refine cb_ifeq (tgt := 22) hx hb dX0_highest_15 (by decide) (fun c15 => ?_) (fun c15 => ?_)
        · refine lv_iload_n hx hb dX0_highest_22 rfl (lv_at hl 1 rfl) ?_
          refine lv_istore_n (lv' := [(1, .int (nI (cd_hi x i))), (0, .int (nI x)), (2, .int (nI i))]) hx hb dX0_highest_23 rfl hl (by decide) rfl (fun ls hl => ?_)
          refine lv_iinc (v := (nI (i + 1))) (lv' := [(2, .int (nI (i + 1))), (1, .int (nI (cd_hi x i))), (0, .int (nI x))]) hx hb dX0_highest_24 hl (k := 2) rfl (cd_inc i) (by decide) rfl (fun ls hl => ?_)
          refine lv_goto (tgt := 4) hx hb dX0_highest_27 (by decide) ?_
          have e1 : cd_hi x (i + 1) = cd_hi x i := by
            show (if x.testBit i = true then i else cd_hi x i) = _
            rw [c15]; rfl
          exact ih (i + 1) (by omega) (by omega) _ _ hP hD hS _ (by rw [e1]; exact lv_sub hl [2, 1, 0] rfl)
        · refine lv_iload_n hx hb dX0_highest_18 rfl (lv_at hl 2 rfl) ?_
          refine lv_goto (tgt := 23) hx hb dX0_highest_19 (by decide) ?_
          refine lv_istore_n (lv' := [(1, .int (nI i)), (0, .int (nI x)), (2, .int (nI i))]) hx hb dX0_highest_23 rfl hl (by decide) rfl (fun ls hl => ?_)
          refine lv_iinc (v := (nI (i + 1))) (lv' := [(2, .int (nI (i + 1))), (1, .int (nI i)), (0, .int (nI x))]) hx hb dX0_highest_24 hl (k := 2) rfl (cd_inc i) (by decide) rfl (fun ls hl => ?_)
          refine lv_goto (tgt := 4) hx hb dX0_highest_27 (by decide) ?_
          have e1 : cd_hi x (i + 1) = i := by
            show (if x.testBit i = true then i else cd_hi x i) = _
            rw [c15]; rfl
          exact ih (i + 1) (by omega) (by omega) _ _ hP hD hS _ (by rw [e1]; exact lv_sub hl [2, 1, 0] rfl)
  refine lv_iconst (v := nI 0) hx hb dX0_highest_0 (by decide) ?_
  refine lv_istore_n (lv' := [(1, .int (nI 0)), (0, .int (nI x))]) hx hb dX0_highest_1 rfl hl (by decide) rfl (fun ls hl => ?_)
  refine lv_iconst (v := nI 0) hx hb dX0_highest_2 (by decide) ?_
  refine lv_istore_n (lv' := [(2, .int (nI 0)), (1, .int (nI 0)), (0, .int (nI x))]) hx hb dX0_highest_3 rfl hl (by decide) rfl (fun ls hl => ?_)
  exact loop 11 0 (by omega) (by omega) _ _ hP hD hS _ (lv_sub hl [2, 1, 0] rfl)

set_option maxHeartbeats 4000000 in
set_option maxRecDepth 100000 in
theorem mt0_reduce (l : Launch) (D : va_G) (a : Nat → Nat) (z : Nat → ClassId) (h : Nat → Bool) (R O C : Nat → Nat) (rk lf tk : Nat) (ch : Nat) (hR : ∀ b, b < 10 → R b < 2048) (hch : ch < 2048) : cd_V l yX0_reduce (ws_ yX0_reduce cX0_reduce 3 none) (cd_rm 0 0) [.ref (a 0), .int (nI ch)] D (cd_DT z) (cd_DW a z h R O C rk lf tk) (cd_DW a z h R O C rk ((cd_red R O 10 ch 0).1) ((cd_red R O 10 ch 0).2)) := by
  refine cd_V.mk cX0_reduce 3 RX0 (by decide) rfl (Nat.le_of_ble_eq_true rfl) ?_
  intro p e s m args below meth c A Q hx hb hml hown hts hA hK hD hP hS hret ls hl
  have hl : lv_has ls 3 [(0, .ref (a 0)), (1, .int (nI ch))] := hl
  have loop : ∀ (n x t : Nat), n ≤ 10 → x < 2048 → cd_red R O n x t = cd_red R O 10 ch 0 → ∀ (H : Heap) (locs : List Loc), va_P D vwCl (cd_DW a z h R O C rk x t) H → va_D A (cd_DW a z h R O C rk x t) → va_S A s.heap H locs → ∀ ls : Array Slot, lv_has ls 3 [(0, .ref (a 0)), (1, .int (nI ch)), (2, .int (cd_m n))] → W p l e (cd_rm 0 0) s m args below meth c H locs 0 0 Q (F0 m 13 ls []) := by
    intro n
    induction n with
    | zero =>
      intro x t h1 h2 he H locs hP hD hS ls hl
      refine lv_iload_n hx hb dX0_reduce_13 rfl (lv_at hl 2 rfl) ?_
      refine cn_iflt_m (tgt := 73) hx hb dX0_reduce_14 (by decide) ?_
      exact hret (by rw [← he]; exact hP) hS dX0_reduce_73
    | succ n ih =>
      intro x t h1 h2 he H locs hP hD hS ls hl
      rw [cd_mS] at hl
      have hRn := hR n (by omega)
      refine lv_iload_n hx hb dX0_reduce_13 rfl (lv_at hl 2 rfl) ?_
      refine cn_iflt (tgt := 73) hx hb dX0_reduce_14 (by decide) (by omega) ?_
      refine lv_aload_n hx hb dX0_reduce_17 rfl (lv_at hl 0 rfl) ?_
      refine gx_row hx hb hts hown hK hP dX0_reduce_18 ?_
      refine lv_iload_n hx hb dX0_reduce_21 rfl (lv_at hl 2 rfl) ?_
      refine ax_row hx hb hK hP (by omega) dX0_reduce_22 ?_
      refine cn_ifeq (tgt := 67) hx hb dX0_reduce_23 (by decide) (by omega) (fun c23 => ?_) (fun c23 => ?_)
      · refine lv_iinc (v := (cd_m n)) (lv' := [(2, .int (cd_m n)), (0, .ref (a 0)), (1, .int (nI ch))]) hx hb dX0_reduce_67 hl (k := 2) rfl rfl (by decide) rfl (fun ls hl => ?_)
        refine lv_goto (tgt := 13) hx hb dX0_reduce_70 (by decide) ?_
        have e1 : cd_red R O n x t = cd_red R O 10 ch 0 := by
          rw [← he]
          show _ = (if ((R n != 0) && x.testBit n) = true then cd_red R O n (x ^^^ R n) (t ^^^ O n) else cd_red R O n x t)
          first | (simp [c23, c34]; done) | (simp [c23]; done)
        exact ih x t (by omega) h2 e1 _ _ hP hD hS _ (lv_sub hl [1, 2, 0] rfl)
      · refine lv_aload_n hx hb dX0_reduce_26 rfl (lv_at hl 0 rfl) ?_
        refine gx_left hx hb hts hown hK hP dX0_reduce_27 ?_
        refine lv_iload_n hx hb dX0_reduce_30 rfl (lv_at hl 2 rfl) ?_
        refine cn_bitU hx hb (by omega) (by omega) dX0_reduce_31 dX0_reduce_32 dX0_reduce_33 ?_
        refine cb_ifeq (tgt := 67) hx hb dX0_reduce_34 (by decide) (fun c34 => ?_) (fun c34 => ?_)
        · refine lv_iinc (v := (cd_m n)) (lv' := [(2, .int (cd_m n)), (0, .ref (a 0)), (1, .int (nI ch))]) hx hb dX0_reduce_67 hl (k := 2) rfl rfl (by decide) rfl (fun ls hl => ?_)
          refine lv_goto (tgt := 13) hx hb dX0_reduce_70 (by decide) ?_
          have e1 : cd_red R O n x t = cd_red R O 10 ch 0 := by
            rw [← he]
            show _ = (if ((R n != 0) && x.testBit n) = true then cd_red R O n (x ^^^ R n) (t ^^^ O n) else cd_red R O n x t)
            first | (simp [c23, c34]; done) | (simp [c23]; done)
          exact ih x t (by omega) h2 e1 _ _ hP hD hS _ (lv_sub hl [1, 2, 0] rfl)
        · refine lv_aload_n hx hb dX0_reduce_37 rfl (lv_at hl 0 rfl) ?_
          refine lv_dup hx hb dX0_reduce_38 rfl ?_
          refine gx_left hx hb hts hown hK hP dX0_reduce_39 ?_
          refine lv_aload_n hx hb dX0_reduce_42 rfl (lv_at hl 0 rfl) ?_
          refine gx_row hx hb hts hown hK hP dX0_reduce_43 ?_
          refine lv_iload_n hx hb dX0_reduce_46 rfl (lv_at hl 2 rfl) ?_
          refine ax_row hx hb hK hP (by omega) dX0_reduce_47 ?_
          refine cn_xor hx hb dX0_reduce_48 ?_
          refine px_left hx hb hts hown hK hD hP hS dX0_reduce_49 (fun H locs hP hD hS => ?_)
          refine lv_aload_n hx hb dX0_reduce_52 rfl (lv_at hl 0 rfl) ?_
          refine lv_dup hx hb dX0_reduce_53 rfl ?_
          refine gx_taken hx hb hts hown hK hP dX0_reduce_54 ?_
          refine lv_aload_n hx hb dX0_reduce_57 rfl (lv_at hl 0 rfl) ?_
          refine gx_origin hx hb hts hown hK hP dX0_reduce_58 ?_
          refine lv_iload_n hx hb dX0_reduce_61 rfl (lv_at hl 2 rfl) ?_
          refine ax_origin hx hb hK hP (by omega) dX0_reduce_62 ?_
          refine cn_xor hx hb dX0_reduce_63 ?_
          refine px_taken hx hb hts hown hK hD hP hS dX0_reduce_64 (fun H locs hP hD hS => ?_)
          refine lv_iinc (v := (cd_m n)) (lv' := [(2, .int (cd_m n)), (0, .ref (a 0)), (1, .int (nI ch))]) hx hb dX0_reduce_67 hl (k := 2) rfl rfl (by decide) rfl (fun ls hl => ?_)
          refine lv_goto (tgt := 13) hx hb dX0_reduce_70 (by decide) ?_
          have e1 : cd_red R O n (x ^^^ (R n)) (t ^^^ (O n)) = cd_red R O 10 ch 0 := by
            rw [← he]
            show _ = (if ((R n != 0) && x.testBit n) = true then cd_red R O n (x ^^^ R n) (t ^^^ O n) else cd_red R O n x t)
            first | (simp [c23, c34]; done) | (simp [c23]; done)
          exact ih (x ^^^ (R n)) (t ^^^ (O n)) (by omega) (cd_x2 h2 hRn) e1 _ _ hP hD hS _ (lv_sub hl [1, 2, 0] rfl)
  refine lv_aload_n hx hb dX0_reduce_0 rfl (lv_at hl 0 rfl) ?_
  refine lv_iload_n hx hb dX0_reduce_1 rfl (lv_at hl 1 rfl) ?_
  refine px_left hx hb hts hown hK hD hP hS dX0_reduce_2 (fun H locs hP hD hS => ?_)
  refine lv_aload_n hx hb dX0_reduce_5 rfl (lv_at hl 0 rfl) ?_
  refine lv_iconst (v := nI 0) hx hb dX0_reduce_6 (by decide) ?_
  refine px_taken hx hb hts hown hK hD hP hS dX0_reduce_7 (fun H locs hP hD hS => ?_)
  refine lv_bipush (v := nI 9) hx hb dX0_reduce_10 (by decide) ?_
  refine lv_istore_n (lv' := [(2, .int (nI 9)), (0, .ref (a 0)), (1, .int (nI ch))]) hx hb dX0_reduce_12 rfl hl (by decide) rfl (fun ls hl => ?_)
  exact loop 10 ch 0 (by omega) hch rfl _ _ hP hD hS _ (by rw [cd_m10]; exact lv_sub hl [1, 2, 0] rfl)

set_option maxHeartbeats 4000000 in
set_option maxRecDepth 100000 in
theorem mt0_addCycle (l : Launch) (D : va_G) (a : Nat → Nat) (z : Nat → ClassId) (h : Nat → Bool) (R O C : Nat → Nat) (rk lf tk : Nat) (ch : Nat) (hC : ∀ b, b < 10 → C b < 2048) (hch : ch < 2048) : cd_V l yX0_addCycle (ws_ yX0_addCycle cX0_addCycle 4 none) (cd_rm 0 0) [.ref (a 0), .int (nI ch)] D (cd_DT z) (cd_DW a z h R O C rk lf tk) (cd_DW a z h R O (cd_addC C 10 ch) rk lf tk) := by
  refine cd_V.mk cX0_addCycle 4 RX0 (by decide) rfl (Nat.le_of_ble_eq_true rfl) ?_
  intro p e s m args below meth c A Q hx hb hml hown hts hA hK hD hP hS hret ls hl
  have hl : lv_has ls 4 [(0, .ref (a 0)), (1, .int (nI ch))] := hl
  have loop : ∀ (n x : Nat), n ≤ 10 → x < 2048 → cd_addC C n x = cd_addC C 10 ch → ∀ (H : Heap) (locs : List Loc), va_P D vwCl (cd_DW a z h R O C rk lf tk) H → va_D A (cd_DW a z h R O C rk lf tk) → va_S A s.heap H locs → ∀ ls : Array Slot, lv_has ls 4 [(0, .ref (a 0)), (1, .int (nI ch)), (2, .int (nI x)), (3, .int (cd_m n))] → W p l e (cd_rm 0 0) s m args below meth c H locs 0 0 Q (F0 m 5 ls []) := by
    intro n
    induction n with
    | zero =>
      intro x h1 h2 he H locs hP hD hS ls hl
      refine lv_iload_n hx hb dX0_addCycle_5 rfl (lv_at hl 3 rfl) ?_
      refine cn_iflt_m (tgt := 49) hx hb dX0_addCycle_6 (by decide) ?_
      exact hret (by rw [← he]; exact hP) hS dX0_addCycle_49
    | succ n ih =>
      intro x h1 h2 he H locs hP hD hS ls hl
      rw [cd_mS] at hl
      have hCn := hC n (by omega)
      have he2 : (if x.testBit n = true then (if C n = 0 then cd_up C n x else cd_addC C n (x ^^^ C n)) else cd_addC C n x) = cd_addC C 10 ch := he
      refine lv_iload_n hx hb dX0_addCycle_5 rfl (lv_at hl 3 rfl) ?_
      refine cn_iflt (tgt := 49) hx hb dX0_addCycle_6 (by decide) (by omega) ?_
      refine lv_iload_n hx hb dX0_addCycle_9 rfl (lv_at hl 2 rfl) ?_
      refine lv_iload_n hx hb dX0_addCycle_10 rfl (lv_at hl 3 rfl) ?_
      refine cn_bitU hx hb (by omega) (by omega) dX0_addCycle_11 dX0_addCycle_12 dX0_addCycle_13 ?_
      refine cb_ifeq (tgt := 43) hx hb dX0_addCycle_14 (by decide) (fun c14 => ?_) (fun c14 => ?_)
      · refine lv_iinc (v := (cd_m n)) (lv' := [(3, .int (cd_m n)), (0, .ref (a 0)), (1, .int (nI ch)), (2, .int (nI x))]) hx hb dX0_addCycle_43 hl (k := 3) rfl rfl (by decide) rfl (fun ls hl => ?_)
        refine lv_goto (tgt := 5) hx hb dX0_addCycle_46 (by decide) ?_
        have e1 : cd_addC C n x = cd_addC C 10 ch := by
          rw [← he2, c14]
          first | (simp [c23]; done) | (simp; done)
        exact ih x (by omega) h2 e1 _ _ hP hD hS _ (lv_sub hl [1, 2, 3, 0] rfl)
      · refine lv_aload_n hx hb dX0_addCycle_17 rfl (lv_at hl 0 rfl) ?_
        refine gx_cycle hx hb hts hown hK hP dX0_addCycle_18 ?_
        refine lv_iload_n hx hb dX0_addCycle_21 rfl (lv_at hl 3 rfl) ?_
        refine ax_cycle hx hb hK hP (by omega) dX0_addCycle_22 ?_
        refine cn_ifne (tgt := 34) hx hb dX0_addCycle_23 (by decide) (by omega) (fun c23 => ?_) (fun c23 => ?_)
        · refine lv_iload_n hx hb dX0_addCycle_34 rfl (lv_at hl 2 rfl) ?_
          refine lv_aload_n hx hb dX0_addCycle_35 rfl (lv_at hl 0 rfl) ?_
          refine gx_cycle hx hb hts hown hK hP dX0_addCycle_36 ?_
          refine lv_iload_n hx hb dX0_addCycle_39 rfl (lv_at hl 3 rfl) ?_
          refine ax_cycle hx hb hK hP (by omega) dX0_addCycle_40 ?_
          refine cn_xor hx hb dX0_addCycle_41 ?_
          refine lv_istore_n (lv' := [(2, .int (nI (x ^^^ (C n)))), (0, .ref (a 0)), (1, .int (nI ch)), (3, .int (nI n))]) hx hb dX0_addCycle_42 rfl hl (by decide) rfl (fun ls hl => ?_)
          refine lv_iinc (v := (cd_m n)) (lv' := [(3, .int (cd_m n)), (2, .int (nI (x ^^^ (C n)))), (0, .ref (a 0)), (1, .int (nI ch))]) hx hb dX0_addCycle_43 hl (k := 3) rfl rfl (by decide) rfl (fun ls hl => ?_)
          refine lv_goto (tgt := 5) hx hb dX0_addCycle_46 (by decide) ?_
          have e1 : cd_addC C n (x ^^^ (C n)) = cd_addC C 10 ch := by
            rw [← he2, c14]
            first | (simp [c23]; done) | (simp; done)
          exact ih (x ^^^ (C n)) (by omega) (cd_x2 h2 hCn) e1 _ _ hP hD hS _ (lv_sub hl [2, 3, 1, 0] rfl)
        · refine lv_aload_n hx hb dX0_addCycle_26 rfl (lv_at hl 0 rfl) ?_
          refine gx_cycle hx hb hts hown hK hP dX0_addCycle_27 ?_
          refine lv_iload_n hx hb dX0_addCycle_30 rfl (lv_at hl 3 rfl) ?_
          refine lv_iload_n hx hb dX0_addCycle_31 rfl (lv_at hl 2 rfl) ?_
          refine sx_cycle hx hb hK hP hD hS (by omega) dX0_addCycle_32 (fun H locs hP hD hS => ?_)
          exact hret (by rw [← he2, c14, if_pos rfl, if_pos c23]; exact hP) hS dX0_addCycle_33
  refine lv_iload_n hx hb dX0_addCycle_0 rfl (lv_at hl 1 rfl) ?_
  refine lv_istore_n (lv' := [(2, .int (nI ch)), (0, .ref (a 0)), (1, .int (nI ch))]) hx hb dX0_addCycle_1 rfl hl (by decide) rfl (fun ls hl => ?_)
  refine lv_bipush (v := nI 9) hx hb dX0_addCycle_2 (by decide) ?_
  refine lv_istore_n (lv' := [(3, .int (nI 9)), (2, .int (nI ch)), (0, .ref (a 0)), (1, .int (nI ch))]) hx hb dX0_addCycle_4 rfl hl (by decide) rfl (fun ls hl => ?_)
  exact loop 10 ch (by omega) hch rfl _ _ hP hD hS _ (by rw [cd_m10]; exact lv_sub hl [2, 3, 1, 0] rfl)

set_option maxHeartbeats 4000000 in
set_option maxRecDepth 100000 in
theorem mt0_eliminate (l : Launch) (D : va_G) (a : Nat → Nat) (z : Nat → ClassId) (h : Nat → Bool) (R O C : Nat → Nat) (rk lf tk : Nat) (k : Nat) (hk : k ≤ 5) : cd_V l yX0_eliminate (ws_ yX0_eliminate cX0_eliminate 6 none) (cd_rm 4 95) [.ref (a 0), .int (nI k)] D (cd_DT z) (cd_DW a z h R O C rk lf tk) (cd_DW a z h ((cd_elim h k R O C lf tk).1) ((cd_elim h k R O C lf tk).2.1) ((cd_elim h k R O C lf tk).2.2.1) ((cd_elim h k R O C lf tk).2.2.2.1) ((cd_elim h k R O C lf tk).2.2.2.2.1) ((cd_elim h k R O C lf tk).2.2.2.2.2)) := by
  refine cd_V.mk cX0_eliminate 6 RX0 (by decide) rfl (Nat.le_of_ble_eq_true rfl) ?_
  intro p e s m args below meth c A Q hx hb hml hown hts hA hK hD hP hS hret ls hl
  have hl : lv_has ls 6 [(0, .ref (a 0)), (1, .int (nI k))] := hl
  have hn10 := cd_n_le h k
  have loop : ∀ (n i : Nat) (u : cd_E), i ≤ cd_n h k → cd_n h k + 1 ≤ i + n → u = cd_el h k (cd_z R 10, cd_z O 10, cd_z C 10, 0, lf, tk) i → ∀ (H : Heap) (locs : List Loc), va_P D vwCl (cd_DW a z h u.1 u.2.1 u.2.2.1 u.2.2.2.1 u.2.2.2.2.1 u.2.2.2.2.2) H → va_D A (cd_DW a z h u.1 u.2.1 u.2.2.1 u.2.2.2.1 u.2.2.2.2.1 u.2.2.2.2.2) → va_S A s.heap H locs → ∀ ls : Array Slot, lv_has ls 6 [(0, .ref (a 0)), (1, .int (nI k)), (2, .int (nI (cd_n h k))), (3, .int (nI i))] → W p l e (cd_rm 4 95) s m args below meth c H locs 0 0 Q (F0 m 57 ls []) := by
    intro n
    induction n with
    | zero => intro i u h1 h2; omega
    | succ n ih =>
      intro i u h1 h2 hu H locs hP hD hS ls hl
      refine lv_iload_n hx hb dX0_eliminate_57 rfl (lv_at hl 3 rfl) ?_
      refine lv_iload_n hx hb dX0_eliminate_58 rfl (lv_at hl 2 rfl) ?_
      refine cn_ge (tgt := 155) hx hb dX0_eliminate_59 (by decide) (by omega) (by omega) (fun c59 => ?_) (fun c59 => ?_)
      · have e1 : i = cd_n h k := by omega
        have e2 : u = cd_elim h k R O C lf tk := by rw [hu, e1]; rfl
        exact hret (by rw [← e2]; exact hP) hS dX0_eliminate_155
      · have hk4 : k ≤ 4 := by
          rcases Nat.lt_or_ge 4 k with q | q
          · rw [cd_n_5 (by omega)] at c59; omega
          · exact q
        have hcn := cd_n_of (h := h) hk4
        have hic : 2 ^ i < 2 ^ cd_cnt h k := Nat.pow_lt_pow_right (by decide) (by omega)
        have hB : cd_B u := by rw [hu]; exact cd_el_B (cd_z_B _ _ _ _ _ _) i (by omega)
        have hl2 := cd_red_lt (O := u.2.1) hB.1 10 (Nat.le_refl _) (cd_bnd h k (2 ^ i)) 0 (cd_bnd_lt _ _ _)
        have ht2 := cd_x2 (cd_red_lt2 (R := u.1) hB.2.1 10 (Nat.le_refl _) (cd_bnd h k (2 ^ i)) 0 (by decide)) (cd_p2 (n := i) (by omega))
        refine lv_aload_n hx hb dX0_eliminate_62 rfl (lv_at hl 0 rfl) ?_
        refine lv_iload_n hx hb dX0_eliminate_63 rfl (lv_at hl 1 rfl) ?_
        refine lv_iconst (v := nI 1) hx hb dX0_eliminate_64 (by decide) ?_
        refine lv_iload_n hx hb dX0_eliminate_65 rfl (lv_at hl 3 rfl) ?_
        refine cn_shl1 hx hb (by omega) dX0_eliminate_66 ?_
        refine cd_callV [] hx hb hml hown hts hA (mt0_boundaryOf l D a z h u.1 u.2.1 u.2.2.1 u.2.2.2.1 u.2.2.2.2.1 u.2.2.2.2.2 k (2 ^ i) hk4 hic) (cwV 2 hts (lw_V q87 q89 qs3 q15 q90) rfl rfl rfl (by decide +kernel) ⟨Nat.le_of_ble_eq_true rfl, Nat.le_of_ble_eq_true rfl⟩) hK hD hP hS rfl (va_recv hK hP (ci := 0) (q0 := 0) rfl rfl) hl.1 rfl rfl (Nat.le_of_ble_eq_true rfl) dX0_eliminate_67 ⟨Nat.zero_le _, Nat.zero_le _⟩ (fun H locs hP hD hS => ?_)
        refine lv_istore (lv' := [(4, .int (nI (cd_bnd h k (2 ^ i)))), (0, .ref (a 0)), (1, .int (nI k)), (2, .int (nI (cd_n h k))), (3, .int (nI i))]) hx hb dX0_eliminate_70 hl (by decide) rfl (fun ls hl => ?_)
        refine lv_aload_n hx hb dX0_eliminate_72 rfl (lv_at hl 1 rfl) ?_
        refine lv_iload hx hb dX0_eliminate_73 (lv_at hl 0 rfl) ?_
        refine cd_callVV [] hx hb hml hown hts hA (mt0_reduce l D a z h u.1 u.2.1 u.2.2.1 u.2.2.2.1 u.2.2.2.2.1 u.2.2.2.2.2 (cd_bnd h k (2 ^ i)) hB.1 (cd_bnd_lt _ _ _)) (cwV 1 hts (lw_V q107 q109 qs7 q15 q110) rfl rfl rfl (by decide +kernel) ⟨Nat.le_of_ble_eq_true rfl, Nat.le_of_ble_eq_true rfl⟩) hK hD hP hS rfl (va_recv hK hP (ci := 0) (q0 := 0) rfl rfl) hl.1 rfl rfl (Nat.le_of_ble_eq_true rfl) dX0_eliminate_75 ⟨Nat.zero_le _, Nat.zero_le _⟩ (fun H locs hP hD hS => ?_)
        refine lv_aload_n hx hb dX0_eliminate_78 rfl (lv_at hl 1 rfl) ?_
        refine lv_dup hx hb dX0_eliminate_79 rfl ?_
        refine gx_taken hx hb hts hown hK hP dX0_eliminate_80 ?_
        refine lv_iconst (v := nI 1) hx hb dX0_eliminate_83 (by decide) ?_
        refine lv_iload_n hx hb dX0_eliminate_84 rfl (lv_at hl 4 rfl) ?_
        refine cn_shl1 hx hb (by omega) dX0_eliminate_85 ?_
        refine cn_xor hx hb dX0_eliminate_86 ?_
        refine px_taken hx hb hts hown hK hD hP hS dX0_eliminate_87 (fun H locs hP hD hS => ?_)
        refine lv_aload_n hx hb dX0_eliminate_90 rfl (lv_at hl 1 rfl) ?_
        refine gx_left hx hb hts hown hK hP dX0_eliminate_91 ?_
        refine cn_ifne (tgt := 108) hx hb dX0_eliminate_94 (by decide) (by omega) (fun c94 => ?_) (fun c94 => ?_)
        · refine lv_aload_n hx hb dX0_eliminate_108 rfl (lv_at hl 1 rfl) ?_
          refine gx_left hx hb hts hown hK hP dX0_eliminate_109 ?_
          refine cd_callS [] hx hb hml hown hts hA (mt0_highest l D _ _ ((cd_red u.1 u.2.1 10 (cd_bnd h k (2 ^ i)) 0).1) hl2) (va_cwS 1 hts (lw_S q115 q116 q15 q117) rfl rfl rfl (by decide +kernel) ⟨Nat.le_of_ble_eq_true rfl, Nat.le_of_ble_eq_true rfl⟩) hK hD hP hS rfl hl.1 rfl rfl (Nat.le_of_ble_eq_true rfl) dX0_eliminate_112 ⟨Nat.zero_le _, Nat.zero_le _⟩ (fun H locs hP hD hS => ?_)
          refine lv_istore (lv' := [(5, .int (nI (cd_hi ((cd_red u.1 u.2.1 10 (cd_bnd h k (2 ^ i)) 0).1) 10))), (4, .int (nI (cd_bnd h k (2 ^ i)))), (0, .ref (a 0)), (1, .int (nI k)), (2, .int (nI (cd_n h k))), (3, .int (nI i))]) hx hb dX0_eliminate_115 hl (by decide) rfl (fun ls hl => ?_)
          refine lv_aload_n hx hb dX0_eliminate_117 rfl (lv_at hl 2 rfl) ?_
          refine gx_row hx hb hts hown hK hP dX0_eliminate_118 ?_
          refine lv_iload hx hb dX0_eliminate_121 (lv_at hl 0 rfl) ?_
          refine lv_aload_n hx hb dX0_eliminate_123 rfl (lv_at hl 2 rfl) ?_
          refine gx_left hx hb hts hown hK hP dX0_eliminate_124 ?_
          refine sx_row hx hb hK hP hD hS (cd_hi_lt _ 9) dX0_eliminate_127 (fun H locs hP hD hS => ?_)
          refine lv_aload_n hx hb dX0_eliminate_128 rfl (lv_at hl 2 rfl) ?_
          refine gx_origin hx hb hts hown hK hP dX0_eliminate_129 ?_
          refine lv_iload hx hb dX0_eliminate_132 (lv_at hl 0 rfl) ?_
          refine lv_aload_n hx hb dX0_eliminate_134 rfl (lv_at hl 2 rfl) ?_
          refine gx_taken hx hb hts hown hK hP dX0_eliminate_135 ?_
          refine sx_origin hx hb hK hP hD hS (cd_hi_lt _ 9) dX0_eliminate_138 (fun H locs hP hD hS => ?_)
          refine lv_aload_n hx hb dX0_eliminate_139 rfl (lv_at hl 2 rfl) ?_
          refine lv_dup hx hb dX0_eliminate_140 rfl ?_
          refine gx_rank hx hb hts hown hK hP dX0_eliminate_141 ?_
          refine lv_iconst (v := nI 1) hx hb dX0_eliminate_144 (by decide) ?_
          refine cn_add hx hb dX0_eliminate_145 ?_
          refine px_rank hx hb hts hown hK hD hP hS dX0_eliminate_146 (fun H locs hP hD hS => ?_)
          refine lv_iinc (v := (nI (i + 1))) (lv' := [(3, .int (nI (i + 1))), (5, .int (nI (cd_hi ((cd_red u.1 u.2.1 10 (cd_bnd h k (2 ^ i)) 0).1) 10))), (4, .int (nI (cd_bnd h k (2 ^ i)))), (0, .ref (a 0)), (1, .int (nI k)), (2, .int (nI (cd_n h k)))]) hx hb dX0_eliminate_149 hl (k := 5) rfl (cd_inc i) (by decide) rfl (fun ls hl => ?_)
          refine lv_goto (tgt := 57) hx hb dX0_eliminate_152 (by decide) ?_
          have e1 : cd_es h k i u = (cd_up u.1 (cd_hi ((cd_red u.1 u.2.1 10 (cd_bnd h k (2 ^ i)) 0).1) 10) ((cd_red u.1 u.2.1 10 (cd_bnd h k (2 ^ i)) 0).1), cd_up u.2.1 (cd_hi ((cd_red u.1 u.2.1 10 (cd_bnd h k (2 ^ i)) 0).1) 10) (((cd_red u.1 u.2.1 10 (cd_bnd h k (2 ^ i)) 0).2) ^^^ (2 ^ i)), u.2.2.1, u.2.2.2.1 + 1, (cd_red u.1 u.2.1 10 (cd_bnd h k (2 ^ i)) 0).1, ((cd_red u.1 u.2.1 10 (cd_bnd h k (2 ^ i)) 0).2) ^^^ (2 ^ i)) := by
            unfold cd_es
            first | rw [if_pos c94] | rw [if_neg c94]
          have e2 : (cd_up u.1 (cd_hi ((cd_red u.1 u.2.1 10 (cd_bnd h k (2 ^ i)) 0).1) 10) ((cd_red u.1 u.2.1 10 (cd_bnd h k (2 ^ i)) 0).1), cd_up u.2.1 (cd_hi ((cd_red u.1 u.2.1 10 (cd_bnd h k (2 ^ i)) 0).1) 10) (((cd_red u.1 u.2.1 10 (cd_bnd h k (2 ^ i)) 0).2) ^^^ (2 ^ i)), u.2.2.1, u.2.2.2.1 + 1, (cd_red u.1 u.2.1 10 (cd_bnd h k (2 ^ i)) 0).1, ((cd_red u.1 u.2.1 10 (cd_bnd h k (2 ^ i)) 0).2) ^^^ (2 ^ i)) = cd_el h k (cd_z R 10, cd_z O 10, cd_z C 10, 0, lf, tk) (i + 1) := by
            rw [← e1, hu]; rfl
          exact ih (i + 1) _ (by omega) (by omega) e2 _ _ hP hD hS _ (lv_sub hl [3, 4, 5, 0] rfl)
        · refine lv_aload_n hx hb dX0_eliminate_97 rfl (lv_at hl 1 rfl) ?_
          refine lv_aload_n hx hb dX0_eliminate_98 rfl (lv_at hl 1 rfl) ?_
          refine gx_taken hx hb hts hown hK hP dX0_eliminate_99 ?_
          refine cd_callVV [] hx hb hml hown hts hA (mt0_addCycle l D a z h u.1 u.2.1 u.2.2.1 u.2.2.2.1 ((cd_red u.1 u.2.1 10 (cd_bnd h k (2 ^ i)) 0).1) (((cd_red u.1 u.2.1 10 (cd_bnd h k (2 ^ i)) 0).2) ^^^ (2 ^ i)) (((cd_red u.1 u.2.1 10 (cd_bnd h k (2 ^ i)) 0).2) ^^^ (2 ^ i)) hB.2.2 ht2) (cwV 1 hts (lw_V q111 q113 qs8 q15 q114) rfl rfl rfl (by decide +kernel) ⟨Nat.le_of_ble_eq_true rfl, Nat.le_of_ble_eq_true rfl⟩) hK hD hP hS rfl (va_recv hK hP (ci := 0) (q0 := 0) rfl rfl) hl.1 rfl rfl (Nat.le_of_ble_eq_true rfl) dX0_eliminate_102 ⟨Nat.zero_le _, Nat.zero_le _⟩ (fun H locs hP hD hS => ?_)
          refine lv_goto (tgt := 149) hx hb dX0_eliminate_105 (by decide) ?_
          refine lv_iinc (v := (nI (i + 1))) (lv' := [(3, .int (nI (i + 1))), (4, .int (nI (cd_bnd h k (2 ^ i)))), (0, .ref (a 0)), (1, .int (nI k)), (2, .int (nI (cd_n h k)))]) hx hb dX0_eliminate_149 hl (k := 4) rfl (cd_inc i) (by decide) rfl (fun ls hl => ?_)
          refine lv_goto (tgt := 57) hx hb dX0_eliminate_152 (by decide) ?_
          have e1 : cd_es h k i u = (u.1, u.2.1, cd_addC u.2.2.1 10 (((cd_red u.1 u.2.1 10 (cd_bnd h k (2 ^ i)) 0).2) ^^^ (2 ^ i)), u.2.2.2.1, (cd_red u.1 u.2.1 10 (cd_bnd h k (2 ^ i)) 0).1, ((cd_red u.1 u.2.1 10 (cd_bnd h k (2 ^ i)) 0).2) ^^^ (2 ^ i)) := by
            unfold cd_es
            first | rw [if_pos c94] | rw [if_neg c94]
          have e2 : (u.1, u.2.1, cd_addC u.2.2.1 10 (((cd_red u.1 u.2.1 10 (cd_bnd h k (2 ^ i)) 0).2) ^^^ (2 ^ i)), u.2.2.2.1, (cd_red u.1 u.2.1 10 (cd_bnd h k (2 ^ i)) 0).1, ((cd_red u.1 u.2.1 10 (cd_bnd h k (2 ^ i)) 0).2) ^^^ (2 ^ i)) = cd_el h k (cd_z R 10, cd_z O 10, cd_z C 10, 0, lf, tk) (i + 1) := by
            rw [← e1, hu]; rfl
          exact ih (i + 1) _ (by omega) (by omega) e2 _ _ hP hD hS _ (lv_sub hl [2, 3, 4, 0] rfl)
  have loop0 : ∀ (n i : Nat), i ≤ 10 → 11 ≤ i + n → ∀ (H : Heap) (locs : List Loc), va_P D vwCl (cd_DW a z h (cd_z R i) (cd_z O i) (cd_z C i) 0 lf tk) H → va_D A (cd_DW a z h (cd_z R i) (cd_z O i) (cd_z C i) 0 lf tk) → va_S A s.heap H locs → ∀ ls : Array Slot, lv_has ls 6 [(0, .ref (a 0)), (1, .int (nI k)), (2, .int (nI i))] → W p l e (cd_rm 4 95) s m args below meth c H locs 0 0 Q (F0 m 7 ls []) := by
    intro n
    induction n with
    | zero => intro i h1 h2; omega
    | succ n ih =>
      intro i h1 h2 H locs hP hD hS ls hl
      refine lv_iload_n hx hb dX0_eliminate_7 rfl (lv_at hl 2 rfl) ?_
      refine lv_bipush (v := nI 10) hx hb dX0_eliminate_8 (by decide) ?_
      refine cn_ge (tgt := 40) hx hb dX0_eliminate_10 (by decide) (by omega) (by omega) (fun c10 => ?_) (fun c10 => ?_)
      · have ei : i = 10 := by omega
        subst ei
        have hl := lv_sub hl [0, 1] (l' := [(0, .ref (a 0)), (1, .int (nI k))]) rfl
        refine lv_iload_n hx hb dX0_eliminate_40 rfl (lv_at hl 1 rfl) ?_
        refine lv_iconst (v := nI 4) hx hb dX0_eliminate_41 (by decide) ?_
        refine cn_le (tgt := 49) hx hb dX0_eliminate_42 (by decide) (by omega) (by omega) (fun c42 => ?_) (fun c42 => ?_)
        · refine lv_aload_n hx hb dX0_eliminate_49 rfl (lv_at hl 0 rfl) ?_
          refine lv_iload_n hx hb dX0_eliminate_50 rfl (lv_at hl 1 rfl) ?_
          refine cd_callV [] hx hb hml hown hts hA (mt0_countOf l D a z h (cd_z R 10) (cd_z O 10) (cd_z C 10) 0 lf tk k c42) (cwV 1 hts (lw_V q64 q66 qs0 q15 q67) rfl rfl rfl (by decide +kernel) ⟨Nat.le_of_ble_eq_true rfl, Nat.le_of_ble_eq_true rfl⟩) hK hD hP hS rfl (va_recv hK hP (ci := 0) (q0 := 0) rfl rfl) hl.1 rfl rfl (Nat.le_of_ble_eq_true rfl) dX0_eliminate_51 ⟨Nat.zero_le _, Nat.zero_le _⟩ (fun H locs hP hD hS => ?_)
          refine lv_istore_n (lv' := [(2, .int (nI (cd_cnt h k))), (0, .ref (a 0)), (1, .int (nI k))]) hx hb dX0_eliminate_54 rfl hl (by decide) rfl (fun ls hl => ?_)
          refine lv_iconst (v := nI 0) hx hb dX0_eliminate_55 (by decide) ?_
          refine lv_istore_n (lv' := [(3, .int (nI 0)), (2, .int (nI (cd_cnt h k))), (0, .ref (a 0)), (1, .int (nI k))]) hx hb dX0_eliminate_56 rfl hl (by decide) rfl (fun ls hl => ?_)
          have e2 : cd_cnt h k = cd_n h k := by first | exact (cd_n_of c42).symm | exact (cd_n_5 (by omega)).symm
          exact loop (cd_n h k + 1) 0 (cd_z R 10, cd_z O 10, cd_z C 10, 0, lf, tk) (Nat.zero_le _) (by omega) rfl _ _ hP hD hS _ (by rw [← e2]; exact lv_sub hl [2, 3, 1, 0] rfl)
        · refine lv_iconst (v := nI 0) hx hb dX0_eliminate_45 (by decide) ?_
          refine lv_goto (tgt := 54) hx hb dX0_eliminate_46 (by decide) ?_
          refine lv_istore_n (lv' := [(2, .int (nI 0)), (0, .ref (a 0)), (1, .int (nI k))]) hx hb dX0_eliminate_54 rfl hl (by decide) rfl (fun ls hl => ?_)
          refine lv_iconst (v := nI 0) hx hb dX0_eliminate_55 (by decide) ?_
          refine lv_istore_n (lv' := [(3, .int (nI 0)), (2, .int (nI 0)), (0, .ref (a 0)), (1, .int (nI k))]) hx hb dX0_eliminate_56 rfl hl (by decide) rfl (fun ls hl => ?_)
          have e2 : 0 = cd_n h k := by first | exact (cd_n_of c42).symm | exact (cd_n_5 (by omega)).symm
          exact loop (cd_n h k + 1) 0 (cd_z R 10, cd_z O 10, cd_z C 10, 0, lf, tk) (Nat.zero_le _) (by omega) rfl _ _ hP hD hS _ (by rw [← e2]; exact lv_sub hl [2, 3, 1, 0] rfl)
      · refine lv_aload_n hx hb dX0_eliminate_13 rfl (lv_at hl 0 rfl) ?_
        refine gx_row hx hb hts hown hK hP dX0_eliminate_14 ?_
        refine lv_iload_n hx hb dX0_eliminate_17 rfl (lv_at hl 2 rfl) ?_
        refine lv_iconst (v := nI 0) hx hb dX0_eliminate_18 (by decide) ?_
        refine sx_row hx hb hK hP hD hS (by omega) dX0_eliminate_19 (fun H locs hP hD hS => ?_)
        refine lv_aload_n hx hb dX0_eliminate_20 rfl (lv_at hl 0 rfl) ?_
        refine gx_origin hx hb hts hown hK hP dX0_eliminate_21 ?_
        refine lv_iload_n hx hb dX0_eliminate_24 rfl (lv_at hl 2 rfl) ?_
        refine lv_iconst (v := nI 0) hx hb dX0_eliminate_25 (by decide) ?_
        refine sx_origin hx hb hK hP hD hS (by omega) dX0_eliminate_26 (fun H locs hP hD hS => ?_)
        refine lv_aload_n hx hb dX0_eliminate_27 rfl (lv_at hl 0 rfl) ?_
        refine gx_cycle hx hb hts hown hK hP dX0_eliminate_28 ?_
        refine lv_iload_n hx hb dX0_eliminate_31 rfl (lv_at hl 2 rfl) ?_
        refine lv_iconst (v := nI 0) hx hb dX0_eliminate_32 (by decide) ?_
        refine sx_cycle hx hb hK hP hD hS (by omega) dX0_eliminate_33 (fun H locs hP hD hS => ?_)
        refine lv_iinc (v := (nI (i + 1))) (lv' := [(2, .int (nI (i + 1))), (0, .ref (a 0)), (1, .int (nI k))]) hx hb dX0_eliminate_34 hl (k := 2) rfl (cd_inc i) (by decide) rfl (fun ls hl => ?_)
        refine lv_goto (tgt := 7) hx hb dX0_eliminate_37 (by decide) ?_
        rw [cd_zS, cd_zS, cd_zS] at hP hD
        exact ih (i + 1) (by omega) (by omega) _ _ hP hD hS _ (lv_sub hl [1, 2, 0] rfl)
  refine lv_aload_n hx hb dX0_eliminate_0 rfl (lv_at hl 0 rfl) ?_
  refine lv_iconst (v := nI 0) hx hb dX0_eliminate_1 (by decide) ?_
  refine px_rank hx hb hts hown hK hD hP hS dX0_eliminate_2 (fun H locs hP hD hS => ?_)
  refine lv_iconst (v := nI 0) hx hb dX0_eliminate_5 (by decide) ?_
  refine lv_istore_n (lv' := [(2, .int (nI 0)), (0, .ref (a 0)), (1, .int (nI k))]) hx hb dX0_eliminate_6 rfl hl (by decide) rfl (fun ls hl => ?_)
  exact loop0 11 0 (by omega) (by omega) _ _ (by rw [cd_z0, cd_z0, cd_z0]; exact hP) (by rw [cd_z0, cd_z0, cd_z0]; exact hD) hS _ (lv_sub hl [1, 2, 0] rfl)
end
section
/-! what the public methods answer; contracts that name a family of worlds -/
def cd_in31 (x : Int32) : Bool := decide (¬ x < nI 1) && decide (x ≤ nI 31)
def cd_adV (h : Nat → Bool) (x : Int32) : Int32 := if cd_in31 x then nI (cd_ad (cd_k x) h 32).2 else -1
def cd_adH (h : Nat → Bool) (x : Int32) : Nat → Bool := if cd_in31 x then (cd_ad (cd_k x) h 32).1 else h
def cd_reV (h : Nat → Bool) (x : Int32) : Int32 := if cd_in31 x then nI (cd_rem (cd_k x) h 32).2 else -1
def cd_reH (h : Nat → Bool) (x : Int32) : Nat → Bool := if cd_in31 x then (cd_rem (cd_k x) h 32).1 else h
theorem cd_in31_f1 {x : Int32} (h1 : x < nI 1) : cd_in31 x = false := by
  unfold cd_in31
  rw [decide_eq_false (p := ¬ x < nI 1) (fun q => q h1)]
  rfl
theorem cd_in31_f2 {x : Int32} (h1 : ¬ x ≤ nI 31) : cd_in31 x = false := by
  unfold cd_in31
  rw [decide_eq_false (p := x ≤ nI 31) h1, Bool.and_false]
theorem cd_in31_t {x : Nat} (h1 : 1 ≤ x) (h2 : x ≤ 31) : cd_in31 (nI x) = true := by
  unfold cd_in31
  rw [decide_eq_true (p := ¬ nI x < nI 1) (nI_nlt h1 (by omega)), decide_eq_true (p := nI x ≤ nI 31) (nI_le h2 (by decide))]
  rfl
theorem cd_in31_E {x : Int32} (h1 : ¬ x < nI 1) (h2 : x ≤ nI 31) : ∃ j : Nat, 1 ≤ j ∧ j ≤ 31 ∧ x = nI j := by
  have h0 : ¬ x < 0 := fun q => h1 (Int32.lt_trans q (by decide))
  obtain ⟨j, hj, rfl⟩ := nI_of2 (M := nI 31) (n := 31) (by decide) h0 h2
  refine ⟨j, ?_, hj, rfl⟩
  rcases Nat.lt_or_ge j 1 with q | q
  · exact absurd (nI_lt q (by decide)) h1
  · exact q
theorem cd_adV_f {h : Nat → Bool} {x : Int32} (hf : cd_in31 x = false) : cd_adV h x = -1 := by
  unfold cd_adV
  rw [if_neg (by rw [hf]; decide)]
theorem cd_adH_f {h : Nat → Bool} {x : Int32} (hf : cd_in31 x = false) : cd_adH h x = h := by
  unfold cd_adH
  rw [if_neg (by rw [hf]; decide)]
theorem cd_reV_f {h : Nat → Bool} {x : Int32} (hf : cd_in31 x = false) : cd_reV h x = -1 := by
  unfold cd_reV
  rw [if_neg (by rw [hf]; decide)]
theorem cd_reH_f {h : Nat → Bool} {x : Int32} (hf : cd_in31 x = false) : cd_reH h x = h := by
  unfold cd_reH
  rw [if_neg (by rw [hf]; decide)]
theorem cd_adV_t {h : Nat → Bool} {x : Nat} (h1 : 1 ≤ x) (h2 : x ≤ 31) : cd_adV h (nI x) = nI (cd_ad x h 32).2 := by
  unfold cd_adV
  rw [if_pos (cd_in31_t h1 h2), cd_k_nI (by omega)]
theorem cd_adH_t {h : Nat → Bool} {x : Nat} (h1 : 1 ≤ x) (h2 : x ≤ 31) : cd_adH h (nI x) = (cd_ad x h 32).1 := by
  unfold cd_adH
  rw [if_pos (cd_in31_t h1 h2), cd_k_nI (by omega)]
theorem cd_reV_t {h : Nat → Bool} {x : Nat} (h1 : 1 ≤ x) (h2 : x ≤ 31) : cd_reV h (nI x) = nI (cd_rem x h 32).2 := by
  unfold cd_reV
  rw [if_pos (cd_in31_t h1 h2), cd_k_nI (by omega)]
theorem cd_reH_t {h : Nat → Bool} {x : Nat} (h1 : 1 ≤ x) (h2 : x ≤ 31) : cd_reH h (nI x) = (cd_rem x h 32).1 := by
  unfold cd_reH
  rw [if_pos (cd_in31_t h1 h2), cd_k_nI (by omega)]
theorem cd_adS {x : Nat} {h : Nat → Bool} {i : Nat} (h1 : 1 ≤ i) (h2 : i &&& x = i) (h3 : (cd_ad x h i).1 i = false) : cd_ad x h (i + 1) = (cd_up (cd_ad x h i).1 i true, (cd_ad x h i).2 + 1) := by
  show (if ((i != 0) && (i &&& x == i) && !((cd_ad x h i).1 i)) = true then _ else _) = _
  rw [if_pos (by rw [h2, h3]; simp; omega)]
theorem cd_adN1 {x : Nat} {h : Nat → Bool} {i : Nat} (h2 : ¬ i &&& x = i) : cd_ad x h (i + 1) = cd_ad x h i := by
  show (if ((i != 0) && (i &&& x == i) && !((cd_ad x h i).1 i)) = true then _ else _) = _
  rw [if_neg (by rw [show (i &&& x == i) = false from by rw [beq_eq_false_iff_ne]; exact h2]; simp)]
theorem cd_adN2 {x : Nat} {h : Nat → Bool} {i : Nat} (h3 : (cd_ad x h i).1 i = true) : cd_ad x h (i + 1) = cd_ad x h i := by
  show (if ((i != 0) && (i &&& x == i) && !((cd_ad x h i).1 i)) = true then _ else _) = _
  rw [if_neg (by rw [h3]; simp)]
theorem cd_reS {x : Nat} {h : Nat → Bool} {i : Nat} (h1 : 1 ≤ i) (h2 : i &&& x = x) (h3 : (cd_rem x h i).1 i = true) : cd_rem x h (i + 1) = (cd_up (cd_rem x h i).1 i false, (cd_rem x h i).2 + 1) := by
  show (if ((i != 0) && (i &&& x == x) && (cd_rem x h i).1 i) = true then _ else _) = _
  rw [if_pos (by rw [h2, h3]; simp; omega)]
theorem cd_reN1 {x : Nat} {h : Nat → Bool} {i : Nat} (h2 : ¬ i &&& x = x) : cd_rem x h (i + 1) = cd_rem x h i := by
  show (if ((i != 0) && (i &&& x == x) && (cd_rem x h i).1 i) = true then _ else _) = _
  rw [if_neg (by rw [show (i &&& x == x) = false from by rw [beq_eq_false_iff_ne]; exact h2]; simp)]
theorem cd_reN2 {x : Nat} {h : Nat → Bool} {i : Nat} (h3 : (cd_rem x h i).1 i = false) : cd_rem x h (i + 1) = cd_rem x h i := by
  show (if ((i != 0) && (i &&& x == x) && (cd_rem x h i).1 i) = true then _ else _) = _
  rw [if_neg (by rw [h3]; simp)]
/-- an answer for a dimension, -1 for none; an answer for a chain, -1 for none -/
def cd_dv (f : Nat → Int32) (k0 : Int32) : Int32 := if cd_dim k0 then f (cd_k k0) else -1
def cd_cv (h : Nat → Bool) (f : Nat → Nat → Int32) (k0 x0 : Int32) : Int32 := if cd_chn h k0 x0 then f (cd_k k0) (cd_k x0) else -1
def cd_smpV (h : Nat → Bool) (k0 i0 : Int32) : Int32 := if cd_dim k0 && decide (0 ≤ i0) && decide (cd_k i0 < cd_cnt h (cd_k k0)) then nI (cd_nth h (cd_k k0 + 1) (cd_k i0)) else -1
theorem cd_dv_f {f : Nat → Int32} {k0 : Int32} (hf : cd_dim k0 = false) : cd_dv f k0 = -1 := by
  unfold cd_dv
  rw [if_neg (by rw [hf]; decide)]
theorem cd_dv_t {f : Nat → Int32} {k : Nat} (hk : k ≤ 4) : cd_dv f (nI k) = f k := by
  unfold cd_dv
  rw [if_pos (cd_dim_nI hk), cd_k_nI (by omega)]
theorem cd_cv_f {h : Nat → Bool} {f : Nat → Nat → Int32} {k0 x0 : Int32} (hf : cd_chn h k0 x0 = false) : cd_cv h f k0 x0 = -1 := by
  unfold cd_cv
  rw [if_neg (by rw [hf]; decide)]
theorem cd_cv_t {h : Nat → Bool} {f : Nat → Nat → Int32} {k x : Nat} (hk : k ≤ 4) (hx : x < 2 ^ cd_cnt h k) (hx2 : x < 1024) : cd_cv h f (nI k) (nI x) = f k x := by
  unfold cd_cv
  rw [if_pos (by rw [cd_chn_nI hk (by omega)]; exact decide_eq_true hx), cd_k_nI (by omega), cd_k_nI (by omega)]
theorem cd_smpV_f1 {h : Nat → Bool} {k0 i0 : Int32} (hf : cd_dim k0 = false) : cd_smpV h k0 i0 = -1 := by
  unfold cd_smpV
  rw [hf]
  rfl
theorem cd_smpV_f2 {h : Nat → Bool} {k0 i0 : Int32} (hf : i0 < 0) : cd_smpV h k0 i0 = -1 := by
  unfold cd_smpV
  rw [decide_eq_false (p := 0 ≤ i0) (fun q => absurd hf (Int32.not_lt.mpr q)), Bool.and_false]
  rfl
theorem cd_smpV_f3 {h : Nat → Bool} {k i : Nat} (hk : k ≤ 4) (hi : i < 2 ^ 31) (hc : cd_cnt h k ≤ i) : cd_smpV h (nI k) (nI i) = -1 := by
  unfold cd_smpV
  rw [cd_k_nI hi, cd_k_nI (by omega), decide_eq_false (p := i < cd_cnt h k) (Nat.not_lt.mpr hc), Bool.and_false]
  rfl
theorem cd_smpV_t {h : Nat → Bool} {k i : Nat} (hk : k ≤ 4) (hi : i < 2 ^ 31) (hc : i < cd_cnt h k) : cd_smpV h (nI k) (nI i) = nI (cd_nth h (k + 1) i) := by
  unfold cd_smpV
  rw [cd_k_nI hi, cd_k_nI (by omega), decide_eq_true hc, decide_eq_true (nI_pos' hi), cd_dim_nI hk]
  rfl
/-- the desk: holes, left, filling -/
def cd_E2 (h : Nat → Bool) (R O C : Nat → Nat) (lf tk k : Nat) : cd_E := cd_elim h (k + 1) (cd_elim h k R O C lf tk).1 (cd_elim h k R O C lf tk).2.1 (cd_elim h k R O C lf tk).2.2.1 (cd_elim h k R O C lf tk).2.2.2.2.1 (cd_elim h k R O C lf tk).2.2.2.2.2
def cd_hoD (h : Nat → Bool) (R O C : Nat → Nat) (lf tk k : Nat) : Int32 := nI (cd_cnt h k) - nI (cd_elim h k R O C lf tk).2.2.2.1 - nI (cd_E2 h R O C lf tk k).2.2.2.1
def cd_rdD (h : Nat → Bool) (R O C : Nat → Nat) (lf tk k x : Nat) : Nat × Nat := cd_red (cd_elim h (k + 1) R O C lf tk).1 (cd_elim h (k + 1) R O C lf tk).2.1 10 x 0
def cd_flD (h : Nat → Bool) (R O C : Nat → Nat) (lf tk k x : Nat) : Int32 := if (cd_rdD h R O C lf tk k x).1 = 0 then nI (cd_red (cd_elim h (k + 1) R O C lf tk).2.2.1 (cd_elim h (k + 1) R O C lf tk).2.2.1 10 (cd_rdD h R O C lf tk k x).2 0).1 else -2
/-- a contract that says of the world behind it only that it is one of a family -/
def cd_J (l : Launch) (y : MethodName) (ws : List Cond) (rm : Room) (av : List Value) (D : va_G) (tys : List (ClassId × FieldType)) (w : va_W) (v : Int32) (F : va_W → Prop) : Prop :=
  ∀ sz : Nat, Met l y ws rm (va_Pc av (fun U => U.heap.size = sz ∧ va_P D vwCl w U.heap ∧ va_K D vwCl tys U ∧ va_D (fun _ => True) w)) (va_Qi (fun (r : Int32) (_ : Unit) => r = v) (fun _ t => ∃ w', F w' ∧ va_P D vwCl w' t.heap) (va_A w sz)) 0 0 (va_A w sz)
theorem cd_J.mk {l : Launch} {y : MethodName} {rm : Room} {av : List Value} {D : va_G} {tys : List (ClassId × FieldType)} {w : va_W} {F : va_W → Prop} {v : Int32} (cc : ByteArray) (maxL : Nat) (ty : FieldType) (C : String) (hy : plainName y.cls = true) (hC : y.cls = C) (hn : narrow ty (.int v) = .int v) (hav : (lg_sl av).length ≤ maxL)
    (body : ∀ (p : Program) (e : Env) (s : State) (m : MethodId) (args : Array Value) (below : List Frame) (meth : Method) (c : Code) (A : Nat → Prop) (Q : State → Prop), p.tables.exec = Jvm.exec → c.code = cc → c.maxLocals = maxL → s.vm.findClass C = some m.cls → (∀ w ∈ lw_all, w.before args s = true) → (∀ q : Nat, s.heap.size ≤ q → A q) → va_K D vwCl tys s → va_D A w → va_P D vwCl w s.heap → va_S A s.heap s.heap [] →
      (∀ {H : Heap} {locs : List Loc} {pc : Nat} {ls : Array Slot} {w' : va_W}, F w' → va_P D vwCl w' H → va_S A s.heap H locs → decode cc pc = .ok (.ireturn, 1) → W p l e rm s m args below meth c H locs 0 0 Q (F0 m pc ls [.int v])) →
      ∀ ls : Array Slot, lv_has ls maxL (lv_args 0 av) → W p l e rm s m args below meth c s.heap [] 0 0 Q (F0 m 0 ls [])) :
    cd_J l y (ws_ y cc maxL (some ty)) rm av D tys w v F := by
  intro sz
  refine Met.ofW (cc := cc) (maxL := maxL) (ret := some ty) hy rfl ?_
  intro p e s m args below meth c s₁ B hml hv
  obtain ⟨rfl, hsz, hP, hK, hD0⟩ := hv
  have hts := atoms_spec (ws := ws_ y cc maxL (some ty)) B.pre
  have hts : ∀ w ∈ lw_all, w.before _ s = true := fun w h => hts w (List.mem_cons_of_mem _ h)
  have hown : s.vm.findClass y.cls = some m.cls := findClass_of_methodNamed B.named
  rw [hC] at hown
  have hlocks := B.notSynchronized
  subst hsz
  have hD := hD0.self (sz := s.heap.size)
  have hA : ∀ q : Nat, s.heap.size ≤ q → va_A w s.heap.size q := fun q h => Or.inr h
  have hl := lv_entry av (n := maxL) hav
  rw [lg_entry_eq]
  refine body p e s m av.toArray below meth c (va_A w s.heap.size) _ B.exec B.bytes hml hown hts hA hK hD hP va_S.rf ?_ _ hl
  intro H locs pc ls w' hF hP' hS hd
  exact W.zret (v := v) (ty := ty) B.exec B.bytes B.returns hn (fun t ht hW => ⟨⟨v, (), rfl, rfl, w', hF, by rw [ht]; exact hP'⟩, hS.F ht⟩) hS.2.2 hd
/-- the desk's worlds that hold h; the reference's -/
def cd_FD (a : Nat → Nat) (z : Nat → ClassId) (h : Nat → Bool) (w : va_W) : Prop := ∃ (R O C : Nat → Nat) (rk lf tk : Nat), w = cd_DW a z h R O C rk lf tk
def cd_FM (a : Nat → Nat) (z : Nat → ClassId) (h : Nat → Bool) (w : va_W) : Prop := ∃ M : Nat → Bool, w = cd_MW a z h M
end
section
set_option maxHeartbeats 4000000 in
set_option maxRecDepth 100000 in
theorem mt0_add (l : Launch) (D : va_G) (a : Nat → Nat) (z : Nat → ClassId) (h : Nat → Bool) (R O C : Nat → Nat) (rk lf tk : Nat) (p0 : Int32) : cd_I l yX0_add (ws_ yX0_add cX0_add 4 (some .int)) (cd_rm 0 0) [.ref (a 0), .int p0] D (cd_DT z) (cd_DW a z h R O C rk lf tk) (cd_adV h p0) (cd_DW a z (cd_adH h p0) R O C rk lf tk) := by
  refine cd_I.mk cX0_add 4 .int RX0 (by decide) rfl (cd_narI _) (Nat.le_of_ble_eq_true rfl) ?_
  intro p e s m args below meth c A Q hx hb hml hown hts hA hK hD hP hS hret ls hl
  have hl : lv_has ls 4 [(0, .ref (a 0)), (1, .int p0)] := hl
  refine lv_iload_n hx hb dX0_add_0 rfl (lv_at hl 1 rfl) ?_
  refine lv_iconst (v := nI 1) hx hb dX0_add_1 (by decide) ?_
  refine lv_icmp_lt (tgt := 11) hx hb dX0_add_2 (by decide) (fun c2 => ?_) (fun c2 => ?_)
  · have hf := cd_in31_f1 c2
    refine lv_iconst (v := -1) hx hb dX0_add_11 (by decide) ?_
    exact cd_top (by rw [cd_adV_f hf]) (hret (by rw [cd_adH_f hf]; exact hP) hS dX0_add_12)
  · refine lv_iload_n hx hb dX0_add_5 rfl (lv_at hl 1 rfl) ?_
    refine lv_bipush (v := nI 31) hx hb dX0_add_6 (by decide) ?_
    refine lv_icmp_le (tgt := 13) hx hb dX0_add_8 (by decide) (fun c8 => ?_) (fun c8 => ?_)
    · obtain ⟨x, hx1, hx2, rfl⟩ := cd_in31_E c2 c8
      refine lv_iconst (v := nI 0) hx hb dX0_add_13 (by decide) ?_
      refine lv_istore_n (lv' := [(2, .int (nI 0)), (0, .ref (a 0)), (1, .int (nI x))]) hx hb dX0_add_14 rfl hl (by decide) rfl (fun ls hl => ?_)
      refine lv_iconst (v := nI 1) hx hb dX0_add_15 (by decide) ?_
      refine lv_istore_n (lv' := [(3, .int (nI 1)), (2, .int (nI 0)), (0, .ref (a 0)), (1, .int (nI x))]) hx hb dX0_add_16 rfl hl (by decide) rfl (fun ls hl => ?_)
      have loop : ∀ (n i : Nat), 1 ≤ i → i ≤ 32 → 33 ≤ i + n → ∀ (H : Heap) (locs : List Loc), va_P D vwCl (cd_DW a z ((cd_ad x h i).1) R O C rk lf tk) H → va_D A (cd_DW a z ((cd_ad x h i).1) R O C rk lf tk) → va_S A s.heap H locs → ∀ ls : Array Slot, lv_has ls 4 [(0, .ref (a 0)), (1, .int (nI x)), (2, .int (nI ((cd_ad x h i).2))), (3, .int (nI i))] → W p l e (cd_rm 0 0) s m args below meth c H locs 0 0 Q (F0 m 17 ls []) := by
        intro n
        induction n with
        | zero => intro i h0 h1 h2; omega
        | succ n ih =>
          intro i h0 h1 h2 H locs hP hD hS ls hl
          refine lv_iload_n hx hb dX0_add_17 rfl (lv_at hl 3 rfl) ?_
          refine lv_bipush (v := nI 32) hx hb dX0_add_18 (by decide) ?_
          refine cn_ge (tgt := 56) hx hb dX0_add_20 (by decide) (by omega) (by omega) (fun c20 => ?_) (fun c20 => ?_)
          · have ei : i = 32 := by omega
            subst ei
            refine lv_iload_n hx hb dX0_add_56 rfl (lv_at hl 2 rfl) ?_
            exact cd_top (by rw [cd_adV_t hx1 hx2]) (hret (by rw [cd_adH_t hx1 hx2]; exact hP) hS dX0_add_57)
          · refine lv_iload_n hx hb dX0_add_23 rfl (lv_at hl 3 rfl) ?_
            refine lv_iload_n hx hb dX0_add_24 rfl (lv_at hl 1 rfl) ?_
            refine lv_iconst (v := -1) hx hb dX0_add_25 (by decide) ?_
            refine lv_ixor hx hb dX0_add_26 ?_
            refine lv_iand hx hb dX0_add_27 ?_
            refine lv_if_ne (tgt := 50) hx hb dX0_add_28 (by decide) (fun c28 => ?_) (fun c28 => ?_)
            · refine lv_iinc (v := (nI (i + 1))) (lv' := [(3, .int (nI (i + 1))), (0, .ref (a 0)), (1, .int (nI x)), (2, .int (nI ((cd_ad x h i).2)))]) hx hb dX0_add_50 hl (k := 3) rfl (cd_inc i) (by decide) rfl (fun ls hl => ?_)
              refine lv_goto (tgt := 17) hx hb dX0_add_53 (by decide) ?_
              have e1 : cd_ad x h (i + 1) = cd_ad x h i := by first | exact cd_adN2 c37 | exact cd_adN1 (fun q => c28 ((cd_subm i (by omega) x (by omega)).mpr q))
              exact ih (i + 1) (by omega) (by omega) (by omega) _ _ (by rw [e1]; exact hP) (by rw [e1]; exact hD) hS _ (by rw [e1]; exact lv_sub hl [1, 2, 3, 0] rfl)
            · refine lv_aload_n hx hb dX0_add_31 rfl (lv_at hl 0 rfl) ?_
              refine gx_held hx hb hts hown hK hP dX0_add_32 ?_
              refine lv_iload_n hx hb dX0_add_35 rfl (lv_at hl 3 rfl) ?_
              refine ax_held hx hb hK hP (by omega) dX0_add_36 ?_
              refine cb_ifne (tgt := 50) hx hb dX0_add_37 (by decide) (fun c37 => ?_) (fun c37 => ?_)
              · refine lv_iinc (v := (nI (i + 1))) (lv' := [(3, .int (nI (i + 1))), (0, .ref (a 0)), (1, .int (nI x)), (2, .int (nI ((cd_ad x h i).2)))]) hx hb dX0_add_50 hl (k := 3) rfl (cd_inc i) (by decide) rfl (fun ls hl => ?_)
                refine lv_goto (tgt := 17) hx hb dX0_add_53 (by decide) ?_
                have e1 : cd_ad x h (i + 1) = cd_ad x h i := by first | exact cd_adN2 c37 | exact cd_adN1 (fun q => c28 ((cd_subm i (by omega) x (by omega)).mpr q))
                exact ih (i + 1) (by omega) (by omega) (by omega) _ _ (by rw [e1]; exact hP) (by rw [e1]; exact hD) hS _ (by rw [e1]; exact lv_sub hl [1, 2, 3, 0] rfl)
              · refine lv_aload_n hx hb dX0_add_40 rfl (lv_at hl 0 rfl) ?_
                refine gx_held hx hb hts hown hK hP dX0_add_41 ?_
                refine lv_iload_n hx hb dX0_add_44 rfl (lv_at hl 3 rfl) ?_
                refine lv_iconst (v := nI 1) hx hb dX0_add_45 (by decide) ?_
                refine sx_held hx hb hK hP hD hS true (by decide) (by omega) dX0_add_46 (fun H locs hP hD hS => ?_)
                refine lv_iinc (v := (nI ((cd_ad x h i).2 + 1))) (lv' := [(2, .int (nI ((cd_ad x h i).2 + 1))), (0, .ref (a 0)), (1, .int (nI x)), (3, .int (nI i))]) hx hb dX0_add_47 hl (k := 2) rfl (cd_inc ((cd_ad x h i).2)) (by decide) rfl (fun ls hl => ?_)
                refine lv_iinc (v := (nI (i + 1))) (lv' := [(3, .int (nI (i + 1))), (2, .int (nI ((cd_ad x h i).2 + 1))), (0, .ref (a 0)), (1, .int (nI x))]) hx hb dX0_add_50 hl (k := 3) rfl (cd_inc i) (by decide) rfl (fun ls hl => ?_)
                refine lv_goto (tgt := 17) hx hb dX0_add_53 (by decide) ?_
                have hm : i &&& x = i := by exact (cd_subm i (by omega) x (by omega)).mp c28
                have e1 := cd_adS (h := h) h0 hm c37
                exact ih (i + 1) (by omega) (by omega) (by omega) _ _ (by rw [e1]; exact hP) (by rw [e1]; exact hD) hS _ (by rw [e1]; exact lv_sub hl [2, 3, 1, 0] rfl)
      exact loop 32 1 (by omega) (by omega) (by omega) _ _ hP hD hS _ (lv_sub hl [2, 3, 1, 0] rfl)
    · have hf := cd_in31_f2 c8
      refine lv_iconst (v := -1) hx hb dX0_add_11 (by decide) ?_
      exact cd_top (by rw [cd_adV_f hf]) (hret (by rw [cd_adH_f hf]; exact hP) hS dX0_add_12)

set_option maxHeartbeats 4000000 in
set_option maxRecDepth 100000 in
theorem mt0_remove (l : Launch) (D : va_G) (a : Nat → Nat) (z : Nat → ClassId) (h : Nat → Bool) (R O C : Nat → Nat) (rk lf tk : Nat) (p0 : Int32) : cd_I l yX0_remove (ws_ yX0_remove cX0_remove 4 (some .int)) (cd_rm 0 0) [.ref (a 0), .int p0] D (cd_DT z) (cd_DW a z h R O C rk lf tk) (cd_reV h p0) (cd_DW a z (cd_reH h p0) R O C rk lf tk) := by
  refine cd_I.mk cX0_remove 4 .int RX0 (by decide) rfl (cd_narI _) (Nat.le_of_ble_eq_true rfl) ?_
  intro p e s m args below meth c A Q hx hb hml hown hts hA hK hD hP hS hret ls hl
  have hl : lv_has ls 4 [(0, .ref (a 0)), (1, .int p0)] := hl
  refine lv_iload_n hx hb dX0_remove_0 rfl (lv_at hl 1 rfl) ?_
  refine lv_iconst (v := nI 1) hx hb dX0_remove_1 (by decide) ?_
  refine lv_icmp_lt (tgt := 11) hx hb dX0_remove_2 (by decide) (fun c2 => ?_) (fun c2 => ?_)
  · have hf := cd_in31_f1 c2
    refine lv_iconst (v := -1) hx hb dX0_remove_11 (by decide) ?_
    exact cd_top (by rw [cd_reV_f hf]) (hret (by rw [cd_reH_f hf]; exact hP) hS dX0_remove_12)
  · refine lv_iload_n hx hb dX0_remove_5 rfl (lv_at hl 1 rfl) ?_
    refine lv_bipush (v := nI 31) hx hb dX0_remove_6 (by decide) ?_
    refine lv_icmp_le (tgt := 13) hx hb dX0_remove_8 (by decide) (fun c8 => ?_) (fun c8 => ?_)
    · obtain ⟨x, hx1, hx2, rfl⟩ := cd_in31_E c2 c8
      refine lv_iconst (v := nI 0) hx hb dX0_remove_13 (by decide) ?_
      refine lv_istore_n (lv' := [(2, .int (nI 0)), (0, .ref (a 0)), (1, .int (nI x))]) hx hb dX0_remove_14 rfl hl (by decide) rfl (fun ls hl => ?_)
      refine lv_iconst (v := nI 1) hx hb dX0_remove_15 (by decide) ?_
      refine lv_istore_n (lv' := [(3, .int (nI 1)), (2, .int (nI 0)), (0, .ref (a 0)), (1, .int (nI x))]) hx hb dX0_remove_16 rfl hl (by decide) rfl (fun ls hl => ?_)
      have loop : ∀ (n i : Nat), 1 ≤ i → i ≤ 32 → 33 ≤ i + n → ∀ (H : Heap) (locs : List Loc), va_P D vwCl (cd_DW a z ((cd_rem x h i).1) R O C rk lf tk) H → va_D A (cd_DW a z ((cd_rem x h i).1) R O C rk lf tk) → va_S A s.heap H locs → ∀ ls : Array Slot, lv_has ls 4 [(0, .ref (a 0)), (1, .int (nI x)), (2, .int (nI ((cd_rem x h i).2))), (3, .int (nI i))] → W p l e (cd_rm 0 0) s m args below meth c H locs 0 0 Q (F0 m 17 ls []) := by
        intro n
        induction n with
        | zero => intro i h0 h1 h2; omega
        | succ n ih =>
          intro i h0 h1 h2 H locs hP hD hS ls hl
          refine lv_iload_n hx hb dX0_remove_17 rfl (lv_at hl 3 rfl) ?_
          refine lv_bipush (v := nI 32) hx hb dX0_remove_18 (by decide) ?_
          refine cn_ge (tgt := 56) hx hb dX0_remove_20 (by decide) (by omega) (by omega) (fun c20 => ?_) (fun c20 => ?_)
          · have ei : i = 32 := by omega
            subst ei
            refine lv_iload_n hx hb dX0_remove_56 rfl (lv_at hl 2 rfl) ?_
            exact cd_top (by rw [cd_reV_t hx1 hx2]) (hret (by rw [cd_reH_t hx1 hx2]; exact hP) hS dX0_remove_57)
          · refine lv_iload_n hx hb dX0_remove_23 rfl (lv_at hl 1 rfl) ?_
            refine lv_iload_n hx hb dX0_remove_24 rfl (lv_at hl 3 rfl) ?_
            refine lv_iconst (v := -1) hx hb dX0_remove_25 (by decide) ?_
            refine lv_ixor hx hb dX0_remove_26 ?_
            refine lv_iand hx hb dX0_remove_27 ?_
            refine lv_if_ne (tgt := 50) hx hb dX0_remove_28 (by decide) (fun c28 => ?_) (fun c28 => ?_)
            · refine lv_iinc (v := (nI (i + 1))) (lv' := [(3, .int (nI (i + 1))), (0, .ref (a 0)), (1, .int (nI x)), (2, .int (nI ((cd_rem x h i).2)))]) hx hb dX0_remove_50 hl (k := 3) rfl (cd_inc i) (by decide) rfl (fun ls hl => ?_)
              refine lv_goto (tgt := 17) hx hb dX0_remove_53 (by decide) ?_
              have e1 : cd_rem x h (i + 1) = cd_rem x h i := by first | exact cd_reN2 c37 | exact cd_reN1 (fun q => c28 ((cd_subm x (by omega) i (by omega)).mpr (by rw [Nat.and_comm]; exact q)))
              exact ih (i + 1) (by omega) (by omega) (by omega) _ _ (by rw [e1]; exact hP) (by rw [e1]; exact hD) hS _ (by rw [e1]; exact lv_sub hl [1, 2, 3, 0] rfl)
            · refine lv_aload_n hx hb dX0_remove_31 rfl (lv_at hl 0 rfl) ?_
              refine gx_held hx hb hts hown hK hP dX0_remove_32 ?_
              refine lv_iload_n hx hb dX0_remove_35 rfl (lv_at hl 3 rfl) ?_
              refine ax_held hx hb hK hP (by omega) dX0_remove_36 ?_
              refine cb_ifeq (tgt := 50) hx hb dX0_remove_37 (by decide) (fun c37 => ?_) (fun c37 => ?_)
              · refine lv_iinc (v := (nI (i + 1))) (lv' := [(3, .int (nI (i + 1))), (0, .ref (a 0)), (1, .int (nI x)), (2, .int (nI ((cd_rem x h i).2)))]) hx hb dX0_remove_50 hl (k := 3) rfl (cd_inc i) (by decide) rfl (fun ls hl => ?_)
                refine lv_goto (tgt := 17) hx hb dX0_remove_53 (by decide) ?_
                have e1 : cd_rem x h (i + 1) = cd_rem x h i := by first | exact cd_reN2 c37 | exact cd_reN1 (fun q => c28 ((cd_subm x (by omega) i (by omega)).mpr (by rw [Nat.and_comm]; exact q)))
                exact ih (i + 1) (by omega) (by omega) (by omega) _ _ (by rw [e1]; exact hP) (by rw [e1]; exact hD) hS _ (by rw [e1]; exact lv_sub hl [1, 2, 3, 0] rfl)
              · refine lv_aload_n hx hb dX0_remove_40 rfl (lv_at hl 0 rfl) ?_
                refine gx_held hx hb hts hown hK hP dX0_remove_41 ?_
                refine lv_iload_n hx hb dX0_remove_44 rfl (lv_at hl 3 rfl) ?_
                refine lv_iconst (v := nI 0) hx hb dX0_remove_45 (by decide) ?_
                refine sx_held hx hb hK hP hD hS false (by decide) (by omega) dX0_remove_46 (fun H locs hP hD hS => ?_)
                refine lv_iinc (v := (nI ((cd_rem x h i).2 + 1))) (lv' := [(2, .int (nI ((cd_rem x h i).2 + 1))), (0, .ref (a 0)), (1, .int (nI x)), (3, .int (nI i))]) hx hb dX0_remove_47 hl (k := 2) rfl (cd_inc ((cd_rem x h i).2)) (by decide) rfl (fun ls hl => ?_)
                refine lv_iinc (v := (nI (i + 1))) (lv' := [(3, .int (nI (i + 1))), (2, .int (nI ((cd_rem x h i).2 + 1))), (0, .ref (a 0)), (1, .int (nI x))]) hx hb dX0_remove_50 hl (k := 3) rfl (cd_inc i) (by decide) rfl (fun ls hl => ?_)
                refine lv_goto (tgt := 17) hx hb dX0_remove_53 (by decide) ?_
                have hm : i &&& x = x := by rw [Nat.and_comm]; exact (cd_subm x (by omega) i (by omega)).mp c28
                have e1 := cd_reS (h := h) h0 hm c37
                exact ih (i + 1) (by omega) (by omega) (by omega) _ _ (by rw [e1]; exact hP) (by rw [e1]; exact hD) hS _ (by rw [e1]; exact lv_sub hl [2, 3, 1, 0] rfl)
      exact loop 32 1 (by omega) (by omega) (by omega) _ _ hP hD hS _ (lv_sub hl [2, 3, 1, 0] rfl)
    · have hf := cd_in31_f2 c8
      refine lv_iconst (v := -1) hx hb dX0_remove_11 (by decide) ?_
      exact cd_top (by rw [cd_reV_f hf]) (hret (by rw [cd_reH_f hf]; exact hP) hS dX0_remove_12)

set_option maxHeartbeats 4000000 in
set_option maxRecDepth 100000 in
theorem mt0_count (l : Launch) (D : va_G) (a : Nat → Nat) (z : Nat → ClassId) (h : Nat → Bool) (R O C : Nat → Nat) (rk lf tk : Nat) (k0 : Int32) : cd_I l yX0_count (ws_ yX0_count cX0_count 2 (some .int)) (cd_rm 2 45) [.ref (a 0), .int k0] D (cd_DT z) (cd_DW a z h R O C rk lf tk) (cd_dv (fun k => nI (cd_cnt h k)) k0) (cd_DW a z h R O C rk lf tk) := by
  refine cd_I.mk cX0_count 2 .int RX0 (by decide) rfl (cd_narI _) (Nat.le_of_ble_eq_true rfl) ?_
  intro p e s m args below meth c A Q hx hb hml hown hts hA hK hD hP hS hret ls hl
  have hl : lv_has ls 2 [(0, .ref (a 0)), (1, .int k0)] := hl
  refine lv_iload_n hx hb dX0_count_0 rfl (lv_at hl 1 rfl) ?_
  refine cd_callS [] hx hb hml hown hts hA (mt0_isDimension l D _ _ k0) (va_cwS 1 hts (lw_S q61 q62 q15 q63) rfl rfl rfl (by decide +kernel) ⟨Nat.le_of_ble_eq_true rfl, Nat.le_of_ble_eq_true rfl⟩) hK hD hP hS rfl hl.1 rfl rfl (Nat.le_of_ble_eq_true rfl) dX0_count_1 ⟨Nat.zero_le _, Nat.zero_le _⟩ (fun H locs hP hD hS => ?_)
  refine cb_ifeq (tgt := 15) hx hb dX0_count_4 (by decide) (fun c4 => ?_) (fun c4 => ?_)
  · refine lv_iconst (v := -1) hx hb dX0_count_15 (by decide) ?_
    exact cd_top (cd_dv_f c4).symm (hret hP hS dX0_count_16)
  · obtain ⟨k, hk, rfl⟩ := cd_dimE c4
    have hi10 := cd_cnt_le (h := h) hk
    refine lv_aload_n hx hb dX0_count_7 rfl (lv_at hl 0 rfl) ?_
    refine lv_iload_n hx hb dX0_count_8 rfl (lv_at hl 1 rfl) ?_
    refine cd_callV [] hx hb hml hown hts hA (mt0_countOf l D a z h R O C rk lf tk k hk) (cwV 1 hts (lw_V q64 q66 qs0 q15 q67) rfl rfl rfl (by decide +kernel) ⟨Nat.le_of_ble_eq_true rfl, Nat.le_of_ble_eq_true rfl⟩) hK hD hP hS rfl (va_recv hK hP (ci := 0) (q0 := 0) rfl rfl) hl.1 rfl rfl (Nat.le_of_ble_eq_true rfl) dX0_count_9 ⟨Nat.zero_le _, Nat.zero_le _⟩ (fun H locs hP hD hS => ?_)
    refine lv_goto (tgt := 16) hx hb dX0_count_12 (by decide) ?_
    exact cd_top (by rw [cd_dv_t hk] <;> rfl) (hret hP hS dX0_count_16)

set_option maxHeartbeats 4000000 in
set_option maxRecDepth 100000 in
theorem mt0_simplex (l : Launch) (D : va_G) (a : Nat → Nat) (z : Nat → ClassId) (h : Nat → Bool) (R O C : Nat → Nat) (rk lf tk : Nat) (k0 i0 : Int32) : cd_I l yX0_simplex (ws_ yX0_simplex cX0_simplex 3 (some .int)) (cd_rm 2 46) [.ref (a 0), .int k0, .int i0] D (cd_DT z) (cd_DW a z h R O C rk lf tk) (cd_smpV h k0 i0) (cd_DW a z h R O C rk lf tk) := by
  refine cd_I.mk cX0_simplex 3 .int RX0 (by decide) rfl (cd_narI _) (Nat.le_of_ble_eq_true rfl) ?_
  intro p e s m args below meth c A Q hx hb hml hown hts hA hK hD hP hS hret ls hl
  have hl : lv_has ls 3 [(0, .ref (a 0)), (1, .int k0), (2, .int i0)] := hl
  refine lv_iload_n hx hb dX0_simplex_0 rfl (lv_at hl 1 rfl) ?_
  refine cd_callS [] hx hb hml hown hts hA (mt0_isDimension l D _ _ k0) (va_cwS 1 hts (lw_S q61 q62 q15 q63) rfl rfl rfl (by decide +kernel) ⟨Nat.le_of_ble_eq_true rfl, Nat.le_of_ble_eq_true rfl⟩) hK hD hP hS rfl hl.1 rfl rfl (Nat.le_of_ble_eq_true rfl) dX0_simplex_1 ⟨Nat.zero_le _, Nat.zero_le _⟩ (fun H locs hP hD hS => ?_)
  refine cb_ifeq (tgt := 29) hx hb dX0_simplex_4 (by decide) (fun c4 => ?_) (fun c4 => ?_)
  · refine lv_iconst (v := -1) hx hb dX0_simplex_29 (by decide) ?_
    exact cd_top (by first | exact (cd_smpV_f3 hk hi2 c17).symm | exact (cd_smpV_f2 c8).symm | exact (cd_smpV_f1 c4).symm) (hret hP hS dX0_simplex_30)
  · obtain ⟨k, hk, rfl⟩ := cd_dimE c4
    have hi10 := cd_cnt_le (h := h) hk
    refine lv_iload_n hx hb dX0_simplex_7 rfl (lv_at hl 2 rfl) ?_
    refine lv_if_lt (tgt := 29) hx hb dX0_simplex_8 (by decide) (fun c8 => ?_) (fun c8 => ?_)
    · refine lv_iconst (v := -1) hx hb dX0_simplex_29 (by decide) ?_
      exact cd_top (by first | exact (cd_smpV_f3 hk hi2 c17).symm | exact (cd_smpV_f2 c8).symm | exact (cd_smpV_f1 c4).symm) (hret hP hS dX0_simplex_30)
    · obtain ⟨i, hi2, rfl⟩ := nI_of c8
      refine lv_iload_n hx hb dX0_simplex_11 rfl (lv_at hl 2 rfl) ?_
      refine lv_aload_n hx hb dX0_simplex_12 rfl (lv_at hl 0 rfl) ?_
      refine lv_iload_n hx hb dX0_simplex_13 rfl (lv_at hl 1 rfl) ?_
      refine cd_callV [.int (nI i)] hx hb hml hown hts hA (mt0_countOf l D a z h R O C rk lf tk k hk) (cwV 1 hts (lw_V q64 q66 qs0 q15 q67) rfl rfl rfl (by decide +kernel) ⟨Nat.le_of_ble_eq_true rfl, Nat.le_of_ble_eq_true rfl⟩) hK hD hP hS rfl (va_recv hK hP (ci := 0) (q0 := 0) rfl rfl) hl.1 rfl rfl (Nat.le_of_ble_eq_true rfl) dX0_simplex_14 ⟨Nat.zero_le _, Nat.zero_le _⟩ (fun H locs hP hD hS => ?_)
      refine cn_ge (tgt := 29) hx hb dX0_simplex_17 (by decide) (by omega) (by omega) (fun c17 => ?_) (fun c17 => ?_)
      · refine lv_iconst (v := -1) hx hb dX0_simplex_29 (by decide) ?_
        exact cd_top (by first | exact (cd_smpV_f3 hk hi2 c17).symm | exact (cd_smpV_f2 c8).symm | exact (cd_smpV_f1 c4).symm) (hret hP hS dX0_simplex_30)
      · refine lv_aload_n hx hb dX0_simplex_20 rfl (lv_at hl 0 rfl) ?_
        refine lv_iload_n hx hb dX0_simplex_21 rfl (lv_at hl 1 rfl) ?_
        refine lv_iload_n hx hb dX0_simplex_22 rfl (lv_at hl 2 rfl) ?_
        refine cd_callV [] hx hb hml hown hts hA (mt0_simplexAt l D a z h R O C rk lf tk k i hk c17) (cwV 2 hts (lw_V q75 q77 qs1 q15 q78) rfl rfl rfl (by decide +kernel) ⟨Nat.le_of_ble_eq_true rfl, Nat.le_of_ble_eq_true rfl⟩) hK hD hP hS rfl (va_recv hK hP (ci := 0) (q0 := 0) rfl rfl) hl.1 rfl rfl (Nat.le_of_ble_eq_true rfl) dX0_simplex_23 ⟨Nat.zero_le _, Nat.zero_le _⟩ (fun H locs hP hD hS => ?_)
        refine lv_goto (tgt := 30) hx hb dX0_simplex_26 (by decide) ?_
        exact cd_top (cd_smpV_t hk hi2 c17).symm (hret hP hS dX0_simplex_30)

set_option maxHeartbeats 4000000 in
set_option maxRecDepth 100000 in
theorem mt0_boundary (l : Launch) (D : va_G) (a : Nat → Nat) (z : Nat → ClassId) (h : Nat → Bool) (R O C : Nat → Nat) (rk lf tk : Nat) (k0 x0 : Int32) : cd_I l yX0_boundary (ws_ yX0_boundary cX0_boundary 3 (some .int)) (cd_rm 4 95) [.ref (a 0), .int k0, .int x0] D (cd_DT z) (cd_DW a z h R O C rk lf tk) (cd_cv h (fun k x => nI (cd_bnd h k x)) k0 x0) (cd_DW a z h R O C rk lf tk) := by
  refine cd_I.mk cX0_boundary 3 .int RX0 (by decide) rfl (cd_narI _) (Nat.le_of_ble_eq_true rfl) ?_
  intro p e s m args below meth c A Q hx hb hml hown hts hA hK hD hP hS hret ls hl
  have hl : lv_has ls 3 [(0, .ref (a 0)), (1, .int k0), (2, .int x0)] := hl
  refine lv_aload_n hx hb dX0_boundary_0 rfl (lv_at hl 0 rfl) ?_
  refine lv_iload_n hx hb dX0_boundary_1 rfl (lv_at hl 1 rfl) ?_
  refine lv_iload_n hx hb dX0_boundary_2 rfl (lv_at hl 2 rfl) ?_
  refine cd_callV [] hx hb hml hown hts hA (mt0_isChain l D a z h R O C rk lf tk k0 x0) (cwV 2 hts (lw_V q83 q85 qs2 q15 q86) rfl rfl rfl (by decide +kernel) ⟨Nat.le_of_ble_eq_true rfl, Nat.le_of_ble_eq_true rfl⟩) hK hD hP hS rfl (va_recv hK hP (ci := 0) (q0 := 0) rfl rfl) hl.1 rfl rfl (Nat.le_of_ble_eq_true rfl) dX0_boundary_3 ⟨Nat.zero_le _, Nat.zero_le _⟩ (fun H locs hP hD hS => ?_)
  refine cb_ifeq (tgt := 18) hx hb dX0_boundary_6 (by decide) (fun c6 => ?_) (fun c6 => ?_)
  · refine lv_iconst (v := -1) hx hb dX0_boundary_18 (by decide) ?_
    exact cd_top (cd_cv_f c6).symm (hret hP hS dX0_boundary_19)
  · obtain ⟨k, x, hk, hx1, hx2, rfl, rfl⟩ := cd_chnE c6
    refine lv_aload_n hx hb dX0_boundary_9 rfl (lv_at hl 0 rfl) ?_
    refine lv_iload_n hx hb dX0_boundary_10 rfl (lv_at hl 1 rfl) ?_
    refine lv_iload_n hx hb dX0_boundary_11 rfl (lv_at hl 2 rfl) ?_
    refine cd_callV [] hx hb hml hown hts hA (mt0_boundaryOf l D a z h R O C rk lf tk k x hk hx1) (cwV 2 hts (lw_V q87 q89 qs3 q15 q90) rfl rfl rfl (by decide +kernel) ⟨Nat.le_of_ble_eq_true rfl, Nat.le_of_ble_eq_true rfl⟩) hK hD hP hS rfl (va_recv hK hP (ci := 0) (q0 := 0) rfl rfl) hl.1 rfl rfl (Nat.le_of_ble_eq_true rfl) dX0_boundary_12 ⟨Nat.zero_le _, Nat.zero_le _⟩ (fun H locs hP hD hS => ?_)
    refine lv_goto (tgt := 19) hx hb dX0_boundary_15 (by decide) ?_
    exact cd_top (by rw [cd_cv_t hk hx1 hx2] <;> rfl) (hret hP hS dX0_boundary_19)

set_option maxHeartbeats 4000000 in
set_option maxRecDepth 100000 in
theorem mt0_holes (l : Launch) (D : va_G) (a : Nat → Nat) (z : Nat → ClassId) (h : Nat → Bool) (R O C : Nat → Nat) (rk lf tk : Nat) (k0 : Int32) : cd_J l yX0_holes (ws_ yX0_holes cX0_holes 3 (some .int)) (cd_rm 5 120) [.ref (a 0), .int k0] D (cd_DT z) (cd_DW a z h R O C rk lf tk) (cd_dv (cd_hoD h R O C lf tk) k0) (cd_FD a z h) := by
  refine cd_J.mk cX0_holes 3 .int RX0 (by decide) rfl (cd_narI _) (Nat.le_of_ble_eq_true rfl) ?_
  intro p e s m args below meth c A Q hx hb hml hown hts hA hK hD hP hS hret ls hl
  have hl : lv_has ls 3 [(0, .ref (a 0)), (1, .int k0)] := hl
  refine lv_iload_n hx hb dX0_holes_0 rfl (lv_at hl 1 rfl) ?_
  refine cd_callS [] hx hb hml hown hts hA (mt0_isDimension l D _ _ k0) (va_cwS 1 hts (lw_S q61 q62 q15 q63) rfl rfl rfl (by decide +kernel) ⟨Nat.le_of_ble_eq_true rfl, Nat.le_of_ble_eq_true rfl⟩) hK hD hP hS rfl hl.1 rfl rfl (Nat.le_of_ble_eq_true rfl) dX0_holes_1 ⟨Nat.zero_le _, Nat.zero_le _⟩ (fun H locs hP hD hS => ?_)
  refine cb_ifne (tgt := 9) hx hb dX0_holes_4 (by decide) (fun c4 => ?_) (fun c4 => ?_)
  · obtain ⟨k, hk, rfl⟩ := cd_dimE c4
    have hi10 := cd_cnt_le (h := h) hk
    refine lv_aload_n hx hb dX0_holes_9 rfl (lv_at hl 0 rfl) ?_
    refine lv_iload_n hx hb dX0_holes_10 rfl (lv_at hl 1 rfl) ?_
    refine cd_callV [] hx hb hml hown hts hA (mt0_countOf l D a z h R O C rk lf tk k hk) (cwV 1 hts (lw_V q64 q66 qs0 q15 q67) rfl rfl rfl (by decide +kernel) ⟨Nat.le_of_ble_eq_true rfl, Nat.le_of_ble_eq_true rfl⟩) hK hD hP hS rfl (va_recv hK hP (ci := 0) (q0 := 0) rfl rfl) hl.1 rfl rfl (Nat.le_of_ble_eq_true rfl) dX0_holes_11 ⟨Nat.zero_le _, Nat.zero_le _⟩ (fun H locs hP hD hS => ?_)
    refine lv_istore_n (lv' := [(2, .int (nI (cd_cnt h k))), (0, .ref (a 0)), (1, .int (nI k))]) hx hb dX0_holes_14 rfl hl (by decide) rfl (fun ls hl => ?_)
    refine lv_aload_n hx hb dX0_holes_15 rfl (lv_at hl 1 rfl) ?_
    refine lv_iload_n hx hb dX0_holes_16 rfl (lv_at hl 2 rfl) ?_
    refine cd_callVV [] hx hb hml hown hts hA (mt0_eliminate l D a z h R O C rk lf tk k (by omega)) (cwV 1 hts (lw_V q103 q105 qs6 q15 q106) rfl rfl rfl (by decide +kernel) ⟨Nat.le_of_ble_eq_true rfl, Nat.le_of_ble_eq_true rfl⟩) hK hD hP hS rfl (va_recv hK hP (ci := 0) (q0 := 0) rfl rfl) hl.1 rfl rfl (Nat.le_of_ble_eq_true rfl) dX0_holes_17 ⟨Nat.zero_le _, Nat.zero_le _⟩ (fun H locs hP hD hS => ?_)
    refine lv_iload_n hx hb dX0_holes_20 rfl (lv_at hl 0 rfl) ?_
    refine lv_aload_n hx hb dX0_holes_21 rfl (lv_at hl 1 rfl) ?_
    refine gx_rank hx hb hts hown hK hP dX0_holes_22 ?_
    refine lv_isub hx hb dX0_holes_25 ?_
    refine lv_istore_n (lv' := [(2, .int ((nI (cd_cnt h k)) - (nI ((cd_elim h k R O C lf tk).2.2.2.1)))), (0, .ref (a 0)), (1, .int (nI k))]) hx hb dX0_holes_26 rfl hl (by decide) rfl (fun ls hl => ?_)
    refine lv_aload_n hx hb dX0_holes_27 rfl (lv_at hl 1 rfl) ?_
    refine lv_iload_n hx hb dX0_holes_28 rfl (lv_at hl 2 rfl) ?_
    refine lv_iconst (v := nI 1) hx hb dX0_holes_29 (by decide) ?_
    refine cn_add hx hb dX0_holes_30 ?_
    refine cd_callVV [] hx hb hml hown hts hA (mt0_eliminate l D a z h ((cd_elim h k R O C lf tk).1) ((cd_elim h k R O C lf tk).2.1) ((cd_elim h k R O C lf tk).2.2.1) ((cd_elim h k R O C lf tk).2.2.2.1) ((cd_elim h k R O C lf tk).2.2.2.2.1) ((cd_elim h k R O C lf tk).2.2.2.2.2) (k + 1) (by omega)) (cwV 1 hts (lw_V q103 q105 qs6 q15 q106) rfl rfl rfl (by decide +kernel) ⟨Nat.le_of_ble_eq_true rfl, Nat.le_of_ble_eq_true rfl⟩) hK hD hP hS rfl (va_recv hK hP (ci := 0) (q0 := 0) rfl rfl) hl.1 rfl rfl (Nat.le_of_ble_eq_true rfl) dX0_holes_31 ⟨Nat.zero_le _, Nat.zero_le _⟩ (fun H locs hP hD hS => ?_)
    refine lv_iload_n hx hb dX0_holes_34 rfl (lv_at hl 0 rfl) ?_
    refine lv_aload_n hx hb dX0_holes_35 rfl (lv_at hl 1 rfl) ?_
    refine gx_rank hx hb hts hown hK hP dX0_holes_36 ?_
    refine lv_isub hx hb dX0_holes_39 ?_
    exact cd_top (by rw [cd_dv_t hk] <;> rfl) (hret ⟨_, _, _, _, _, _, rfl⟩ hP hS dX0_holes_40)
  · refine lv_iconst (v := -1) hx hb dX0_holes_7 (by decide) ?_
    exact cd_top (cd_dv_f c4).symm (hret ⟨_, _, _, _, _, _, rfl⟩ hP hS dX0_holes_8)

set_option maxHeartbeats 4000000 in
set_option maxRecDepth 100000 in
theorem mt0_filled (l : Launch) (D : va_G) (a : Nat → Nat) (z : Nat → ClassId) (h : Nat → Bool) (R O C : Nat → Nat) (rk lf tk : Nat) (k0 x0 : Int32) : cd_J l yX0_filled (ws_ yX0_filled cX0_filled 3 (some .int)) (cd_rm 5 120) [.ref (a 0), .int k0, .int x0] D (cd_DT z) (cd_DW a z h R O C rk lf tk) (cd_cv h (fun k x => cd_b ((cd_rdD h R O C lf tk k x).1 == 0)) k0 x0) (cd_FD a z h) := by
  refine cd_J.mk cX0_filled 3 .int RX0 (by decide) rfl (cd_narI _) (Nat.le_of_ble_eq_true rfl) ?_
  intro p e s m args below meth c A Q hx hb hml hown hts hA hK hD hP hS hret ls hl
  have hl : lv_has ls 3 [(0, .ref (a 0)), (1, .int k0), (2, .int x0)] := hl
  refine lv_aload_n hx hb dX0_filled_0 rfl (lv_at hl 0 rfl) ?_
  refine lv_iload_n hx hb dX0_filled_1 rfl (lv_at hl 1 rfl) ?_
  refine lv_iload_n hx hb dX0_filled_2 rfl (lv_at hl 2 rfl) ?_
  refine cd_callV [] hx hb hml hown hts hA (mt0_isChain l D a z h R O C rk lf tk k0 x0) (cwV 2 hts (lw_V q83 q85 qs2 q15 q86) rfl rfl rfl (by decide +kernel) ⟨Nat.le_of_ble_eq_true rfl, Nat.le_of_ble_eq_true rfl⟩) hK hD hP hS rfl (va_recv hK hP (ci := 0) (q0 := 0) rfl rfl) hl.1 rfl rfl (Nat.le_of_ble_eq_true rfl) dX0_filled_3 ⟨Nat.zero_le _, Nat.zero_le _⟩ (fun H locs hP hD hS => ?_)
  refine cb_ifne (tgt := 11) hx hb dX0_filled_6 (by decide) (fun c6 => ?_) (fun c6 => ?_)
  · obtain ⟨k, x, hk, hx1, hx2, rfl, rfl⟩ := cd_chnE c6
    refine lv_aload_n hx hb dX0_filled_11 rfl (lv_at hl 0 rfl) ?_
    refine lv_iload_n hx hb dX0_filled_12 rfl (lv_at hl 1 rfl) ?_
    refine lv_iconst (v := nI 1) hx hb dX0_filled_13 (by decide) ?_
    refine cn_add hx hb dX0_filled_14 ?_
    refine cd_callVV [] hx hb hml hown hts hA (mt0_eliminate l D a z h R O C rk lf tk (k + 1) (by omega)) (cwV 1 hts (lw_V q103 q105 qs6 q15 q106) rfl rfl rfl (by decide +kernel) ⟨Nat.le_of_ble_eq_true rfl, Nat.le_of_ble_eq_true rfl⟩) hK hD hP hS rfl (va_recv hK hP (ci := 0) (q0 := 0) rfl rfl) hl.1 rfl rfl (Nat.le_of_ble_eq_true rfl) dX0_filled_15 ⟨Nat.zero_le _, Nat.zero_le _⟩ (fun H locs hP hD hS => ?_)
    refine lv_aload_n hx hb dX0_filled_18 rfl (lv_at hl 0 rfl) ?_
    refine lv_iload_n hx hb dX0_filled_19 rfl (lv_at hl 2 rfl) ?_
    refine cd_callVV [] hx hb hml hown hts hA (mt0_reduce l D a z h ((cd_elim h (k + 1) R O C lf tk).1) ((cd_elim h (k + 1) R O C lf tk).2.1) ((cd_elim h (k + 1) R O C lf tk).2.2.1) ((cd_elim h (k + 1) R O C lf tk).2.2.2.1) ((cd_elim h (k + 1) R O C lf tk).2.2.2.2.1) ((cd_elim h (k + 1) R O C lf tk).2.2.2.2.2) x (cd_elim_B h (k + 1) R O C lf tk).1 (by omega)) (cwV 1 hts (lw_V q107 q109 qs7 q15 q110) rfl rfl rfl (by decide +kernel) ⟨Nat.le_of_ble_eq_true rfl, Nat.le_of_ble_eq_true rfl⟩) hK hD hP hS rfl (va_recv hK hP (ci := 0) (q0 := 0) rfl rfl) hl.1 rfl rfl (Nat.le_of_ble_eq_true rfl) dX0_filled_20 ⟨Nat.zero_le _, Nat.zero_le _⟩ (fun H locs hP hD hS => ?_)
    have hl2 := cd_red_lt (O := (cd_elim h (k + 1) R O C lf tk).2.1) (cd_elim_B h (k + 1) R O C lf tk).1 10 (Nat.le_refl _) x 0 (by omega)
    refine lv_aload_n hx hb dX0_filled_23 rfl (lv_at hl 0 rfl) ?_
    refine gx_left hx hb hts hown hK hP dX0_filled_24 ?_
    refine cn_ifne (tgt := 34) hx hb dX0_filled_27 (by decide) (by omega) (fun c27 => ?_) (fun c27 => ?_)
    · refine lv_iconst (v := nI 0) hx hb dX0_filled_34 (by decide) ?_
      exact cd_top (by rw [cd_cv_t hk hx1 hx2]; first | (rw [show (cd_rdD h R O C lf tk k x).1 = 0 from c27]; rfl) | (rw [show ((cd_rdD h R O C lf tk k x).1 == 0) = false from beq_eq_false_iff_ne.mpr c27]; rfl)) (hret ⟨_, _, _, _, _, _, rfl⟩ hP hS dX0_filled_35)
    · refine lv_iconst (v := nI 1) hx hb dX0_filled_30 (by decide) ?_
      refine lv_goto (tgt := 35) hx hb dX0_filled_31 (by decide) ?_
      exact cd_top (by rw [cd_cv_t hk hx1 hx2]; first | (rw [show (cd_rdD h R O C lf tk k x).1 = 0 from c27]; rfl) | (rw [show ((cd_rdD h R O C lf tk k x).1 == 0) = false from beq_eq_false_iff_ne.mpr c27]; rfl)) (hret ⟨_, _, _, _, _, _, rfl⟩ hP hS dX0_filled_35)
  · refine lv_iconst (v := -1) hx hb dX0_filled_9 (by decide) ?_
    exact cd_top (cd_cv_f c6).symm (hret ⟨_, _, _, _, _, _, rfl⟩ hP hS dX0_filled_10)

set_option maxHeartbeats 4000000 in
set_option maxRecDepth 100000 in
theorem mt0_least (l : Launch) (D : va_G) (a : Nat → Nat) (z : Nat → ClassId) (h : Nat → Bool) (R O C : Nat → Nat) (rk lf tk : Nat) (k0 x0 : Int32) : cd_J l yX0_least (ws_ yX0_least cX0_least 3 (some .int)) (cd_rm 5 120) [.ref (a 0), .int k0, .int x0] D (cd_DT z) (cd_DW a z h R O C rk lf tk) (cd_cv h (fun k x => nI (cd_rdD h R O C lf tk k x).1) k0 x0) (cd_FD a z h) := by
  refine cd_J.mk cX0_least 3 .int RX0 (by decide) rfl (cd_narI _) (Nat.le_of_ble_eq_true rfl) ?_
  intro p e s m args below meth c A Q hx hb hml hown hts hA hK hD hP hS hret ls hl
  have hl : lv_has ls 3 [(0, .ref (a 0)), (1, .int k0), (2, .int x0)] := hl
  refine lv_aload_n hx hb dX0_least_0 rfl (lv_at hl 0 rfl) ?_
  refine lv_iload_n hx hb dX0_least_1 rfl (lv_at hl 1 rfl) ?_
  refine lv_iload_n hx hb dX0_least_2 rfl (lv_at hl 2 rfl) ?_
  refine cd_callV [] hx hb hml hown hts hA (mt0_isChain l D a z h R O C rk lf tk k0 x0) (cwV 2 hts (lw_V q83 q85 qs2 q15 q86) rfl rfl rfl (by decide +kernel) ⟨Nat.le_of_ble_eq_true rfl, Nat.le_of_ble_eq_true rfl⟩) hK hD hP hS rfl (va_recv hK hP (ci := 0) (q0 := 0) rfl rfl) hl.1 rfl rfl (Nat.le_of_ble_eq_true rfl) dX0_least_3 ⟨Nat.zero_le _, Nat.zero_le _⟩ (fun H locs hP hD hS => ?_)
  refine cb_ifne (tgt := 11) hx hb dX0_least_6 (by decide) (fun c6 => ?_) (fun c6 => ?_)
  · obtain ⟨k, x, hk, hx1, hx2, rfl, rfl⟩ := cd_chnE c6
    refine lv_aload_n hx hb dX0_least_11 rfl (lv_at hl 0 rfl) ?_
    refine lv_iload_n hx hb dX0_least_12 rfl (lv_at hl 1 rfl) ?_
    refine lv_iconst (v := nI 1) hx hb dX0_least_13 (by decide) ?_
    refine cn_add hx hb dX0_least_14 ?_
    refine cd_callVV [] hx hb hml hown hts hA (mt0_eliminate l D a z h R O C rk lf tk (k + 1) (by omega)) (cwV 1 hts (lw_V q103 q105 qs6 q15 q106) rfl rfl rfl (by decide +kernel) ⟨Nat.le_of_ble_eq_true rfl, Nat.le_of_ble_eq_true rfl⟩) hK hD hP hS rfl (va_recv hK hP (ci := 0) (q0 := 0) rfl rfl) hl.1 rfl rfl (Nat.le_of_ble_eq_true rfl) dX0_least_15 ⟨Nat.zero_le _, Nat.zero_le _⟩ (fun H locs hP hD hS => ?_)
    refine lv_aload_n hx hb dX0_least_18 rfl (lv_at hl 0 rfl) ?_
    refine lv_iload_n hx hb dX0_least_19 rfl (lv_at hl 2 rfl) ?_
    refine cd_callVV [] hx hb hml hown hts hA (mt0_reduce l D a z h ((cd_elim h (k + 1) R O C lf tk).1) ((cd_elim h (k + 1) R O C lf tk).2.1) ((cd_elim h (k + 1) R O C lf tk).2.2.1) ((cd_elim h (k + 1) R O C lf tk).2.2.2.1) ((cd_elim h (k + 1) R O C lf tk).2.2.2.2.1) ((cd_elim h (k + 1) R O C lf tk).2.2.2.2.2) x (cd_elim_B h (k + 1) R O C lf tk).1 (by omega)) (cwV 1 hts (lw_V q107 q109 qs7 q15 q110) rfl rfl rfl (by decide +kernel) ⟨Nat.le_of_ble_eq_true rfl, Nat.le_of_ble_eq_true rfl⟩) hK hD hP hS rfl (va_recv hK hP (ci := 0) (q0 := 0) rfl rfl) hl.1 rfl rfl (Nat.le_of_ble_eq_true rfl) dX0_least_20 ⟨Nat.zero_le _, Nat.zero_le _⟩ (fun H locs hP hD hS => ?_)
    refine lv_aload_n hx hb dX0_least_23 rfl (lv_at hl 0 rfl) ?_
    refine gx_left hx hb hts hown hK hP dX0_least_24 ?_
    exact cd_top (by rw [cd_cv_t hk hx1 hx2] <;> rfl) (hret ⟨_, _, _, _, _, _, rfl⟩ hP hS dX0_least_27)
  · refine lv_iconst (v := -1) hx hb dX0_least_9 (by decide) ?_
    exact cd_top (cd_cv_f c6).symm (hret ⟨_, _, _, _, _, _, rfl⟩ hP hS dX0_least_10)

set_option maxHeartbeats 4000000 in
set_option maxRecDepth 100000 in
theorem mt0_filling (l : Launch) (D : va_G) (a : Nat → Nat) (z : Nat → ClassId) (h : Nat → Bool) (R O C : Nat → Nat) (rk lf tk : Nat) (k0 x0 : Int32) : cd_J l yX0_filling (ws_ yX0_filling cX0_filling 5 (some .int)) (cd_rm 5 120) [.ref (a 0), .int k0, .int x0] D (cd_DT z) (cd_DW a z h R O C rk lf tk) (cd_cv h (cd_flD h R O C lf tk) k0 x0) (cd_FD a z h) := by
  refine cd_J.mk cX0_filling 5 .int RX0 (by decide) rfl (cd_narI _) (Nat.le_of_ble_eq_true rfl) ?_
  intro p e s m args below meth c A Q hx hb hml hown hts hA hK hD hP hS hret ls hl
  have hl : lv_has ls 5 [(0, .ref (a 0)), (1, .int k0), (2, .int x0)] := hl
  refine lv_aload_n hx hb dX0_filling_0 rfl (lv_at hl 0 rfl) ?_
  refine lv_iload_n hx hb dX0_filling_1 rfl (lv_at hl 1 rfl) ?_
  refine lv_iload_n hx hb dX0_filling_2 rfl (lv_at hl 2 rfl) ?_
  refine cd_callV [] hx hb hml hown hts hA (mt0_isChain l D a z h R O C rk lf tk k0 x0) (cwV 2 hts (lw_V q83 q85 qs2 q15 q86) rfl rfl rfl (by decide +kernel) ⟨Nat.le_of_ble_eq_true rfl, Nat.le_of_ble_eq_true rfl⟩) hK hD hP hS rfl (va_recv hK hP (ci := 0) (q0 := 0) rfl rfl) hl.1 rfl rfl (Nat.le_of_ble_eq_true rfl) dX0_filling_3 ⟨Nat.zero_le _, Nat.zero_le _⟩ (fun H locs hP hD hS => ?_)
  refine cb_ifne (tgt := 11) hx hb dX0_filling_6 (by decide) (fun c6 => ?_) (fun c6 => ?_)
  · obtain ⟨k, x, hk, hx1, hx2, rfl, rfl⟩ := cd_chnE c6
    refine lv_aload_n hx hb dX0_filling_11 rfl (lv_at hl 0 rfl) ?_
    refine lv_iload_n hx hb dX0_filling_12 rfl (lv_at hl 1 rfl) ?_
    refine lv_iconst (v := nI 1) hx hb dX0_filling_13 (by decide) ?_
    refine cn_add hx hb dX0_filling_14 ?_
    refine cd_callVV [] hx hb hml hown hts hA (mt0_eliminate l D a z h R O C rk lf tk (k + 1) (by omega)) (cwV 1 hts (lw_V q103 q105 qs6 q15 q106) rfl rfl rfl (by decide +kernel) ⟨Nat.le_of_ble_eq_true rfl, Nat.le_of_ble_eq_true rfl⟩) hK hD hP hS rfl (va_recv hK hP (ci := 0) (q0 := 0) rfl rfl) hl.1 rfl rfl (Nat.le_of_ble_eq_true rfl) dX0_filling_15 ⟨Nat.zero_le _, Nat.zero_le _⟩ (fun H locs hP hD hS => ?_)
    refine lv_aload_n hx hb dX0_filling_18 rfl (lv_at hl 0 rfl) ?_
    refine lv_iload_n hx hb dX0_filling_19 rfl (lv_at hl 2 rfl) ?_
    refine cd_callVV [] hx hb hml hown hts hA (mt0_reduce l D a z h ((cd_elim h (k + 1) R O C lf tk).1) ((cd_elim h (k + 1) R O C lf tk).2.1) ((cd_elim h (k + 1) R O C lf tk).2.2.1) ((cd_elim h (k + 1) R O C lf tk).2.2.2.1) ((cd_elim h (k + 1) R O C lf tk).2.2.2.2.1) ((cd_elim h (k + 1) R O C lf tk).2.2.2.2.2) x (cd_elim_B h (k + 1) R O C lf tk).1 (by omega)) (cwV 1 hts (lw_V q107 q109 qs7 q15 q110) rfl rfl rfl (by decide +kernel) ⟨Nat.le_of_ble_eq_true rfl, Nat.le_of_ble_eq_true rfl⟩) hK hD hP hS rfl (va_recv hK hP (ci := 0) (q0 := 0) rfl rfl) hl.1 rfl rfl (Nat.le_of_ble_eq_true rfl) dX0_filling_20 ⟨Nat.zero_le _, Nat.zero_le _⟩ (fun H locs hP hD hS => ?_)
    have hl2 := cd_red_lt (O := (cd_elim h (k + 1) R O C lf tk).2.1) (cd_elim_B h (k + 1) R O C lf tk).1 10 (Nat.le_refl _) x 0 (by omega)
    refine lv_aload_n hx hb dX0_filling_23 rfl (lv_at hl 0 rfl) ?_
    refine gx_left hx hb hts hown hK hP dX0_filling_24 ?_
    refine cn_ifeq (tgt := 33) hx hb dX0_filling_27 (by decide) (by omega) (fun c27 => ?_) (fun c27 => ?_)
    · refine lv_aload_n hx hb dX0_filling_33 rfl (lv_at hl 0 rfl) ?_
      refine gx_taken hx hb hts hown hK hP dX0_filling_34 ?_
      refine lv_istore_n (lv' := [(3, .int (nI ((cd_red (cd_elim h (k + 1) R O C lf tk).1 (cd_elim h (k + 1) R O C lf tk).2.1 10 x 0).2))), (0, .ref (a 0)), (1, .int (nI k)), (2, .int (nI x))]) hx hb dX0_filling_37 rfl hl (by decide) rfl (fun ls hl => ?_)
      refine lv_bipush (v := nI 9) hx hb dX0_filling_38 (by decide) ?_
      refine lv_istore (lv' := [(4, .int (nI 9)), (3, .int (nI ((cd_red (cd_elim h (k + 1) R O C lf tk).1 (cd_elim h (k + 1) R O C lf tk).2.1 10 x 0).2))), (0, .ref (a 0)), (1, .int (nI k)), (2, .int (nI x))]) hx hb dX0_filling_40 hl (by decide) rfl (fun ls hl => ?_)
      have hB := cd_elim_B h (k + 1) R O C lf tk
      have ht2 := cd_red_lt2 (R := (cd_elim h (k + 1) R O C lf tk).1) hB.2.1 10 (Nat.le_refl _) x 0 (by decide)
      have hv : cd_cv h (cd_flD h R O C lf tk) (nI k) (nI x) = nI (cd_red (cd_elim h (k + 1) R O C lf tk).2.2.1 (cd_elim h (k + 1) R O C lf tk).2.2.1 10 ((cd_red (cd_elim h (k + 1) R O C lf tk).1 (cd_elim h (k + 1) R O C lf tk).2.1 10 x 0).2) 0).1 := by
        rw [cd_cv_t hk hx1 hx2]
        unfold cd_flD
        rw [if_pos (show (cd_rdD h R O C lf tk k x).1 = 0 from c27)]
        rfl
      have loop : ∀ (n y t : Nat), n ≤ 10 → y < 2048 → (cd_red (cd_elim h (k + 1) R O C lf tk).2.2.1 (cd_elim h (k + 1) R O C lf tk).2.2.1 n y t).1 = (cd_red (cd_elim h (k + 1) R O C lf tk).2.2.1 (cd_elim h (k + 1) R O C lf tk).2.2.1 10 ((cd_red (cd_elim h (k + 1) R O C lf tk).1 (cd_elim h (k + 1) R O C lf tk).2.1 10 x 0).2) 0).1 → ∀ (H : Heap) (locs : List Loc), va_P D vwCl (cd_DW a z h ((cd_elim h (k + 1) R O C lf tk).1) ((cd_elim h (k + 1) R O C lf tk).2.1) ((cd_elim h (k + 1) R O C lf tk).2.2.1) ((cd_elim h (k + 1) R O C lf tk).2.2.2.1) ((cd_red (cd_elim h (k + 1) R O C lf tk).1 (cd_elim h (k + 1) R O C lf tk).2.1 10 x 0).1) ((cd_red (cd_elim h (k + 1) R O C lf tk).1 (cd_elim h (k + 1) R O C lf tk).2.1 10 x 0).2)) H → va_D A (cd_DW a z h ((cd_elim h (k + 1) R O C lf tk).1) ((cd_elim h (k + 1) R O C lf tk).2.1) ((cd_elim h (k + 1) R O C lf tk).2.2.1) ((cd_elim h (k + 1) R O C lf tk).2.2.2.1) ((cd_red (cd_elim h (k + 1) R O C lf tk).1 (cd_elim h (k + 1) R O C lf tk).2.1 10 x 0).1) ((cd_red (cd_elim h (k + 1) R O C lf tk).1 (cd_elim h (k + 1) R O C lf tk).2.1 10 x 0).2)) → va_S A s.heap H locs → ∀ ls : Array Slot, lv_has ls 5 [(0, .ref (a 0)), (3, .int (nI y)), (4, .int (cd_m n))] → W p l e (cd_rm 5 120) s m args below meth c H locs 0 0 Q (F0 m 42 ls []) := by
        intro n
        induction n with
        | zero =>
          intro y t h1 h2 he H locs hP hD hS ls hl
          refine lv_iload hx hb dX0_filling_42 (lv_at hl 2 rfl) ?_
          refine cn_iflt_m (tgt := 82) hx hb dX0_filling_44 (by decide) ?_
          refine lv_iload_n hx hb dX0_filling_82 rfl (lv_at hl 1 rfl) ?_
          exact cd_top (by rw [hv, ← he]; rfl) (hret ⟨_, _, _, _, _, _, rfl⟩ hP hS dX0_filling_83)
        | succ n ih =>
          intro y t h1 h2 he H locs hP hD hS ls hl
          rw [cd_mS] at hl
          have hCn := hB.2.2 n (by omega)
          refine lv_iload hx hb dX0_filling_42 (lv_at hl 2 rfl) ?_
          refine cn_iflt (tgt := 82) hx hb dX0_filling_44 (by decide) (by omega) ?_
          refine lv_aload_n hx hb dX0_filling_47 rfl (lv_at hl 0 rfl) ?_
          refine gx_cycle hx hb hts hown hK hP dX0_filling_48 ?_
          refine lv_iload hx hb dX0_filling_51 (lv_at hl 2 rfl) ?_
          refine ax_cycle hx hb hK hP (by omega) dX0_filling_53 ?_
          refine cn_ifeq (tgt := 76) hx hb dX0_filling_54 (by decide) (by omega) (fun c54 => ?_) (fun c54 => ?_)
          · refine lv_iinc (v := (cd_m n)) (lv' := [(4, .int (cd_m n)), (0, .ref (a 0)), (3, .int (nI y))]) hx hb dX0_filling_76 hl (k := 2) rfl rfl (by decide) rfl (fun ls hl => ?_)
            refine lv_goto (tgt := 42) hx hb dX0_filling_79 (by decide) ?_
            have e1 : (cd_red (cd_elim h (k + 1) R O C lf tk).2.2.1 (cd_elim h (k + 1) R O C lf tk).2.2.1 n y t).1 = (cd_red (cd_elim h (k + 1) R O C lf tk).2.2.1 (cd_elim h (k + 1) R O C lf tk).2.2.1 10 ((cd_red (cd_elim h (k + 1) R O C lf tk).1 (cd_elim h (k + 1) R O C lf tk).2.1 10 x 0).2) 0).1 := by
              rw [← he]
              show _ = (if (((cd_elim h (k + 1) R O C lf tk).2.2.1 n != 0) && y.testBit n) = true then cd_red (cd_elim h (k + 1) R O C lf tk).2.2.1 (cd_elim h (k + 1) R O C lf tk).2.2.1 n (y ^^^ (cd_elim h (k + 1) R O C lf tk).2.2.1 n) (t ^^^ (cd_elim h (k + 1) R O C lf tk).2.2.1 n) else cd_red (cd_elim h (k + 1) R O C lf tk).2.2.1 (cd_elim h (k + 1) R O C lf tk).2.2.1 n y t).1
              first | (simp [c54, c63]; done) | (simp [c54]; done)
            exact ih y t (by omega) h2 e1 _ _ hP hD hS _ (lv_sub hl [1, 2, 0] rfl)
          · refine lv_iload_n hx hb dX0_filling_57 rfl (lv_at hl 1 rfl) ?_
            refine lv_iload hx hb dX0_filling_58 (lv_at hl 2 rfl) ?_
            refine cn_bitU hx hb (by omega) (by omega) dX0_filling_60 dX0_filling_61 dX0_filling_62 ?_
            refine cb_ifeq (tgt := 76) hx hb dX0_filling_63 (by decide) (fun c63 => ?_) (fun c63 => ?_)
            · refine lv_iinc (v := (cd_m n)) (lv' := [(4, .int (cd_m n)), (0, .ref (a 0)), (3, .int (nI y))]) hx hb dX0_filling_76 hl (k := 2) rfl rfl (by decide) rfl (fun ls hl => ?_)
              refine lv_goto (tgt := 42) hx hb dX0_filling_79 (by decide) ?_
              have e1 : (cd_red (cd_elim h (k + 1) R O C lf tk).2.2.1 (cd_elim h (k + 1) R O C lf tk).2.2.1 n y t).1 = (cd_red (cd_elim h (k + 1) R O C lf tk).2.2.1 (cd_elim h (k + 1) R O C lf tk).2.2.1 10 ((cd_red (cd_elim h (k + 1) R O C lf tk).1 (cd_elim h (k + 1) R O C lf tk).2.1 10 x 0).2) 0).1 := by
                rw [← he]
                show _ = (if (((cd_elim h (k + 1) R O C lf tk).2.2.1 n != 0) && y.testBit n) = true then cd_red (cd_elim h (k + 1) R O C lf tk).2.2.1 (cd_elim h (k + 1) R O C lf tk).2.2.1 n (y ^^^ (cd_elim h (k + 1) R O C lf tk).2.2.1 n) (t ^^^ (cd_elim h (k + 1) R O C lf tk).2.2.1 n) else cd_red (cd_elim h (k + 1) R O C lf tk).2.2.1 (cd_elim h (k + 1) R O C lf tk).2.2.1 n y t).1
                first | (simp [c54, c63]; done) | (simp [c54]; done)
              exact ih y t (by omega) h2 e1 _ _ hP hD hS _ (lv_sub hl [1, 2, 0] rfl)
            · refine lv_iload_n hx hb dX0_filling_66 rfl (lv_at hl 1 rfl) ?_
              refine lv_aload_n hx hb dX0_filling_67 rfl (lv_at hl 0 rfl) ?_
              refine gx_cycle hx hb hts hown hK hP dX0_filling_68 ?_
              refine lv_iload hx hb dX0_filling_71 (lv_at hl 2 rfl) ?_
              refine ax_cycle hx hb hK hP (by omega) dX0_filling_73 ?_
              refine cn_xor hx hb dX0_filling_74 ?_
              refine lv_istore_n (lv' := [(3, .int (nI (y ^^^ (((cd_elim h (k + 1) R O C lf tk).2.2.1) n)))), (0, .ref (a 0)), (4, .int (nI n))]) hx hb dX0_filling_75 rfl hl (by decide) rfl (fun ls hl => ?_)
              refine lv_iinc (v := (cd_m n)) (lv' := [(4, .int (cd_m n)), (3, .int (nI (y ^^^ (((cd_elim h (k + 1) R O C lf tk).2.2.1) n)))), (0, .ref (a 0))]) hx hb dX0_filling_76 hl (k := 2) rfl rfl (by decide) rfl (fun ls hl => ?_)
              refine lv_goto (tgt := 42) hx hb dX0_filling_79 (by decide) ?_
              have e1 : (cd_red (cd_elim h (k + 1) R O C lf tk).2.2.1 (cd_elim h (k + 1) R O C lf tk).2.2.1 n (y ^^^ (((cd_elim h (k + 1) R O C lf tk).2.2.1) n)) (t ^^^ (cd_elim h (k + 1) R O C lf tk).2.2.1 n)).1 = (cd_red (cd_elim h (k + 1) R O C lf tk).2.2.1 (cd_elim h (k + 1) R O C lf tk).2.2.1 10 ((cd_red (cd_elim h (k + 1) R O C lf tk).1 (cd_elim h (k + 1) R O C lf tk).2.1 10 x 0).2) 0).1 := by
                rw [← he]
                show _ = (if (((cd_elim h (k + 1) R O C lf tk).2.2.1 n != 0) && y.testBit n) = true then cd_red (cd_elim h (k + 1) R O C lf tk).2.2.1 (cd_elim h (k + 1) R O C lf tk).2.2.1 n (y ^^^ (cd_elim h (k + 1) R O C lf tk).2.2.1 n) (t ^^^ (cd_elim h (k + 1) R O C lf tk).2.2.1 n) else cd_red (cd_elim h (k + 1) R O C lf tk).2.2.1 (cd_elim h (k + 1) R O C lf tk).2.2.1 n y t).1
                first | (simp [c54, c63]; done) | (simp [c54]; done)
              exact ih (y ^^^ (((cd_elim h (k + 1) R O C lf tk).2.2.1) n)) (t ^^^ (cd_elim h (k + 1) R O C lf tk).2.2.1 n) (by omega) (cd_x2 h2 hCn) e1 _ _ hP hD hS _ (lv_sub hl [2, 1, 0] rfl)
      exact loop 10 _ 0 (by omega) ht2 rfl _ _ hP hD hS _ (by rw [cd_m10]; exact lv_sub hl [2, 1, 0] rfl)
    · refine lv_bipush (v := -2) hx hb dX0_filling_30 (by decide) ?_
      exact cd_top (by rw [cd_cv_t hk hx1 hx2]; unfold cd_flD; rw [if_neg (show ¬ (cd_rdD h R O C lf tk k x).1 = 0 from c27)]) (hret ⟨_, _, _, _, _, _, rfl⟩ hP hS dX0_filling_32)
  · refine lv_iconst (v := -1) hx hb dX0_filling_9 (by decide) ?_
    exact cd_top (cd_cv_f c6).symm (hret ⟨_, _, _, _, _, _, rfl⟩ hP hS dX0_filling_10)

set_option maxHeartbeats 4000000 in
set_option maxRecDepth 100000 in
theorem mt0_alternating (l : Launch) (D : va_G) (a : Nat → Nat) (z : Nat → ClassId) (h : Nat → Bool) (R O C : Nat → Nat) (rk lf tk : Nat)  : cd_I l yX0_alternating (ws_ yX0_alternating cX0_alternating 4 (some .int)) (cd_rm 2 45) [.ref (a 0)] D (cd_DT z) (cd_DW a z h R O C rk lf tk) (cd_al h 5) (cd_DW a z h R O C rk lf tk) := by
  refine cd_I.mk cX0_alternating 4 .int RX0 (by decide) rfl (cd_narI _) (Nat.le_of_ble_eq_true rfl) ?_
  intro p e s m args below meth c A Q hx hb hml hown hts hA hK hD hP hS hret ls hl
  have hl : lv_has ls 4 [(0, .ref (a 0))] := hl
  have loop : ∀ (n i : Nat), i ≤ 5 → 6 ≤ i + n → ∀ (H : Heap) (locs : List Loc), va_P D vwCl (cd_DW a z h R O C rk lf tk) H → va_D A (cd_DW a z h R O C rk lf tk) → va_S A s.heap H locs → ∀ ls : Array Slot, lv_has ls 4 [(0, .ref (a 0)), (1, .int (cd_al h i)), (2, .int (nI i))] → W p l e (cd_rm 2 45) s m args below meth c H locs 0 0 Q (F0 m 4 ls []) := by
    intro n
    induction n with
    | zero => intro i h1 h2; omega
    | succ n ih =>
      intro i h1 h2 H locs hP hD hS ls hl
      refine lv_iload_n hx hb dX0_alternating_4 rfl (lv_at hl 2 rfl) ?_
      refine lv_iconst (v := nI 5) hx hb dX0_alternating_5 (by decide) ?_
      refine cn_ge (tgt := 36) hx hb dX0_alternating_6 (by decide) (by omega) (by omega) (fun c6 => ?_) (fun c6 => ?_)
      · refine lv_iload_n hx hb dX0_alternating_36 rfl (lv_at hl 1 rfl) ?_
        exact cd_top (by rw [show i = 5 by omega]) (hret hP hS dX0_alternating_37)
      · refine lv_aload_n hx hb dX0_alternating_9 rfl (lv_at hl 0 rfl) ?_
        refine lv_iload_n hx hb dX0_alternating_10 rfl (lv_at hl 2 rfl) ?_
        refine cd_callV [] hx hb hml hown hts hA (mt0_countOf l D a z h R O C rk lf tk i (by omega)) (cwV 1 hts (lw_V q64 q66 qs0 q15 q67) rfl rfl rfl (by decide +kernel) ⟨Nat.le_of_ble_eq_true rfl, Nat.le_of_ble_eq_true rfl⟩) hK hD hP hS rfl (va_recv hK hP (ci := 0) (q0 := 0) rfl rfl) hl.1 rfl rfl (Nat.le_of_ble_eq_true rfl) dX0_alternating_11 ⟨Nat.zero_le _, Nat.zero_le _⟩ (fun H locs hP hD hS => ?_)
        refine lv_istore_n (lv' := [(3, .int (nI (cd_cnt h i))), (0, .ref (a 0)), (1, .int (cd_al h i)), (2, .int (nI i))]) hx hb dX0_alternating_14 rfl hl (by decide) rfl (fun ls hl => ?_)
        refine lv_iload_n hx hb dX0_alternating_15 rfl (lv_at hl 2 rfl) ?_
        refine lv_iload_n hx hb dX0_alternating_16 rfl (lv_at hl 3 rfl) ?_
        refine lv_iconst (v := nI 1) hx hb dX0_alternating_17 (by decide) ?_
        refine cn_and hx hb dX0_alternating_18 ?_
        refine cn_ifne (tgt := 26) hx hb dX0_alternating_19 (by decide) (by have := Nat.and_le_left (n := i) (m := 1); omega) (fun c19 => ?_) (fun c19 => ?_)
        · refine lv_iload_n hx hb dX0_alternating_26 rfl (lv_at hl 0 rfl) ?_
          refine lv_ineg hx hb dX0_alternating_27 ?_
          refine lv_iadd hx hb dX0_alternating_28 ?_
          refine lv_istore_n (lv' := [(1, .int ((cd_al h i) + (-(nI (cd_cnt h i))))), (3, .int (nI (cd_cnt h i))), (0, .ref (a 0)), (2, .int (nI i))]) hx hb dX0_alternating_29 rfl hl (by decide) rfl (fun ls hl => ?_)
          refine lv_iinc (v := (nI (i + 1))) (lv' := [(2, .int (nI (i + 1))), (1, .int ((cd_al h i) + (-(nI (cd_cnt h i))))), (3, .int (nI (cd_cnt h i))), (0, .ref (a 0))]) hx hb dX0_alternating_30 hl (k := 3) rfl (cd_inc i) (by decide) rfl (fun ls hl => ?_)
          refine lv_goto (tgt := 4) hx hb dX0_alternating_33 (by decide) ?_
          have e1 : cd_al h (i + 1) = (cd_al h i) + (-(nI (cd_cnt h i))) := by
            show cd_al h i + (if i % 2 = 0 then nI (cd_cnt h i) else -(nI (cd_cnt h i))) = _
            rw [Nat.and_one_is_mod] at c19
            first | rw [if_pos c19] | rw [if_neg c19]
          exact ih (i + 1) (by omega) (by omega) _ _ hP hD hS _ (by rw [e1]; exact lv_sub hl [3, 1, 0] rfl)
        · refine lv_iload_n hx hb dX0_alternating_22 rfl (lv_at hl 0 rfl) ?_
          refine lv_goto (tgt := 28) hx hb dX0_alternating_23 (by decide) ?_
          refine lv_iadd hx hb dX0_alternating_28 ?_
          refine lv_istore_n (lv' := [(1, .int ((cd_al h i) + (nI (cd_cnt h i)))), (3, .int (nI (cd_cnt h i))), (0, .ref (a 0)), (2, .int (nI i))]) hx hb dX0_alternating_29 rfl hl (by decide) rfl (fun ls hl => ?_)
          refine lv_iinc (v := (nI (i + 1))) (lv' := [(2, .int (nI (i + 1))), (1, .int ((cd_al h i) + (nI (cd_cnt h i)))), (3, .int (nI (cd_cnt h i))), (0, .ref (a 0))]) hx hb dX0_alternating_30 hl (k := 3) rfl (cd_inc i) (by decide) rfl (fun ls hl => ?_)
          refine lv_goto (tgt := 4) hx hb dX0_alternating_33 (by decide) ?_
          have e1 : cd_al h (i + 1) = (cd_al h i) + (nI (cd_cnt h i)) := by
            show cd_al h i + (if i % 2 = 0 then nI (cd_cnt h i) else -(nI (cd_cnt h i))) = _
            rw [Nat.and_one_is_mod] at c19
            first | rw [if_pos c19] | rw [if_neg c19]
          exact ih (i + 1) (by omega) (by omega) _ _ hP hD hS _ (by rw [e1]; exact lv_sub hl [3, 1, 0] rfl)
  refine lv_iconst (v := nI 0) hx hb dX0_alternating_0 (by decide) ?_
  refine lv_istore_n (lv' := [(1, .int (nI 0)), (0, .ref (a 0))]) hx hb dX0_alternating_1 rfl hl (by decide) rfl (fun ls hl => ?_)
  refine lv_iconst (v := nI 0) hx hb dX0_alternating_2 (by decide) ?_
  refine lv_istore_n (lv' := [(2, .int (nI 0)), (1, .int (nI 0)), (0, .ref (a 0))]) hx hb dX0_alternating_3 rfl hl (by decide) rfl (fun ls hl => ?_)
  exact loop 6 0 (by omega) (by omega) _ _ hP hD hS _ (lv_sub hl [2, 1, 0] rfl)
end
section
theorem cd_dim_le {k : Nat} (h : cd_dim (nI k) = true) (hk : k < 2 ^ 31) : k ≤ 4 := by
  obtain ⟨j, hj, e⟩ := cd_dimE h
  rw [(nI_eq hk (by omega)).mp e]
  exact hj

set_option maxHeartbeats 4000000 in
set_option maxRecDepth 100000 in
theorem mt1_points (l : Launch) (D : va_G) (tys : List (ClassId × FieldType)) (w : va_W) (sx : Nat) (hsx : sx < 32) : cd_I l yX1_points (ws_ yX1_points cX1_points 3 (some .int)) (cd_rm 0 0) [.int (nI sx)] D tys (w) (nI (cd_pts sx)) (w) := by
  refine cd_I.mk cX1_points 3 .int RX1 (by decide) rfl (cd_narI _) (Nat.le_of_ble_eq_true rfl) ?_
  intro p e s m args below meth c A Q hx hb hml hown hts hA hK hD hP hS hret ls hl
  have hl : lv_has ls 3 [(0, .int (nI sx))] := hl
  have loop : ∀ (n i : Nat), i ≤ 5 → 6 ≤ i + n → ∀ (H : Heap) (locs : List Loc), va_P D vwCl (w) H → va_D A (w) → va_S A s.heap H locs → ∀ ls : Array Slot, lv_has ls 3 [(0, .int (nI sx)), (1, .int (nI (cd_pt sx i))), (2, .int (nI i))] → W p l e (cd_rm 0 0) s m args below meth c H locs 0 0 Q (F0 m 4 ls []) := by
    intro n
    induction n with
    | zero => intro i h1 h2; omega
    | succ n ih =>
      intro i h1 h2 H locs hP hD hS ls hl
      refine lv_iload_n hx hb dX1_points_4 rfl (lv_at hl 2 rfl) ?_
      refine lv_iconst (v := nI 5) hx hb dX1_points_5 (by decide) ?_
      refine cn_ge (tgt := 23) hx hb dX1_points_6 (by decide) (by omega) (by omega) (fun c6 => ?_) (fun c6 => ?_)
      · refine lv_iload_n hx hb dX1_points_23 rfl (lv_at hl 1 rfl) ?_
        exact cd_top (by rw [show i = 5 by omega]; rfl) (hret hP hS dX1_points_24)
      · refine lv_iload_n hx hb dX1_points_9 rfl (lv_at hl 1 rfl) ?_
        refine lv_iload_n hx hb dX1_points_10 rfl (lv_at hl 0 rfl) ?_
        refine lv_iload_n hx hb dX1_points_11 rfl (lv_at hl 2 rfl) ?_
        refine cn_bitS hx hb (by omega) (by omega) dX1_points_12 dX1_points_13 dX1_points_14 ?_
        refine cn_addb hx hb dX1_points_15 ?_
        refine lv_istore_n (lv' := [(1, .int (nI ((cd_pt sx i) + (sx.testBit i).toNat))), (0, .int (nI sx)), (2, .int (nI i))]) hx hb dX1_points_16 rfl hl (by decide) rfl (fun ls hl => ?_)
        refine lv_iinc (v := (nI (i + 1))) (lv' := [(2, .int (nI (i + 1))), (1, .int (nI ((cd_pt sx i) + (sx.testBit i).toNat))), (0, .int (nI sx))]) hx hb dX1_points_17 hl (k := 2) rfl (cd_inc i) (by decide) rfl (fun ls hl => ?_)
        refine lv_goto (tgt := 4) hx hb dX1_points_20 (by decide) ?_
        have e1 : cd_pt sx (i + 1) = cd_pt sx i + (sx.testBit i).toNat := rfl
        exact ih (i + 1) (by omega) (by omega) _ _ hP hD hS _ (by rw [e1]; exact lv_sub hl [2, 1, 0] rfl)
  refine lv_iconst (v := nI 0) hx hb dX1_points_0 (by decide) ?_
  refine lv_istore_n (lv' := [(1, .int (nI 0)), (0, .int (nI sx))]) hx hb dX1_points_1 rfl hl (by decide) rfl (fun ls hl => ?_)
  refine lv_iconst (v := nI 0) hx hb dX1_points_2 (by decide) ?_
  refine lv_istore_n (lv' := [(2, .int (nI 0)), (1, .int (nI 0)), (0, .int (nI sx))]) hx hb dX1_points_3 rfl hl (by decide) rfl (fun ls hl => ?_)
  exact loop 6 0 (by omega) (by omega) _ _ hP hD hS _ (lv_sub hl [2, 1, 0] rfl)

set_option maxHeartbeats 4000000 in
set_option maxRecDepth 100000 in
theorem mt1_bad (l : Launch) (D : va_G) (tys : List (ClassId × FieldType)) (w : va_W) (k0 : Int32) : cd_I l yX1_bad (ws_ yX1_bad cX1_bad 1 (some .boolean)) (cd_rm 0 0) [.int k0] D tys (w) (cd_b (!cd_dim k0)) (w) := by
  refine cd_I.mk cX1_bad 1 .boolean RX1 (by decide) rfl (cd_narB _) (Nat.le_of_ble_eq_true rfl) ?_
  intro p e s m args below meth c A Q hx hb hml hown hts hA hK hD hP hS hret ls hl
  have hl : lv_has ls 1 [(0, .int k0)] := hl
  refine lv_iload_n hx hb dX1_bad_0 rfl (lv_at hl 0 rfl) ?_
  refine lv_if_lt (tgt := 9) hx hb dX1_bad_1 (by decide) (fun c1 => ?_) (fun c1 => ?_)
  · refine lv_iconst (v := nI 1) hx hb dX1_bad_9 (by decide) ?_
    refine lv_goto (tgt := 14) hx hb dX1_bad_10 (by decide) ?_
    exact cd_top (by rw [cd_dim_f1 c1]; rfl) (hret hP hS dX1_bad_14)
  · refine lv_iload_n hx hb dX1_bad_4 rfl (lv_at hl 0 rfl) ?_
    refine lv_iconst (v := nI 4) hx hb dX1_bad_5 (by decide) ?_
    refine lv_icmp_le (tgt := 13) hx hb dX1_bad_6 (by decide) (fun c6 => ?_) (fun c6 => ?_)
    · refine lv_iconst (v := nI 0) hx hb dX1_bad_13 (by decide) ?_
      exact cd_top (by rw [cd_dim_t' c1 c6]; rfl) (hret hP hS dX1_bad_14)
    · refine lv_iconst (v := nI 1) hx hb dX1_bad_9 (by decide) ?_
      refine lv_goto (tgt := 14) hx hb dX1_bad_10 (by decide) ?_
      exact cd_top (by rw [cd_dim_f3 c6]; rfl) (hret hP hS dX1_bad_14)

set_option maxHeartbeats 4000000 in
set_option maxRecDepth 100000 in
theorem mt1_add (l : Launch) (D : va_G) (a : Nat → Nat) (z : Nat → ClassId) (h M : Nat → Bool) (p0 : Int32) : cd_I l yX1_add (ws_ yX1_add cX1_add 4 (some .int)) (cd_rm 0 0) [.ref (a 0), .int p0] D (cd_MT z) (cd_MW a z h M) (cd_adV h p0) (cd_MW a z (cd_adH h p0) M) := by
  refine cd_I.mk cX1_add 4 .int RX1 (by decide) rfl (cd_narI _) (Nat.le_of_ble_eq_true rfl) ?_
  intro p e s m args below meth c A Q hx hb hml hown hts hA hK hD hP hS hret ls hl
  have hl : lv_has ls 4 [(0, .ref (a 0)), (1, .int p0)] := hl
  refine lv_iload_n hx hb dX1_add_0 rfl (lv_at hl 1 rfl) ?_
  refine lv_iconst (v := nI 1) hx hb dX1_add_1 (by decide) ?_
  refine lv_icmp_lt (tgt := 11) hx hb dX1_add_2 (by decide) (fun c2 => ?_) (fun c2 => ?_)
  · have hf := cd_in31_f1 c2
    refine lv_iconst (v := -1) hx hb dX1_add_11 (by decide) ?_
    exact cd_top (by rw [cd_adV_f hf]) (hret (by rw [cd_adH_f hf]; exact hP) hS dX1_add_12)
  · refine lv_iload_n hx hb dX1_add_5 rfl (lv_at hl 1 rfl) ?_
    refine lv_bipush (v := nI 31) hx hb dX1_add_6 (by decide) ?_
    refine lv_icmp_le (tgt := 13) hx hb dX1_add_8 (by decide) (fun c8 => ?_) (fun c8 => ?_)
    · obtain ⟨x, hx1, hx2, rfl⟩ := cd_in31_E c2 c8
      refine lv_iconst (v := nI 0) hx hb dX1_add_13 (by decide) ?_
      refine lv_istore_n (lv' := [(2, .int (nI 0)), (0, .ref (a 0)), (1, .int (nI x))]) hx hb dX1_add_14 rfl hl (by decide) rfl (fun ls hl => ?_)
      refine lv_iconst (v := nI 1) hx hb dX1_add_15 (by decide) ?_
      refine lv_istore_n (lv' := [(3, .int (nI 1)), (2, .int (nI 0)), (0, .ref (a 0)), (1, .int (nI x))]) hx hb dX1_add_16 rfl hl (by decide) rfl (fun ls hl => ?_)
      have loop : ∀ (n i : Nat), 1 ≤ i → i ≤ 32 → 33 ≤ i + n → ∀ (H : Heap) (locs : List Loc), va_P D vwCl (cd_MW a z ((cd_ad x h i).1) M) H → va_D A (cd_MW a z ((cd_ad x h i).1) M) → va_S A s.heap H locs → ∀ ls : Array Slot, lv_has ls 4 [(0, .ref (a 0)), (1, .int (nI x)), (2, .int (nI ((cd_ad x h i).2))), (3, .int (nI i))] → W p l e (cd_rm 0 0) s m args below meth c H locs 0 0 Q (F0 m 17 ls []) := by
        intro n
        induction n with
        | zero => intro i h0 h1 h2; omega
        | succ n ih =>
          intro i h0 h1 h2 H locs hP hD hS ls hl
          refine lv_iload_n hx hb dX1_add_17 rfl (lv_at hl 3 rfl) ?_
          refine lv_bipush (v := nI 32) hx hb dX1_add_18 (by decide) ?_
          refine cn_ge (tgt := 55) hx hb dX1_add_20 (by decide) (by omega) (by omega) (fun c20 => ?_) (fun c20 => ?_)
          · have ei : i = 32 := by omega
            subst ei
            refine lv_iload_n hx hb dX1_add_55 rfl (lv_at hl 2 rfl) ?_
            exact cd_top (by rw [cd_adV_t hx1 hx2]) (hret (by rw [cd_adH_t hx1 hx2]; exact hP) hS dX1_add_56)
          · refine lv_iload_n hx hb dX1_add_23 rfl (lv_at hl 3 rfl) ?_
            refine lv_iload_n hx hb dX1_add_24 rfl (lv_at hl 1 rfl) ?_
            refine cn_and hx hb dX1_add_25 ?_
            refine lv_iload_n hx hb dX1_add_26 rfl (lv_at hl 3 rfl) ?_
            refine cn_ne (tgt := 49) hx hb dX1_add_27 (by decide) (by have := Nat.and_le_left (n := i) (m := x); omega) (by omega) (fun c27 => ?_) (fun c27 => ?_)
            · refine lv_iinc (v := (nI (i + 1))) (lv' := [(3, .int (nI (i + 1))), (0, .ref (a 0)), (1, .int (nI x)), (2, .int (nI ((cd_ad x h i).2)))]) hx hb dX1_add_49 hl (k := 3) rfl (cd_inc i) (by decide) rfl (fun ls hl => ?_)
              refine lv_goto (tgt := 17) hx hb dX1_add_52 (by decide) ?_
              have e1 : cd_ad x h (i + 1) = cd_ad x h i := by first | exact cd_adN2 c36 | exact cd_adN1 (c27)
              exact ih (i + 1) (by omega) (by omega) (by omega) _ _ (by rw [e1]; exact hP) (by rw [e1]; exact hD) hS _ (by rw [e1]; exact lv_sub hl [1, 2, 3, 0] rfl)
            · refine lv_aload_n hx hb dX1_add_30 rfl (lv_at hl 0 rfl) ?_
              refine gy_held hx hb hts hown hK hP dX1_add_31 ?_
              refine lv_iload_n hx hb dX1_add_34 rfl (lv_at hl 3 rfl) ?_
              refine ay_held hx hb hK hP (by omega) dX1_add_35 ?_
              refine cb_ifne (tgt := 49) hx hb dX1_add_36 (by decide) (fun c36 => ?_) (fun c36 => ?_)
              · refine lv_iinc (v := (nI (i + 1))) (lv' := [(3, .int (nI (i + 1))), (0, .ref (a 0)), (1, .int (nI x)), (2, .int (nI ((cd_ad x h i).2)))]) hx hb dX1_add_49 hl (k := 3) rfl (cd_inc i) (by decide) rfl (fun ls hl => ?_)
                refine lv_goto (tgt := 17) hx hb dX1_add_52 (by decide) ?_
                have e1 : cd_ad x h (i + 1) = cd_ad x h i := by first | exact cd_adN2 c36 | exact cd_adN1 (c27)
                exact ih (i + 1) (by omega) (by omega) (by omega) _ _ (by rw [e1]; exact hP) (by rw [e1]; exact hD) hS _ (by rw [e1]; exact lv_sub hl [1, 2, 3, 0] rfl)
              · refine lv_aload_n hx hb dX1_add_39 rfl (lv_at hl 0 rfl) ?_
                refine gy_held hx hb hts hown hK hP dX1_add_40 ?_
                refine lv_iload_n hx hb dX1_add_43 rfl (lv_at hl 3 rfl) ?_
                refine lv_iconst (v := nI 1) hx hb dX1_add_44 (by decide) ?_
                refine sy_held hx hb hK hP hD hS true (by decide) (by omega) dX1_add_45 (fun H locs hP hD hS => ?_)
                refine lv_iinc (v := (nI ((cd_ad x h i).2 + 1))) (lv' := [(2, .int (nI ((cd_ad x h i).2 + 1))), (0, .ref (a 0)), (1, .int (nI x)), (3, .int (nI i))]) hx hb dX1_add_46 hl (k := 2) rfl (cd_inc ((cd_ad x h i).2)) (by decide) rfl (fun ls hl => ?_)
                refine lv_iinc (v := (nI (i + 1))) (lv' := [(3, .int (nI (i + 1))), (2, .int (nI ((cd_ad x h i).2 + 1))), (0, .ref (a 0)), (1, .int (nI x))]) hx hb dX1_add_49 hl (k := 3) rfl (cd_inc i) (by decide) rfl (fun ls hl => ?_)
                refine lv_goto (tgt := 17) hx hb dX1_add_52 (by decide) ?_
                have hm : i &&& x = i := c27
                have e1 := cd_adS (h := h) h0 hm c36
                exact ih (i + 1) (by omega) (by omega) (by omega) _ _ (by rw [e1]; exact hP) (by rw [e1]; exact hD) hS _ (by rw [e1]; exact lv_sub hl [2, 3, 1, 0] rfl)
      exact loop 32 1 (by omega) (by omega) (by omega) _ _ hP hD hS _ (lv_sub hl [2, 3, 1, 0] rfl)
    · have hf := cd_in31_f2 c8
      refine lv_iconst (v := -1) hx hb dX1_add_11 (by decide) ?_
      exact cd_top (by rw [cd_adV_f hf]) (hret (by rw [cd_adH_f hf]; exact hP) hS dX1_add_12)

set_option maxHeartbeats 4000000 in
set_option maxRecDepth 100000 in
theorem mt1_remove (l : Launch) (D : va_G) (a : Nat → Nat) (z : Nat → ClassId) (h M : Nat → Bool) (p0 : Int32) : cd_I l yX1_remove (ws_ yX1_remove cX1_remove 4 (some .int)) (cd_rm 0 0) [.ref (a 0), .int p0] D (cd_MT z) (cd_MW a z h M) (cd_reV h p0) (cd_MW a z (cd_reH h p0) M) := by
  refine cd_I.mk cX1_remove 4 .int RX1 (by decide) rfl (cd_narI _) (Nat.le_of_ble_eq_true rfl) ?_
  intro p e s m args below meth c A Q hx hb hml hown hts hA hK hD hP hS hret ls hl
  have hl : lv_has ls 4 [(0, .ref (a 0)), (1, .int p0)] := hl
  refine lv_iload_n hx hb dX1_remove_0 rfl (lv_at hl 1 rfl) ?_
  refine lv_iconst (v := nI 1) hx hb dX1_remove_1 (by decide) ?_
  refine lv_icmp_lt (tgt := 11) hx hb dX1_remove_2 (by decide) (fun c2 => ?_) (fun c2 => ?_)
  · have hf := cd_in31_f1 c2
    refine lv_iconst (v := -1) hx hb dX1_remove_11 (by decide) ?_
    exact cd_top (by rw [cd_reV_f hf]) (hret (by rw [cd_reH_f hf]; exact hP) hS dX1_remove_12)
  · refine lv_iload_n hx hb dX1_remove_5 rfl (lv_at hl 1 rfl) ?_
    refine lv_bipush (v := nI 31) hx hb dX1_remove_6 (by decide) ?_
    refine lv_icmp_le (tgt := 13) hx hb dX1_remove_8 (by decide) (fun c8 => ?_) (fun c8 => ?_)
    · obtain ⟨x, hx1, hx2, rfl⟩ := cd_in31_E c2 c8
      refine lv_iconst (v := nI 0) hx hb dX1_remove_13 (by decide) ?_
      refine lv_istore_n (lv' := [(2, .int (nI 0)), (0, .ref (a 0)), (1, .int (nI x))]) hx hb dX1_remove_14 rfl hl (by decide) rfl (fun ls hl => ?_)
      refine lv_iconst (v := nI 1) hx hb dX1_remove_15 (by decide) ?_
      refine lv_istore_n (lv' := [(3, .int (nI 1)), (2, .int (nI 0)), (0, .ref (a 0)), (1, .int (nI x))]) hx hb dX1_remove_16 rfl hl (by decide) rfl (fun ls hl => ?_)
      have loop : ∀ (n i : Nat), 1 ≤ i → i ≤ 32 → 33 ≤ i + n → ∀ (H : Heap) (locs : List Loc), va_P D vwCl (cd_MW a z ((cd_rem x h i).1) M) H → va_D A (cd_MW a z ((cd_rem x h i).1) M) → va_S A s.heap H locs → ∀ ls : Array Slot, lv_has ls 4 [(0, .ref (a 0)), (1, .int (nI x)), (2, .int (nI ((cd_rem x h i).2))), (3, .int (nI i))] → W p l e (cd_rm 0 0) s m args below meth c H locs 0 0 Q (F0 m 17 ls []) := by
        intro n
        induction n with
        | zero => intro i h0 h1 h2; omega
        | succ n ih =>
          intro i h0 h1 h2 H locs hP hD hS ls hl
          refine lv_iload_n hx hb dX1_remove_17 rfl (lv_at hl 3 rfl) ?_
          refine lv_bipush (v := nI 32) hx hb dX1_remove_18 (by decide) ?_
          refine cn_ge (tgt := 55) hx hb dX1_remove_20 (by decide) (by omega) (by omega) (fun c20 => ?_) (fun c20 => ?_)
          · have ei : i = 32 := by omega
            subst ei
            refine lv_iload_n hx hb dX1_remove_55 rfl (lv_at hl 2 rfl) ?_
            exact cd_top (by rw [cd_reV_t hx1 hx2]) (hret (by rw [cd_reH_t hx1 hx2]; exact hP) hS dX1_remove_56)
          · refine lv_iload_n hx hb dX1_remove_23 rfl (lv_at hl 3 rfl) ?_
            refine lv_iload_n hx hb dX1_remove_24 rfl (lv_at hl 1 rfl) ?_
            refine cn_and hx hb dX1_remove_25 ?_
            refine lv_iload_n hx hb dX1_remove_26 rfl (lv_at hl 1 rfl) ?_
            refine cn_ne (tgt := 49) hx hb dX1_remove_27 (by decide) (by have := Nat.and_le_left (n := i) (m := x); omega) (by omega) (fun c27 => ?_) (fun c27 => ?_)
            · refine lv_iinc (v := (nI (i + 1))) (lv' := [(3, .int (nI (i + 1))), (0, .ref (a 0)), (1, .int (nI x)), (2, .int (nI ((cd_rem x h i).2)))]) hx hb dX1_remove_49 hl (k := 3) rfl (cd_inc i) (by decide) rfl (fun ls hl => ?_)
              refine lv_goto (tgt := 17) hx hb dX1_remove_52 (by decide) ?_
              have e1 : cd_rem x h (i + 1) = cd_rem x h i := by first | exact cd_reN2 c36 | exact cd_reN1 (c27)
              exact ih (i + 1) (by omega) (by omega) (by omega) _ _ (by rw [e1]; exact hP) (by rw [e1]; exact hD) hS _ (by rw [e1]; exact lv_sub hl [1, 2, 3, 0] rfl)
            · refine lv_aload_n hx hb dX1_remove_30 rfl (lv_at hl 0 rfl) ?_
              refine gy_held hx hb hts hown hK hP dX1_remove_31 ?_
              refine lv_iload_n hx hb dX1_remove_34 rfl (lv_at hl 3 rfl) ?_
              refine ay_held hx hb hK hP (by omega) dX1_remove_35 ?_
              refine cb_ifeq (tgt := 49) hx hb dX1_remove_36 (by decide) (fun c36 => ?_) (fun c36 => ?_)
              · refine lv_iinc (v := (nI (i + 1))) (lv' := [(3, .int (nI (i + 1))), (0, .ref (a 0)), (1, .int (nI x)), (2, .int (nI ((cd_rem x h i).2)))]) hx hb dX1_remove_49 hl (k := 3) rfl (cd_inc i) (by decide) rfl (fun ls hl => ?_)
                refine lv_goto (tgt := 17) hx hb dX1_remove_52 (by decide) ?_
                have e1 : cd_rem x h (i + 1) = cd_rem x h i := by first | exact cd_reN2 c36 | exact cd_reN1 (c27)
                exact ih (i + 1) (by omega) (by omega) (by omega) _ _ (by rw [e1]; exact hP) (by rw [e1]; exact hD) hS _ (by rw [e1]; exact lv_sub hl [1, 2, 3, 0] rfl)
              · refine lv_aload_n hx hb dX1_remove_39 rfl (lv_at hl 0 rfl) ?_
                refine gy_held hx hb hts hown hK hP dX1_remove_40 ?_
                refine lv_iload_n hx hb dX1_remove_43 rfl (lv_at hl 3 rfl) ?_
                refine lv_iconst (v := nI 0) hx hb dX1_remove_44 (by decide) ?_
                refine sy_held hx hb hK hP hD hS false (by decide) (by omega) dX1_remove_45 (fun H locs hP hD hS => ?_)
                refine lv_iinc (v := (nI ((cd_rem x h i).2 + 1))) (lv' := [(2, .int (nI ((cd_rem x h i).2 + 1))), (0, .ref (a 0)), (1, .int (nI x)), (3, .int (nI i))]) hx hb dX1_remove_46 hl (k := 2) rfl (cd_inc ((cd_rem x h i).2)) (by decide) rfl (fun ls hl => ?_)
                refine lv_iinc (v := (nI (i + 1))) (lv' := [(3, .int (nI (i + 1))), (2, .int (nI ((cd_rem x h i).2 + 1))), (0, .ref (a 0)), (1, .int (nI x))]) hx hb dX1_remove_49 hl (k := 3) rfl (cd_inc i) (by decide) rfl (fun ls hl => ?_)
                refine lv_goto (tgt := 17) hx hb dX1_remove_52 (by decide) ?_
                have hm : i &&& x = x := c27
                have e1 := cd_reS (h := h) h0 hm c36
                exact ih (i + 1) (by omega) (by omega) (by omega) _ _ (by rw [e1]; exact hP) (by rw [e1]; exact hD) hS _ (by rw [e1]; exact lv_sub hl [2, 3, 1, 0] rfl)
      exact loop 32 1 (by omega) (by omega) (by omega) _ _ hP hD hS _ (lv_sub hl [2, 3, 1, 0] rfl)
    · have hf := cd_in31_f2 c8
      refine lv_iconst (v := -1) hx hb dX1_remove_11 (by decide) ?_
      exact cd_top (by rw [cd_reV_f hf]) (hret (by rw [cd_reH_f hf]; exact hP) hS dX1_remove_12)

set_option maxHeartbeats 4000000 in
set_option maxRecDepth 100000 in
theorem mt1_count (l : Launch) (D : va_G) (a : Nat → Nat) (z : Nat → ClassId) (h M : Nat → Bool) (k0 : Int32) : cd_I l yX1_count (ws_ yX1_count cX1_count 4 (some .int)) (cd_rm 1 22) [.ref (a 0), .int k0] D (cd_MT z) (cd_MW a z h M) (cd_dv (fun k => nI (cd_cnt h k)) k0) (cd_MW a z h M) := by
  refine cd_I.mk cX1_count 4 .int RX1 (by decide) rfl (cd_narI _) (Nat.le_of_ble_eq_true rfl) ?_
  intro p e s m args below meth c A Q hx hb hml hown hts hA hK hD hP hS hret ls hl
  have hl : lv_has ls 4 [(0, .ref (a 0)), (1, .int k0)] := hl
  refine lv_iload_n hx hb dX1_count_0 rfl (lv_at hl 1 rfl) ?_
  refine cd_callS [] hx hb hml hown hts hA (mt1_bad l D _ _ k0) (va_cwS 1 hts (lw_S q159 q160 q16 q161) rfl rfl rfl (by decide +kernel) ⟨Nat.le_of_ble_eq_true rfl, Nat.le_of_ble_eq_true rfl⟩) hK hD hP hS rfl hl.1 rfl rfl (Nat.le_of_ble_eq_true rfl) dX1_count_1 ⟨Nat.zero_le _, Nat.zero_le _⟩ (fun H locs hP hD hS => ?_)
  refine cb_ifeq (tgt := 9) hx hb dX1_count_4 (by decide) (fun c4 => ?_) (fun c4 => ?_)
  · obtain ⟨k, hk, rfl⟩ := cd_dimE (k0 := k0) (by simpa using c4)
    have hi10 := cd_cnt_le (h := h) hk
    refine lv_iconst (v := nI 0) hx hb dX1_count_9 (by decide) ?_
    refine lv_istore_n (lv' := [(2, .int (nI 0)), (0, .ref (a 0)), (1, .int (nI k))]) hx hb dX1_count_10 rfl hl (by decide) rfl (fun ls hl => ?_)
    refine lv_iconst (v := nI 1) hx hb dX1_count_11 (by decide) ?_
    refine lv_istore_n (lv' := [(3, .int (nI 1)), (2, .int (nI 0)), (0, .ref (a 0)), (1, .int (nI k))]) hx hb dX1_count_12 rfl hl (by decide) rfl (fun ls hl => ?_)
    have loop : ∀ (n i : Nat), i ≤ 32 → 33 ≤ i + n → ∀ (H : Heap) (locs : List Loc), va_P D vwCl (cd_MW a z h M) H → va_D A (cd_MW a z h M) → va_S A s.heap H locs → ∀ ls : Array Slot, lv_has ls 4 [(0, .ref (a 0)), (1, .int (nI k)), (2, .int (nI (cd_rk h (k + 1) i))), (3, .int (nI i))] → W p l e (cd_rm 1 22) s m args below meth c H locs 0 0 Q (F0 m 13 ls []) := by
      intro n
      induction n with
      | zero => intro i h1 h2; omega
      | succ n ih =>
        intro i h1 h2 H locs hP hD hS ls hl
        refine lv_iload_n hx hb dX1_count_13 rfl (lv_at hl 3 rfl) ?_
        refine lv_bipush (v := nI 32) hx hb dX1_count_14 (by decide) ?_
        refine cn_ge (tgt := 47) hx hb dX1_count_16 (by decide) (by omega) (by omega) (fun c16 => ?_) (fun c16 => ?_)
        · refine lv_iload_n hx hb dX1_count_47 rfl (lv_at hl 2 rfl) ?_
          exact cd_top (by rw [cd_dv_t hk, show i = 32 by omega] <;> rfl) (hret hP hS dX1_count_48)
        · refine lv_aload_n hx hb dX1_count_19 rfl (lv_at hl 0 rfl) ?_
          refine gy_held hx hb hts hown hK hP dX1_count_20 ?_
          refine lv_iload_n hx hb dX1_count_23 rfl (lv_at hl 3 rfl) ?_
          refine ay_held hx hb hK hP (by omega) dX1_count_24 ?_
          refine cb_ifeq (tgt := 41) hx hb dX1_count_25 (by decide) (fun c25 => ?_) (fun c25 => ?_)
          · refine lv_iinc (v := (nI (i + 1))) (lv' := [(3, .int (nI (i + 1))), (0, .ref (a 0)), (1, .int (nI k)), (2, .int (nI (cd_rk h (k + 1) i)))]) hx hb dX1_count_41 hl (k := 3) rfl (cd_inc i) (by decide) rfl (fun ls hl => ?_)
            refine lv_goto (tgt := 13) hx hb dX1_count_44 (by decide) ?_
            have e1 : cd_rk h (k + 1) (i + 1) = cd_rk h (k + 1) i := cd_rkN (by simp [cd_sel, c25])
            exact ih (i + 1) (by omega) (by omega) _ _ hP hD hS _ (by rw [e1]; exact lv_sub hl [1, 2, 3, 0] rfl)
          · refine lv_iload_n hx hb dX1_count_28 rfl (lv_at hl 3 rfl) ?_
            refine cd_callS [] hx hb hml hown hts hA (mt1_points l D _ _ i (by omega)) (va_cwS 1 hts (lw_S q162 q163 q16 q164) rfl rfl rfl (by decide +kernel) ⟨Nat.le_of_ble_eq_true rfl, Nat.le_of_ble_eq_true rfl⟩) hK hD hP hS rfl hl.1 rfl rfl (Nat.le_of_ble_eq_true rfl) dX1_count_29 ⟨Nat.zero_le _, Nat.zero_le _⟩ (fun H locs hP hD hS => ?_)
            refine lv_iload_n hx hb dX1_count_32 rfl (lv_at hl 1 rfl) ?_
            refine lv_iconst (v := nI 1) hx hb dX1_count_33 (by decide) ?_
            refine cn_add hx hb dX1_count_34 ?_
            refine cn_ne (tgt := 41) hx hb dX1_count_35 (by decide) (by have := cd_pts_le i; omega) (by omega) (fun c35 => ?_) (fun c35 => ?_)
            · refine lv_iinc (v := (nI (i + 1))) (lv' := [(3, .int (nI (i + 1))), (0, .ref (a 0)), (1, .int (nI k)), (2, .int (nI (cd_rk h (k + 1) i)))]) hx hb dX1_count_41 hl (k := 3) rfl (cd_inc i) (by decide) rfl (fun ls hl => ?_)
              refine lv_goto (tgt := 13) hx hb dX1_count_44 (by decide) ?_
              have e1 : cd_rk h (k + 1) (i + 1) = cd_rk h (k + 1) i := cd_rkN (by simp [cd_sel, c25, c35])
              exact ih (i + 1) (by omega) (by omega) _ _ hP hD hS _ (by rw [e1]; exact lv_sub hl [1, 2, 3, 0] rfl)
            · refine lv_iinc (v := (nI (cd_rk h (k + 1) i + 1))) (lv' := [(2, .int (nI (cd_rk h (k + 1) i + 1))), (0, .ref (a 0)), (1, .int (nI k)), (3, .int (nI i))]) hx hb dX1_count_38 hl (k := 2) rfl (cd_inc (cd_rk h (k + 1) i)) (by decide) rfl (fun ls hl => ?_)
              refine lv_iinc (v := (nI (i + 1))) (lv' := [(3, .int (nI (i + 1))), (2, .int (nI (cd_rk h (k + 1) i + 1))), (0, .ref (a 0)), (1, .int (nI k))]) hx hb dX1_count_41 hl (k := 3) rfl (cd_inc i) (by decide) rfl (fun ls hl => ?_)
              refine lv_goto (tgt := 13) hx hb dX1_count_44 (by decide) ?_
              have e1 : cd_rk h (k + 1) (i + 1) = cd_rk h (k + 1) i + 1 := cd_rkS (by simp [cd_sel, c25, c35])
              exact ih (i + 1) (by omega) (by omega) _ _ hP hD hS _ (by rw [e1]; exact lv_sub hl [2, 3, 1, 0] rfl)
    exact loop 33 1 (by omega) (by omega) _ _ hP hD hS _ (by rw [cd_rk1 (by omega)]; exact lv_sub hl [2, 3, 1, 0] rfl)
  · refine lv_iconst (v := -1) hx hb dX1_count_7 (by decide) ?_
    exact cd_top (cd_dv_f (by simpa using c4)).symm (hret hP hS dX1_count_8)
theorem mt1_countN (l : Launch) (D : va_G) (a : Nat → Nat) (z : Nat → ClassId) (h M : Nat → Bool) (k : Nat) (hk : k ≤ 4) : cd_I l yX1_count (ws_ yX1_count cX1_count 4 (some .int)) (cd_rm 1 22) [.ref (a 0), .int (nI k)] D (cd_MT z) (cd_MW a z h M) (nI (cd_cnt h k)) (cd_MW a z h M) := by
  have q := mt1_count l D a z h M (nI k)
  rw [cd_dv_t hk] at q
  exact q

set_option maxHeartbeats 4000000 in
set_option maxRecDepth 100000 in
theorem mt1_simplex (l : Launch) (D : va_G) (a : Nat → Nat) (z : Nat → ClassId) (h M : Nat → Bool) (k0 i0 : Int32) : cd_I l yX1_simplex (ws_ yX1_simplex cX1_simplex 5 (some .int)) (cd_rm 1 22) [.ref (a 0), .int k0, .int i0] D (cd_MT z) (cd_MW a z h M) (cd_smpV h k0 i0) (cd_MW a z h M) := by
  refine cd_I.mk cX1_simplex 5 .int RX1 (by decide) rfl (cd_narI _) (Nat.le_of_ble_eq_true rfl) ?_
  intro p e s m args below meth c A Q hx hb hml hown hts hA hK hD hP hS hret ls hl
  have hl : lv_has ls 5 [(0, .ref (a 0)), (1, .int k0), (2, .int i0)] := hl
  refine lv_iload_n hx hb dX1_simplex_0 rfl (lv_at hl 1 rfl) ?_
  refine cd_callS [] hx hb hml hown hts hA (mt1_bad l D _ _ k0) (va_cwS 1 hts (lw_S q159 q160 q16 q161) rfl rfl rfl (by decide +kernel) ⟨Nat.le_of_ble_eq_true rfl, Nat.le_of_ble_eq_true rfl⟩) hK hD hP hS rfl hl.1 rfl rfl (Nat.le_of_ble_eq_true rfl) dX1_simplex_1 ⟨Nat.zero_le _, Nat.zero_le _⟩ (fun H locs hP hD hS => ?_)
  refine cb_ifne (tgt := 11) hx hb dX1_simplex_4 (by decide) (fun c4 => ?_) (fun c4 => ?_)
  · refine lv_iconst (v := -1) hx hb dX1_simplex_11 (by decide) ?_
    exact cd_top (cd_smpV_f1 (by simpa using c4)).symm (hret hP hS dX1_simplex_12)
  · obtain ⟨k, hk, rfl⟩ := cd_dimE (k0 := k0) (by simpa using c4)
    have hi10 := cd_cnt_le (h := h) hk
    refine lv_iload_n hx hb dX1_simplex_7 rfl (lv_at hl 2 rfl) ?_
    refine lv_if_ge (tgt := 13) hx hb dX1_simplex_8 (by decide) (fun c8 => ?_) (fun c8 => ?_)
    · obtain ⟨j, hj2, rfl⟩ := nI_of (Int32.not_lt.mpr c8)
      refine lv_iconst (v := nI 0) hx hb dX1_simplex_13 (by decide) ?_
      refine lv_istore_n (lv' := [(3, .int (nI 0)), (0, .ref (a 0)), (1, .int (nI k)), (2, .int (nI j))]) hx hb dX1_simplex_14 rfl hl (by decide) rfl (fun ls hl => ?_)
      refine lv_iconst (v := nI 1) hx hb dX1_simplex_15 (by decide) ?_
      refine lv_istore (lv' := [(4, .int (nI 1)), (3, .int (nI 0)), (0, .ref (a 0)), (1, .int (nI k)), (2, .int (nI j))]) hx hb dX1_simplex_16 hl (by decide) rfl (fun ls hl => ?_)
      have loop : ∀ (n i : Nat), i ≤ 32 → 33 ≤ i + n → cd_rk h (k + 1) i ≤ j → ∀ (H : Heap) (locs : List Loc), va_P D vwCl (cd_MW a z h M) H → va_D A (cd_MW a z h M) → va_S A s.heap H locs → ∀ ls : Array Slot, lv_has ls 5 [(0, .ref (a 0)), (1, .int (nI k)), (2, .int (nI j)), (3, .int (nI (cd_rk h (k + 1) i))), (4, .int (nI i))] → W p l e (cd_rm 1 22) s m args below meth c H locs 0 0 Q (F0 m 18 ls []) := by
        intro n
        induction n with
        | zero => intro i h1 h2; omega
        | succ n ih =>
          intro i h1 h2 hr H locs hP hD hS ls hl
          refine lv_iload hx hb dX1_simplex_18 (lv_at hl 4 rfl) ?_
          refine lv_bipush (v := nI 32) hx hb dX1_simplex_20 (by decide) ?_
          refine cn_ge (tgt := 63) hx hb dX1_simplex_22 (by decide) (by omega) (by omega) (fun c22 => ?_) (fun c22 => ?_)
          · have ei : i = 32 := by omega
            subst ei
            refine lv_iconst (v := -1) hx hb dX1_simplex_63 (by decide) ?_
            exact cd_top (cd_smpV_f3 hk hj2 hr).symm (hret hP hS dX1_simplex_64)
          · refine lv_aload_n hx hb dX1_simplex_25 rfl (lv_at hl 0 rfl) ?_
            refine gy_held hx hb hts hown hK hP dX1_simplex_26 ?_
            refine lv_iload hx hb dX1_simplex_29 (lv_at hl 4 rfl) ?_
            refine ay_held hx hb hK hP (by omega) dX1_simplex_31 ?_
            refine cb_ifeq (tgt := 57) hx hb dX1_simplex_32 (by decide) (fun c32 => ?_) (fun c32 => ?_)
            · refine lv_iinc (v := (nI (i + 1))) (lv' := [(4, .int (nI (i + 1))), (0, .ref (a 0)), (1, .int (nI k)), (2, .int (nI j)), (3, .int (nI (cd_rk h (k + 1) i)))]) hx hb dX1_simplex_57 hl (k := 4) rfl (cd_inc i) (by decide) rfl (fun ls hl => ?_)
              refine lv_goto (tgt := 18) hx hb dX1_simplex_60 (by decide) ?_
              have e1 := cd_rkN (h := h) (d := k + 1) (i := i) (by simp [cd_sel, c32])
              exact ih (i + 1) (by omega) (by omega) (by omega) _ _ hP hD hS _ (by rw [e1]; exact lv_sub hl [1, 2, 3, 4, 0] rfl)
            · refine lv_iload hx hb dX1_simplex_35 (lv_at hl 4 rfl) ?_
              refine cd_callS [] hx hb hml hown hts hA (mt1_points l D _ _ i (by omega)) (va_cwS 1 hts (lw_S q162 q163 q16 q164) rfl rfl rfl (by decide +kernel) ⟨Nat.le_of_ble_eq_true rfl, Nat.le_of_ble_eq_true rfl⟩) hK hD hP hS rfl hl.1 rfl rfl (Nat.le_of_ble_eq_true rfl) dX1_simplex_37 ⟨Nat.zero_le _, Nat.zero_le _⟩ (fun H locs hP hD hS => ?_)
              refine lv_iload_n hx hb dX1_simplex_40 rfl (lv_at hl 1 rfl) ?_
              refine lv_iconst (v := nI 1) hx hb dX1_simplex_41 (by decide) ?_
              refine cn_add hx hb dX1_simplex_42 ?_
              refine cn_ne (tgt := 57) hx hb dX1_simplex_43 (by decide) (by have := cd_pts_le i; omega) (by omega) (fun c43 => ?_) (fun c43 => ?_)
              · refine lv_iinc (v := (nI (i + 1))) (lv' := [(4, .int (nI (i + 1))), (0, .ref (a 0)), (1, .int (nI k)), (2, .int (nI j)), (3, .int (nI (cd_rk h (k + 1) i)))]) hx hb dX1_simplex_57 hl (k := 4) rfl (cd_inc i) (by decide) rfl (fun ls hl => ?_)
                refine lv_goto (tgt := 18) hx hb dX1_simplex_60 (by decide) ?_
                have e1 := cd_rkN (h := h) (d := k + 1) (i := i) (by simp [cd_sel, c32, c43])
                exact ih (i + 1) (by omega) (by omega) (by omega) _ _ hP hD hS _ (by rw [e1]; exact lv_sub hl [1, 2, 3, 4, 0] rfl)
              · refine lv_iload_n hx hb dX1_simplex_46 rfl (lv_at hl 3 rfl) ?_
                refine lv_iload_n hx hb dX1_simplex_47 rfl (lv_at hl 2 rfl) ?_
                refine cn_ne (tgt := 54) hx hb dX1_simplex_48 (by decide) (by have := cd_rk_le h (k + 1) i; omega) hj2 (fun c48 => ?_) (fun c48 => ?_)
                · refine lv_iinc (v := (nI (cd_rk h (k + 1) i + 1))) (lv' := [(3, .int (nI (cd_rk h (k + 1) i + 1))), (0, .ref (a 0)), (1, .int (nI k)), (2, .int (nI j)), (4, .int (nI i))]) hx hb dX1_simplex_54 hl (k := 3) rfl (cd_inc (cd_rk h (k + 1) i)) (by decide) rfl (fun ls hl => ?_)
                  refine lv_iinc (v := (nI (i + 1))) (lv' := [(4, .int (nI (i + 1))), (3, .int (nI (cd_rk h (k + 1) i + 1))), (0, .ref (a 0)), (1, .int (nI k)), (2, .int (nI j))]) hx hb dX1_simplex_57 hl (k := 4) rfl (cd_inc i) (by decide) rfl (fun ls hl => ?_)
                  refine lv_goto (tgt := 18) hx hb dX1_simplex_60 (by decide) ?_
                  have e1 := cd_rkS (h := h) (d := k + 1) (i := i) (by simp [cd_sel, c32, c43])
                  exact ih (i + 1) (by omega) (by omega) (by omega) _ _ hP hD hS _ (by rw [e1]; exact lv_sub hl [2, 3, 4, 1, 0] rfl)
                · have hs : cd_sel h (k + 1) i = true := by simp [cd_sel, c32, c43]
                  have hic : j < cd_cnt h k := by rw [← c48]; exact cd_rk_lt hs (by omega)
                  refine lv_iload hx hb dX1_simplex_51 (lv_at hl 4 rfl) ?_
                  exact cd_top (by rw [cd_smpV_t hk hj2 hic, cd_nth_eq (j := i) (by omega) hs c48]) (hret hP hS dX1_simplex_53)
      have e1 : cd_rk h (k + 1) 1 = 0 := cd_rk1 (by omega)
      exact loop 33 1 (by omega) (by omega) (by omega) _ _ hP hD hS _ (by rw [e1]; exact lv_sub hl [2, 3, 4, 1, 0] rfl)
    · refine lv_iconst (v := -1) hx hb dX1_simplex_11 (by decide) ?_
      exact cd_top (cd_smpV_f2 (Int32.not_le.mp c8)).symm (hret hP hS dX1_simplex_12)
theorem mt1_simplexN (l : Launch) (D : va_G) (a : Nat → Nat) (z : Nat → ClassId) (h M : Nat → Bool) (k i : Nat) (hk : k ≤ 4) (hi : i < cd_cnt h k) : cd_I l yX1_simplex (ws_ yX1_simplex cX1_simplex 5 (some .int)) (cd_rm 1 22) [.ref (a 0), .int (nI k), .int (nI i)] D (cd_MT z) (cd_MW a z h M) (nI (cd_nth h (k + 1) i)) (cd_MW a z h M) := by
  have q := mt1_simplex l D a z h M (nI k) (nI i)
  have h10 := cd_cnt_le (h := h) hk
  rw [cd_smpV_t hk (by omega) hi] at q
  exact q

set_option maxHeartbeats 4000000 in
set_option maxRecDepth 100000 in
theorem mt1_chains (l : Launch) (D : va_G) (a : Nat → Nat) (z : Nat → ClassId) (h M : Nat → Bool) (k : Nat) (hk : k ≤ 5) : cd_I l yX1_chains (ws_ yX1_chains cX1_chains 3 (some .int)) (cd_rm 2 45) [.ref (a 0), .int (nI k)] D (cd_MT z) (cd_MW a z h M) (nI (2 ^ cd_n h k)) (cd_MW a z h M) := by
  refine cd_I.mk cX1_chains 3 .int RX1 (by decide) rfl (cd_narI _) (Nat.le_of_ble_eq_true rfl) ?_
  intro p e s m args below meth c A Q hx hb hml hown hts hA hK hD hP hS hret ls hl
  have hl : lv_has ls 3 [(0, .ref (a 0)), (1, .int (nI k))] := hl
  refine lv_iload_n hx hb dX1_chains_0 rfl (lv_at hl 1 rfl) ?_
  refine cd_callS [] hx hb hml hown hts hA (mt1_bad l D _ _ (nI k)) (va_cwS 1 hts (lw_S q159 q160 q16 q161) rfl rfl rfl (by decide +kernel) ⟨Nat.le_of_ble_eq_true rfl, Nat.le_of_ble_eq_true rfl⟩) hK hD hP hS rfl hl.1 rfl rfl (Nat.le_of_ble_eq_true rfl) dX1_chains_1 ⟨Nat.zero_le _, Nat.zero_le _⟩ (fun H locs hP hD hS => ?_)
  refine cb_ifeq (tgt := 11) hx hb dX1_chains_4 (by decide) (fun c4 => ?_) (fun c4 => ?_)
  · have hk4 : k ≤ 4 := cd_dim_le (by simpa using c4) (by omega)
    have hi10 := cd_cnt_le (h := h) hk4
    refine lv_aload_n hx hb dX1_chains_11 rfl (lv_at hl 0 rfl) ?_
    refine lv_iload_n hx hb dX1_chains_12 rfl (lv_at hl 1 rfl) ?_
    refine cd_callV [] hx hb hml hown hts hA (mt1_countN l D a z h M k hk4) (cwV 1 hts (lw_V q181 q156 q157 q16 q158) rfl rfl rfl (by decide +kernel) ⟨Nat.le_of_ble_eq_true rfl, Nat.le_of_ble_eq_true rfl⟩) hK hD hP hS rfl (va_recv hK hP (ci := 1) (q0 := 0) rfl rfl) hl.1 rfl rfl (Nat.le_of_ble_eq_true rfl) dX1_chains_13 ⟨Nat.zero_le _, Nat.zero_le _⟩ (fun H locs hP hD hS => ?_)
    refine lv_istore_n (lv' := [(2, .int (nI (cd_cnt h k))), (0, .ref (a 0)), (1, .int (nI k))]) hx hb dX1_chains_16 rfl hl (by decide) rfl (fun ls hl => ?_)
    refine lv_iconst (v := nI 1) hx hb dX1_chains_17 (by decide) ?_
    refine lv_iload_n hx hb dX1_chains_18 rfl (lv_at hl 0 rfl) ?_
    refine cn_shl1 hx hb (by omega) dX1_chains_19 ?_
    exact cd_top (by rw [cd_n_of hk4]) (hret hP hS dX1_chains_20)
  · have hk4 : ¬ k ≤ 4 := fun q => by simp [cd_dim_nI q] at c4
    refine lv_iconst (v := nI 0) hx hb dX1_chains_7 (by decide) ?_
    refine lv_goto (tgt := 16) hx hb dX1_chains_8 (by decide) ?_
    refine lv_istore_n (lv' := [(2, .int (nI 0)), (0, .ref (a 0)), (1, .int (nI k))]) hx hb dX1_chains_16 rfl hl (by decide) rfl (fun ls hl => ?_)
    refine lv_iconst (v := nI 1) hx hb dX1_chains_17 (by decide) ?_
    refine lv_iload_n hx hb dX1_chains_18 rfl (lv_at hl 0 rfl) ?_
    refine cn_shl1 hx hb (by omega) dX1_chains_19 ?_
    exact cd_top (by rw [cd_n_5 hk4]) (hret hP hS dX1_chains_20)

set_option maxHeartbeats 4000000 in
set_option maxRecDepth 100000 in
theorem mt1_noChain (l : Launch) (D : va_G) (a : Nat → Nat) (z : Nat → ClassId) (h M : Nat → Bool) (k0 x0 : Int32) : cd_I l yX1_noChain (ws_ yX1_noChain cX1_noChain 3 (some .boolean)) (cd_rm 3 67) [.ref (a 0), .int k0, .int x0] D (cd_MT z) (cd_MW a z h M) (cd_b (!cd_chn h k0 x0)) (cd_MW a z h M) := by
  refine cd_I.mk cX1_noChain 3 .boolean RX1 (by decide) rfl (cd_narB _) (Nat.le_of_ble_eq_true rfl) ?_
  intro p e s m args below meth c A Q hx hb hml hown hts hA hK hD hP hS hret ls hl
  have hl : lv_has ls 3 [(0, .ref (a 0)), (1, .int k0), (2, .int x0)] := hl
  refine lv_iload_n hx hb dX1_noChain_0 rfl (lv_at hl 1 rfl) ?_
  refine cd_callS [] hx hb hml hown hts hA (mt1_bad l D _ _ k0) (va_cwS 1 hts (lw_S q159 q160 q16 q161) rfl rfl rfl (by decide +kernel) ⟨Nat.le_of_ble_eq_true rfl, Nat.le_of_ble_eq_true rfl⟩) hK hD hP hS rfl hl.1 rfl rfl (Nat.le_of_ble_eq_true rfl) dX1_noChain_1 ⟨Nat.zero_le _, Nat.zero_le _⟩ (fun H locs hP hD hS => ?_)
  refine cb_ifne (tgt := 20) hx hb dX1_noChain_4 (by decide) (fun c4 => ?_) (fun c4 => ?_)
  · refine lv_iconst (v := nI 1) hx hb dX1_noChain_20 (by decide) ?_
    refine lv_goto (tgt := 25) hx hb dX1_noChain_21 (by decide) ?_
    exact cd_top (by rw [cd_chn_f1 (k := k0) (by simpa using c4)]; rfl) (hret hP hS dX1_noChain_25)
  · obtain ⟨k, hk, rfl⟩ := cd_dimE (k0 := k0) (by simpa using c4)
    have hi10 := cd_cnt_le (h := h) hk
    refine lv_iload_n hx hb dX1_noChain_7 rfl (lv_at hl 2 rfl) ?_
    refine lv_if_lt (tgt := 20) hx hb dX1_noChain_8 (by decide) (fun c8 => ?_) (fun c8 => ?_)
    · refine lv_iconst (v := nI 1) hx hb dX1_noChain_20 (by decide) ?_
      refine lv_goto (tgt := 25) hx hb dX1_noChain_21 (by decide) ?_
      exact cd_top (by rw [cd_chn_f2 c8]; rfl) (hret hP hS dX1_noChain_25)
    · obtain ⟨x, hx2, rfl⟩ := nI_of c8
      have hp10 := cd_pow_le (cd_n_le h k)
      refine lv_iload_n hx hb dX1_noChain_11 rfl (lv_at hl 2 rfl) ?_
      refine lv_aload_n hx hb dX1_noChain_12 rfl (lv_at hl 0 rfl) ?_
      refine lv_iload_n hx hb dX1_noChain_13 rfl (lv_at hl 1 rfl) ?_
      refine cd_callV [.int (nI x)] hx hb hml hown hts hA (mt1_chains l D a z h M k (by omega)) (cwV 1 hts (lw_V q177 q179 qs10 q16 q180) rfl rfl rfl (by decide +kernel) ⟨Nat.le_of_ble_eq_true rfl, Nat.le_of_ble_eq_true rfl⟩) hK hD hP hS rfl (va_recv hK hP (ci := 1) (q0 := 0) rfl rfl) hl.1 rfl rfl (Nat.le_of_ble_eq_true rfl) dX1_noChain_14 ⟨Nat.zero_le _, Nat.zero_le _⟩ (fun H locs hP hD hS => ?_)
      refine cn_lt (tgt := 24) hx hb dX1_noChain_17 (by decide) (by omega) (by omega) (fun c17 => ?_) (fun c17 => ?_)
      · refine lv_iconst (v := nI 0) hx hb dX1_noChain_24 (by decide) ?_
        exact cd_top (by rw [cd_chn_nI hk hx2, decide_eq_true (by rw [← cd_n_of hk]; exact c17)]; rfl) (hret hP hS dX1_noChain_25)
      · refine lv_iconst (v := nI 1) hx hb dX1_noChain_20 (by decide) ?_
        refine lv_goto (tgt := 25) hx hb dX1_noChain_21 (by decide) ?_
        exact cd_top (by rw [cd_chn_nI hk hx2, decide_eq_false (by rw [← cd_n_of hk]; exact Nat.not_lt.mpr c17)]; rfl) (hret hP hS dX1_noChain_25)

set_option maxHeartbeats 4000000 in
set_option maxRecDepth 100000 in
theorem mt1_odd (l : Launch) (D : va_G) (a : Nat → Nat) (z : Nat → ClassId) (h M : Nat → Bool) (k ch f : Nat) (hk : k ≤ 4) (hch : ch < 1024) (hf : f < 32) : cd_I l yX1_odd (ws_ yX1_odd cX1_odd 8 (some .boolean)) (cd_rm 2 46) [.ref (a 0), .int (nI k), .int (nI ch), .int (nI f)] D (cd_MT z) (cd_MW a z h M) (cd_b (decide (cd_od h k ch f (cd_cnt h k) % 2 = 1))) (cd_MW a z h M) := by
  refine cd_I.mk cX1_odd 8 .boolean RX1 (by decide) rfl (cd_narB _) (Nat.le_of_ble_eq_true rfl) ?_
  intro p e s m args below meth c A Q hx hb hml hown hts hA hK hD hP hS hret ls hl
  have hl : lv_has ls 8 [(0, .ref (a 0)), (1, .int (nI k)), (2, .int (nI ch)), (3, .int (nI f))] := hl
  have hi10 := cd_cnt_le (h := h) hk
  have loop : ∀ (n i : Nat), i ≤ cd_cnt h k → cd_cnt h k + 1 ≤ i + n → ∀ (H : Heap) (locs : List Loc), va_P D vwCl (cd_MW a z h M) H → va_D A (cd_MW a z h M) → va_S A s.heap H locs → ∀ ls : Array Slot, lv_has ls 8 [(0, .ref (a 0)), (1, .int (nI k)), (2, .int (nI ch)), (3, .int (nI f)), (4, .int (nI (cd_od h k ch f i))), (5, .int (nI (cd_cnt h k))), (6, .int (nI i))] → W p l e (cd_rm 2 46) s m args below meth c H locs 0 0 Q (F0 m 13 ls []) := by
    intro n
    induction n with
    | zero => intro i h1 h2; omega
    | succ n ih =>
      intro i h1 h2 H locs hP hD hS ls hl
      refine lv_iload hx hb dX1_odd_13 (lv_at hl 6 rfl) ?_
      refine lv_iload hx hb dX1_odd_15 (lv_at hl 5 rfl) ?_
      refine cn_ge (tgt := 56) hx hb dX1_odd_17 (by decide) (by omega) (by omega) (fun c17 => ?_) (fun c17 => ?_)
      · have ei : i = cd_cnt h k := by omega
        have ho := cd_od_le h k ch f i
        refine lv_iload hx hb dX1_odd_56 (lv_at hl 4 rfl) ?_
        refine lv_iconst (v := nI 2) hx hb dX1_odd_58 (by decide) ?_
        refine cn_rem hx hb (by omega) (by omega) (by omega) dX1_odd_59 ?_
        refine lv_iconst (v := nI 1) hx hb dX1_odd_60 (by decide) ?_
        refine cn_ne (tgt := 68) hx hb dX1_odd_61 (by decide) (by omega) (by omega) (fun c61 => ?_) (fun c61 => ?_)
        · refine lv_iconst (v := nI 0) hx hb dX1_odd_68 (by decide) ?_
          exact cd_top (by rw [← ei, decide_eq_false c61]; rfl) (hret hP hS dX1_odd_69)
        · refine lv_iconst (v := nI 1) hx hb dX1_odd_64 (by decide) ?_
          refine lv_goto (tgt := 69) hx hb dX1_odd_65 (by decide) ?_
          exact cd_top (by rw [← ei, decide_eq_true c61]; rfl) (hret hP hS dX1_odd_69)
      · refine lv_aload_n hx hb dX1_odd_20 rfl (lv_at hl 0 rfl) ?_
        refine lv_iload_n hx hb dX1_odd_21 rfl (lv_at hl 1 rfl) ?_
        refine lv_iload hx hb dX1_odd_22 (lv_at hl 6 rfl) ?_
        refine cd_callV [] hx hb hml hown hts hA (mt1_simplexN l D a z h M k i hk c17) (cwV 2 hts (lw_V q186 q166 q167 q16 q168) rfl rfl rfl (by decide +kernel) ⟨Nat.le_of_ble_eq_true rfl, Nat.le_of_ble_eq_true rfl⟩) hK hD hP hS rfl (va_recv hK hP (ci := 1) (q0 := 0) rfl rfl) hl.1 rfl rfl (Nat.le_of_ble_eq_true rfl) dX1_odd_24 ⟨Nat.zero_le _, Nat.zero_le _⟩ (fun H locs hP hD hS => ?_)
        refine lv_istore (lv' := [(7, .int (nI (cd_nth h (k + 1) i))), (0, .ref (a 0)), (1, .int (nI k)), (2, .int (nI ch)), (3, .int (nI f)), (4, .int (nI (cd_od h k ch f i))), (5, .int (nI (cd_cnt h k))), (6, .int (nI i))]) hx hb dX1_odd_27 hl (by decide) rfl (fun ls hl => ?_)
        refine lv_iload_n hx hb dX1_odd_29 rfl (lv_at hl 3 rfl) ?_
        refine lv_iload hx hb dX1_odd_30 (lv_at hl 7 rfl) ?_
        refine cn_bitS hx hb (by omega) (by omega) dX1_odd_32 dX1_odd_33 dX1_odd_34 ?_
        refine lv_iconst (v := nI 1) hx hb dX1_odd_35 (by decide) ?_
        refine cb_ne1 (tgt := 50) hx hb dX1_odd_36 (by decide) (fun c36 => ?_) (fun c36 => ?_)
        · refine lv_iinc (v := (nI (i + 1))) (lv' := [(6, .int (nI (i + 1))), (7, .int (nI (cd_nth h (k + 1) i))), (0, .ref (a 0)), (1, .int (nI k)), (2, .int (nI ch)), (3, .int (nI f)), (4, .int (nI (cd_od h k ch f i))), (5, .int (nI (cd_cnt h k)))]) hx hb dX1_odd_50 hl (k := 7) rfl (cd_inc i) (by decide) rfl (fun ls hl => ?_)
          refine lv_goto (tgt := 13) hx hb dX1_odd_53 (by decide) ?_
          have e1 : cd_od h k ch f (i + 1) = cd_od h k ch f i := by
            show cd_od h k ch f i + (if (ch.testBit i && (cd_nth h (k + 1) i &&& f == f)) = true then 1 else 0) = _
            simp [c36]
          exact ih (i + 1) (by omega) (by omega) _ _ hP hD hS _ (by rw [e1]; exact lv_sub hl [2, 3, 4, 5, 6, 7, 0] rfl)
        · refine lv_iload hx hb dX1_odd_39 (lv_at hl 0 rfl) ?_
          refine lv_iload_n hx hb dX1_odd_41 rfl (lv_at hl 4 rfl) ?_
          refine cn_and hx hb dX1_odd_42 ?_
          refine lv_iload_n hx hb dX1_odd_43 rfl (lv_at hl 4 rfl) ?_
          refine cn_ne (tgt := 50) hx hb dX1_odd_44 (by decide) (by have := Nat.and_le_right (n := cd_nth h (k + 1) i) (m := f); omega) (by omega) (fun c44 => ?_) (fun c44 => ?_)
          · refine lv_iinc (v := (nI (i + 1))) (lv' := [(6, .int (nI (i + 1))), (7, .int (nI (cd_nth h (k + 1) i))), (0, .ref (a 0)), (1, .int (nI k)), (2, .int (nI ch)), (3, .int (nI f)), (4, .int (nI (cd_od h k ch f i))), (5, .int (nI (cd_cnt h k)))]) hx hb dX1_odd_50 hl (k := 7) rfl (cd_inc i) (by decide) rfl (fun ls hl => ?_)
            refine lv_goto (tgt := 13) hx hb dX1_odd_53 (by decide) ?_
            have e1 : cd_od h k ch f (i + 1) = cd_od h k ch f i := by
              show cd_od h k ch f i + (if (ch.testBit i && (cd_nth h (k + 1) i &&& f == f)) = true then 1 else 0) = _
              simp [c36, c44]
            exact ih (i + 1) (by omega) (by omega) _ _ hP hD hS _ (by rw [e1]; exact lv_sub hl [2, 3, 4, 5, 6, 7, 0] rfl)
          · refine lv_iinc (v := (nI (cd_od h k ch f i + 1))) (lv' := [(4, .int (nI (cd_od h k ch f i + 1))), (7, .int (nI (cd_nth h (k + 1) i))), (0, .ref (a 0)), (1, .int (nI k)), (2, .int (nI ch)), (3, .int (nI f)), (5, .int (nI (cd_cnt h k))), (6, .int (nI i))]) hx hb dX1_odd_47 hl (k := 5) rfl (cd_inc (cd_od h k ch f i)) (by decide) rfl (fun ls hl => ?_)
            refine lv_iinc (v := (nI (i + 1))) (lv' := [(6, .int (nI (i + 1))), (4, .int (nI (cd_od h k ch f i + 1))), (7, .int (nI (cd_nth h (k + 1) i))), (0, .ref (a 0)), (1, .int (nI k)), (2, .int (nI ch)), (3, .int (nI f)), (5, .int (nI (cd_cnt h k)))]) hx hb dX1_odd_50 hl (k := 7) rfl (cd_inc i) (by decide) rfl (fun ls hl => ?_)
            refine lv_goto (tgt := 13) hx hb dX1_odd_53 (by decide) ?_
            have e1 : cd_od h k ch f (i + 1) = cd_od h k ch f i + 1 := by
              show cd_od h k ch f i + (if (ch.testBit i && (cd_nth h (k + 1) i &&& f == f)) = true then 1 else 0) = _
              simp [c36, c44]
            exact ih (i + 1) (by omega) (by omega) _ _ hP hD hS _ (by rw [e1]; exact lv_sub hl [3, 4, 5, 6, 1, 7, 0] rfl)
  refine lv_iconst (v := nI 0) hx hb dX1_odd_0 (by decide) ?_
  refine lv_istore (lv' := [(4, .int (nI 0)), (0, .ref (a 0)), (1, .int (nI k)), (2, .int (nI ch)), (3, .int (nI f))]) hx hb dX1_odd_1 hl (by decide) rfl (fun ls hl => ?_)
  refine lv_aload_n hx hb dX1_odd_3 rfl (lv_at hl 1 rfl) ?_
  refine lv_iload_n hx hb dX1_odd_4 rfl (lv_at hl 2 rfl) ?_
  refine cd_callV [] hx hb hml hown hts hA (mt1_countN l D a z h M k hk) (cwV 1 hts (lw_V q181 q156 q157 q16 q158) rfl rfl rfl (by decide +kernel) ⟨Nat.le_of_ble_eq_true rfl, Nat.le_of_ble_eq_true rfl⟩) hK hD hP hS rfl (va_recv hK hP (ci := 1) (q0 := 0) rfl rfl) hl.1 rfl rfl (Nat.le_of_ble_eq_true rfl) dX1_odd_5 ⟨Nat.zero_le _, Nat.zero_le _⟩ (fun H locs hP hD hS => ?_)
  refine lv_istore (lv' := [(5, .int (nI (cd_cnt h k))), (4, .int (nI 0)), (0, .ref (a 0)), (1, .int (nI k)), (2, .int (nI ch)), (3, .int (nI f))]) hx hb dX1_odd_8 hl (by decide) rfl (fun ls hl => ?_)
  refine lv_iconst (v := nI 0) hx hb dX1_odd_10 (by decide) ?_
  refine lv_istore (lv' := [(6, .int (nI 0)), (5, .int (nI (cd_cnt h k))), (4, .int (nI 0)), (0, .ref (a 0)), (1, .int (nI k)), (2, .int (nI ch)), (3, .int (nI f))]) hx hb dX1_odd_11 hl (by decide) rfl (fun ls hl => ?_)
  exact loop (cd_cnt h k + 1) 0 (Nat.zero_le _) (by omega) _ _ hP hD hS _ (lv_sub hl [3, 4, 5, 6, 2, 1, 0] rfl)

set_option maxHeartbeats 4000000 in
set_option maxRecDepth 100000 in
theorem mt1_boundaryOf (l : Launch) (D : va_G) (a : Nat → Nat) (z : Nat → ClassId) (h M : Nat → Bool) (k ch : Nat) (hk : k ≤ 5) (hch : ch < 1024) : cd_I l yX1_boundaryOf (ws_ yX1_boundaryOf cX1_boundaryOf 7 (some .int)) (cd_rm 3 73) [.ref (a 0), .int (nI k), .int (nI ch)] D (cd_MT z) (cd_MW a z h M) (nI (cd_mbnd h k ch)) (cd_MW a z h M) := by
  refine cd_I.mk cX1_boundaryOf 7 .int RX1 (by decide) rfl (cd_narI _) (Nat.le_of_ble_eq_true rfl) ?_
  intro p e s m args below meth c A Q hx hb hml hown hts hA hK hD hP hS hret ls hl
  have hl : lv_has ls 7 [(0, .ref (a 0)), (1, .int (nI k)), (2, .int (nI ch))] := hl
  refine lv_iload_n hx hb dX1_boundaryOf_0 rfl (lv_at hl 1 rfl) ?_
  refine lv_iconst (v := nI 1) hx hb dX1_boundaryOf_1 (by decide) ?_
  refine cn_lt (tgt := 10) hx hb dX1_boundaryOf_2 (by decide) (by omega) (by omega) (fun c2 => ?_) (fun c2 => ?_)
  · refine lv_iconst (v := nI 0) hx hb dX1_boundaryOf_10 (by decide) ?_
    exact cd_top (by unfold cd_mbnd; rw [if_neg (by omega)]) (hret hP hS dX1_boundaryOf_11)
  · refine lv_iload_n hx hb dX1_boundaryOf_5 rfl (lv_at hl 1 rfl) ?_
    refine lv_iconst (v := nI 4) hx hb dX1_boundaryOf_6 (by decide) ?_
    refine cn_le (tgt := 12) hx hb dX1_boundaryOf_7 (by decide) (by omega) (by omega) (fun c7 => ?_) (fun c7 => ?_)
    · refine lv_iconst (v := nI 0) hx hb dX1_boundaryOf_12 (by decide) ?_
      refine lv_istore_n (lv' := [(3, .int (nI 0)), (0, .ref (a 0)), (1, .int (nI k)), (2, .int (nI ch))]) hx hb dX1_boundaryOf_13 rfl hl (by decide) rfl (fun ls hl => ?_)
      refine lv_aload_n hx hb dX1_boundaryOf_14 rfl (lv_at hl 1 rfl) ?_
      refine lv_iload_n hx hb dX1_boundaryOf_15 rfl (lv_at hl 2 rfl) ?_
      refine lv_iconst (v := nI 1) hx hb dX1_boundaryOf_16 (by decide) ?_
      refine cn_sub hx hb (by omega) dX1_boundaryOf_17 ?_
      refine cd_callV [] hx hb hml hown hts hA (mt1_countN l D a z h M (k - 1) (by omega)) (cwV 1 hts (lw_V q181 q156 q157 q16 q158) rfl rfl rfl (by decide +kernel) ⟨Nat.le_of_ble_eq_true rfl, Nat.le_of_ble_eq_true rfl⟩) hK hD hP hS rfl (va_recv hK hP (ci := 1) (q0 := 0) rfl rfl) hl.1 rfl rfl (Nat.le_of_ble_eq_true rfl) dX1_boundaryOf_18 ⟨Nat.zero_le _, Nat.zero_le _⟩ (fun H locs hP hD hS => ?_)
      refine lv_istore (lv' := [(4, .int (nI (cd_cnt h (k - 1)))), (3, .int (nI 0)), (0, .ref (a 0)), (1, .int (nI k)), (2, .int (nI ch))]) hx hb dX1_boundaryOf_21 hl (by decide) rfl (fun ls hl => ?_)
      refine lv_iconst (v := nI 0) hx hb dX1_boundaryOf_23 (by decide) ?_
      refine lv_istore (lv' := [(5, .int (nI 0)), (4, .int (nI (cd_cnt h (k - 1)))), (3, .int (nI 0)), (0, .ref (a 0)), (1, .int (nI k)), (2, .int (nI ch))]) hx hb dX1_boundaryOf_24 hl (by decide) rfl (fun ls hl => ?_)
      have hi10 := cd_cnt_le (h := h) (k := k - 1) (by omega)
      have hkk : k - 1 + 1 = k := by omega
      have loop : ∀ (n i : Nat), i ≤ cd_cnt h (k - 1) → cd_cnt h (k - 1) + 1 ≤ i + n → ∀ (H : Heap) (locs : List Loc), va_P D vwCl (cd_MW a z h M) H → va_D A (cd_MW a z h M) → va_S A s.heap H locs → ∀ ls : Array Slot, lv_has ls 7 [(0, .ref (a 0)), (1, .int (nI k)), (2, .int (nI ch)), (3, .int (nI (cd_mb h k ch i))), (4, .int (nI (cd_cnt h (k - 1)))), (5, .int (nI i))] → W p l e (cd_rm 3 73) s m args below meth c H locs 0 0 Q (F0 m 26 ls []) := by
        intro n
        induction n with
        | zero => intro i h1 h2; omega
        | succ n ih =>
          intro i h1 h2 H locs hP hD hS ls hl
          refine lv_iload hx hb dX1_boundaryOf_26 (lv_at hl 5 rfl) ?_
          refine lv_iload hx hb dX1_boundaryOf_28 (lv_at hl 4 rfl) ?_
          refine cn_ge (tgt := 68) hx hb dX1_boundaryOf_30 (by decide) (by omega) (by omega) (fun c30 => ?_) (fun c30 => ?_)
          · refine lv_iload_n hx hb dX1_boundaryOf_68 rfl (lv_at hl 3 rfl) ?_
            exact cd_top (by unfold cd_mbnd; rw [if_pos ⟨c2, c7⟩, show i = cd_cnt h (k - 1) by omega]) (hret hP hS dX1_boundaryOf_69)
          · refine lv_aload_n hx hb dX1_boundaryOf_33 rfl (lv_at hl 0 rfl) ?_
            refine lv_iload_n hx hb dX1_boundaryOf_34 rfl (lv_at hl 1 rfl) ?_
            refine lv_iconst (v := nI 1) hx hb dX1_boundaryOf_35 (by decide) ?_
            refine cn_sub hx hb (by omega) dX1_boundaryOf_36 ?_
            refine lv_iload hx hb dX1_boundaryOf_37 (lv_at hl 5 rfl) ?_
            refine cd_callV [] hx hb hml hown hts hA (mt1_simplexN l D a z h M (k - 1) i (by omega) c30) (cwV 2 hts (lw_V q186 q166 q167 q16 q168) rfl rfl rfl (by decide +kernel) ⟨Nat.le_of_ble_eq_true rfl, Nat.le_of_ble_eq_true rfl⟩) hK hD hP hS rfl (va_recv hK hP (ci := 1) (q0 := 0) rfl rfl) hl.1 rfl rfl (Nat.le_of_ble_eq_true rfl) dX1_boundaryOf_39 ⟨Nat.zero_le _, Nat.zero_le _⟩ (fun H locs hP hD hS => ?_)
            refine lv_istore (lv' := [(6, .int (nI (cd_nth h (k - 1 + 1) i))), (0, .ref (a 0)), (1, .int (nI k)), (2, .int (nI ch)), (3, .int (nI (cd_mb h k ch i))), (4, .int (nI (cd_cnt h (k - 1)))), (5, .int (nI i))]) hx hb dX1_boundaryOf_42 hl (by decide) rfl (fun ls hl => ?_)
            refine lv_aload_n hx hb dX1_boundaryOf_44 rfl (lv_at hl 1 rfl) ?_
            refine lv_iload_n hx hb dX1_boundaryOf_45 rfl (lv_at hl 2 rfl) ?_
            refine lv_iload_n hx hb dX1_boundaryOf_46 rfl (lv_at hl 3 rfl) ?_
            refine lv_iload hx hb dX1_boundaryOf_47 (lv_at hl 0 rfl) ?_
            refine cd_callV [] hx hb hml hown hts hA (mt1_odd l D a z h M k ch (cd_nth h (k - 1 + 1) i) c7 hch (cd_nth_lt _ _ _)) (cwV 3 hts (lw_V q187 q189 qs12 q16 q190) rfl rfl rfl (by decide +kernel) ⟨Nat.le_of_ble_eq_true rfl, Nat.le_of_ble_eq_true rfl⟩) hK hD hP hS rfl (va_recv hK hP (ci := 1) (q0 := 0) rfl rfl) hl.1 rfl rfl (Nat.le_of_ble_eq_true rfl) dX1_boundaryOf_49 ⟨Nat.zero_le _, Nat.zero_le _⟩ (fun H locs hP hD hS => ?_)
            refine cb_ifeq (tgt := 62) hx hb dX1_boundaryOf_52 (by decide) (fun c52 => ?_) (fun c52 => ?_)
            · refine lv_iinc (v := (nI (i + 1))) (lv' := [(5, .int (nI (i + 1))), (6, .int (nI (cd_nth h (k - 1 + 1) i))), (0, .ref (a 0)), (1, .int (nI k)), (2, .int (nI ch)), (3, .int (nI (cd_mb h k ch i))), (4, .int (nI (cd_cnt h (k - 1))))]) hx hb dX1_boundaryOf_62 hl (k := 6) rfl (cd_inc i) (by decide) rfl (fun ls hl => ?_)
              refine lv_goto (tgt := 26) hx hb dX1_boundaryOf_65 (by decide) ?_
              have e1 : cd_mb h k ch (i + 1) = cd_mb h k ch i := by
                show cd_mb h k ch i ||| (if cd_od h k ch (cd_nth h k i) (cd_cnt h k) % 2 = 1 then 2 ^ i else 0) = _
                rw [hkk] at c52
                rw [if_neg (of_decide_eq_false c52), Nat.or_zero]
              exact ih (i + 1) (by omega) (by omega) _ _ hP hD hS _ (by rw [e1]; exact lv_sub hl [2, 3, 4, 5, 6, 0] rfl)
            · refine lv_iload_n hx hb dX1_boundaryOf_55 rfl (lv_at hl 4 rfl) ?_
              refine lv_iconst (v := nI 1) hx hb dX1_boundaryOf_56 (by decide) ?_
              refine lv_iload hx hb dX1_boundaryOf_57 (lv_at hl 6 rfl) ?_
              refine cn_shl1 hx hb (by omega) dX1_boundaryOf_59 ?_
              refine cn_or hx hb dX1_boundaryOf_60 ?_
              refine lv_istore_n (lv' := [(3, .int (nI ((cd_mb h k ch i) ||| (2 ^ i)))), (6, .int (nI (cd_nth h (k - 1 + 1) i))), (0, .ref (a 0)), (1, .int (nI k)), (2, .int (nI ch)), (4, .int (nI (cd_cnt h (k - 1)))), (5, .int (nI i))]) hx hb dX1_boundaryOf_61 rfl hl (by decide) rfl (fun ls hl => ?_)
              refine lv_iinc (v := (nI (i + 1))) (lv' := [(5, .int (nI (i + 1))), (3, .int (nI ((cd_mb h k ch i) ||| (2 ^ i)))), (6, .int (nI (cd_nth h (k - 1 + 1) i))), (0, .ref (a 0)), (1, .int (nI k)), (2, .int (nI ch)), (4, .int (nI (cd_cnt h (k - 1))))]) hx hb dX1_boundaryOf_62 hl (k := 6) rfl (cd_inc i) (by decide) rfl (fun ls hl => ?_)
              refine lv_goto (tgt := 26) hx hb dX1_boundaryOf_65 (by decide) ?_
              have e1 : cd_mb h k ch (i + 1) = (cd_mb h k ch i) ||| (2 ^ i) := by
                show cd_mb h k ch i ||| (if cd_od h k ch (cd_nth h k i) (cd_cnt h k) % 2 = 1 then 2 ^ i else 0) = _
                rw [hkk] at c52
                rw [if_pos (of_decide_eq_true c52)]
              exact ih (i + 1) (by omega) (by omega) _ _ hP hD hS _ (by rw [e1]; exact lv_sub hl [3, 4, 5, 1, 6, 0] rfl)
      exact loop (cd_cnt h (k - 1) + 1) 0 (Nat.zero_le _) (by omega) _ _ hP hD hS _ (lv_sub hl [3, 4, 5, 2, 1, 0] rfl)
    · refine lv_iconst (v := nI 0) hx hb dX1_boundaryOf_10 (by decide) ?_
      exact cd_top (by unfold cd_mbnd; rw [if_neg (by omega)]) (hret hP hS dX1_boundaryOf_11)

set_option maxHeartbeats 4000000 in
set_option maxRecDepth 100000 in
theorem mt1_boundary (l : Launch) (D : va_G) (a : Nat → Nat) (z : Nat → ClassId) (h M : Nat → Bool) (k0 x0 : Int32) : cd_I l yX1_boundary (ws_ yX1_boundary cX1_boundary 3 (some .int)) (cd_rm 4 99) [.ref (a 0), .int k0, .int x0] D (cd_MT z) (cd_MW a z h M) (cd_cv h (fun k x => nI (cd_mbnd h k x)) k0 x0) (cd_MW a z h M) := by
  refine cd_I.mk cX1_boundary 3 .int RX1 (by decide) rfl (cd_narI _) (Nat.le_of_ble_eq_true rfl) ?_
  intro p e s m args below meth c A Q hx hb hml hown hts hA hK hD hP hS hret ls hl
  have hl : lv_has ls 3 [(0, .ref (a 0)), (1, .int k0), (2, .int x0)] := hl
  refine lv_aload_n hx hb dX1_boundary_0 rfl (lv_at hl 0 rfl) ?_
  refine lv_iload_n hx hb dX1_boundary_1 rfl (lv_at hl 1 rfl) ?_
  refine lv_iload_n hx hb dX1_boundary_2 rfl (lv_at hl 2 rfl) ?_
  refine cd_callV [] hx hb hml hown hts hA (mt1_noChain l D a z h M k0 x0) (cwV 2 hts (lw_V q173 q175 qs9 q16 q176) rfl rfl rfl (by decide +kernel) ⟨Nat.le_of_ble_eq_true rfl, Nat.le_of_ble_eq_true rfl⟩) hK hD hP hS rfl (va_recv hK hP (ci := 1) (q0 := 0) rfl rfl) hl.1 rfl rfl (Nat.le_of_ble_eq_true rfl) dX1_boundary_3 ⟨Nat.zero_le _, Nat.zero_le _⟩ (fun H locs hP hD hS => ?_)
  refine cb_ifeq (tgt := 13) hx hb dX1_boundary_6 (by decide) (fun c6 => ?_) (fun c6 => ?_)
  · obtain ⟨k, x, hk, hx1, hx2, rfl, rfl⟩ := cd_chnE (h := h) (k0 := k0) (x0 := x0) (by simpa using c6)
    refine lv_aload_n hx hb dX1_boundary_13 rfl (lv_at hl 0 rfl) ?_
    refine lv_iload_n hx hb dX1_boundary_14 rfl (lv_at hl 1 rfl) ?_
    refine lv_iload_n hx hb dX1_boundary_15 rfl (lv_at hl 2 rfl) ?_
    refine cd_callV [] hx hb hml hown hts hA (mt1_boundaryOf l D a z h M k x (by omega) hx2) (cwV 2 hts (lw_V q182 q184 qs11 q16 q185) rfl rfl rfl (by decide +kernel) ⟨Nat.le_of_ble_eq_true rfl, Nat.le_of_ble_eq_true rfl⟩) hK hD hP hS rfl (va_recv hK hP (ci := 1) (q0 := 0) rfl rfl) hl.1 rfl rfl (Nat.le_of_ble_eq_true rfl) dX1_boundary_16 ⟨Nat.zero_le _, Nat.zero_le _⟩ (fun H locs hP hD hS => ?_)
    exact cd_top (by rw [cd_cv_t hk hx1 hx2] <;> rfl) (hret hP hS dX1_boundary_19)
  · refine lv_iconst (v := -1) hx hb dX1_boundary_9 (by decide) ?_
    refine lv_goto (tgt := 19) hx hb dX1_boundary_10 (by decide) ?_
    exact cd_top (cd_cv_f (by simpa using c6)).symm (hret hP hS dX1_boundary_19)
end
section
set_option maxHeartbeats 4000000 in
set_option maxRecDepth 100000 in
theorem mt1_mark (l : Launch) (D : va_G) (a : Nat → Nat) (z : Nat → ClassId) (h M : Nat → Bool) (k : Nat) (hk : k ≤ 4) : cd_I l yX1_mark (ws_ yX1_mark cX1_mark 7 (some .int)) (cd_rm 4 99) [.ref (a 0), .int (nI k)] D (cd_MT z) (cd_MW a z h M) (nI (cd_mark h k M).2) (cd_MW a z h ((cd_mark h k M).1)) := by
  refine cd_I.mk cX1_mark 7 .int RX1 (by decide) rfl (cd_narI _) (Nat.le_of_ble_eq_true rfl) ?_
  intro p e s m args below meth c A Q hx hb hml hown hts hA hK hD hP hS hret ls hl
  have hl : lv_has ls 7 [(0, .ref (a 0)), (1, .int (nI k))] := hl
  have hp1 := cd_pow_le (cd_n_le h k)
  have hp2 := cd_pow_le (cd_n_le h (k + 1))
  have loop : ∀ (n i : Nat), i ≤ 2 ^ cd_n h (k + 1) → 2 ^ cd_n h (k + 1) + 1 ≤ i + n → ∀ (H : Heap) (locs : List Loc), va_P D vwCl (cd_MW a z h ((cd_mk h k (cd_zB M (2 ^ cd_n h k)) i).1)) H → va_D A (cd_MW a z h ((cd_mk h k (cd_zB M (2 ^ cd_n h k)) i).1)) → va_S A s.heap H locs → ∀ ls : Array Slot, lv_has ls 7 [(0, .ref (a 0)), (1, .int (nI k)), (2, .int (nI ((cd_mk h k (cd_zB M (2 ^ cd_n h k)) i).2))), (4, .int (nI (2 ^ cd_n h (k + 1)))), (5, .int (nI i))] → W p l e (cd_rm 4 99) s m args below meth c H locs 0 0 Q (F0 m 43 ls []) := by
    intro n
    induction n with
    | zero => intro i h1 h2; omega
    | succ n ih =>
      intro i h1 h2 H locs hP hD hS ls hl
      refine lv_iload hx hb dX1_mark_43 (lv_at hl 4 rfl) ?_
      refine lv_iload hx hb dX1_mark_45 (lv_at hl 3 rfl) ?_
      refine cn_ge (tgt := 88) hx hb dX1_mark_47 (by decide) (by omega) (by omega) (fun c47 => ?_) (fun c47 => ?_)
      · have ei : i = 2 ^ cd_n h (k + 1) := by omega
        refine lv_iload_n hx hb dX1_mark_88 rfl (lv_at hl 2 rfl) ?_
        exact cd_top (by unfold cd_mark; rw [← ei]) (hret (by unfold cd_mark; rw [← ei]; exact hP) hS dX1_mark_89)
      · have hbl := cd_mbnd_lt4 h (k := k + 1) (by omega) i
        refine lv_aload_n hx hb dX1_mark_50 rfl (lv_at hl 0 rfl) ?_
        refine lv_iload_n hx hb dX1_mark_51 rfl (lv_at hl 1 rfl) ?_
        refine lv_iconst (v := nI 1) hx hb dX1_mark_52 (by decide) ?_
        refine cn_add hx hb dX1_mark_53 ?_
        refine lv_iload hx hb dX1_mark_54 (lv_at hl 4 rfl) ?_
        refine cd_callV [] hx hb hml hown hts hA (mt1_boundaryOf l D a z h ((cd_mk h k (cd_zB M (2 ^ cd_n h k)) i).1) (k + 1) i (by omega) (by omega)) (cwV 2 hts (lw_V q182 q184 qs11 q16 q185) rfl rfl rfl (by decide +kernel) ⟨Nat.le_of_ble_eq_true rfl, Nat.le_of_ble_eq_true rfl⟩) hK hD hP hS rfl (va_recv hK hP (ci := 1) (q0 := 0) rfl rfl) hl.1 rfl rfl (Nat.le_of_ble_eq_true rfl) dX1_mark_56 ⟨Nat.zero_le _, Nat.zero_le _⟩ (fun H locs hP hD hS => ?_)
        refine lv_istore (lv' := [(6, .int (nI (cd_mbnd h (k + 1) i))), (0, .ref (a 0)), (1, .int (nI k)), (2, .int (nI ((cd_mk h k (cd_zB M (2 ^ cd_n h k)) i).2))), (4, .int (nI (2 ^ cd_n h (k + 1)))), (5, .int (nI i))]) hx hb dX1_mark_59 hl (by decide) rfl (fun ls hl => ?_)
        refine lv_aload_n hx hb dX1_mark_61 rfl (lv_at hl 1 rfl) ?_
        refine gy_marked hx hb hts hown hK hP dX1_mark_62 ?_
        refine lv_iload hx hb dX1_mark_65 (lv_at hl 0 rfl) ?_
        refine ay_marked hx hb hK hP (by omega) dX1_mark_67 ?_
        refine cb_ifne (tgt := 74) hx hb dX1_mark_68 (by decide) (fun c68 => ?_) (fun c68 => ?_)
        · refine lv_aload_n hx hb dX1_mark_74 rfl (lv_at hl 1 rfl) ?_
          refine gy_marked hx hb hts hown hK hP dX1_mark_75 ?_
          refine lv_iload hx hb dX1_mark_78 (lv_at hl 0 rfl) ?_
          refine lv_iconst (v := nI 1) hx hb dX1_mark_80 (by decide) ?_
          refine sy_marked hx hb hK hP hD hS true (by decide) (by omega) dX1_mark_81 (fun H locs hP hD hS => ?_)
          refine lv_iinc (v := (nI (i + 1))) (lv' := [(5, .int (nI (i + 1))), (6, .int (nI (cd_mbnd h (k + 1) i))), (0, .ref (a 0)), (1, .int (nI k)), (2, .int (nI ((cd_mk h k (cd_zB M (2 ^ cd_n h k)) i).2))), (4, .int (nI (2 ^ cd_n h (k + 1))))]) hx hb dX1_mark_82 hl (k := 5) rfl (cd_inc i) (by decide) rfl (fun ls hl => ?_)
          refine lv_goto (tgt := 43) hx hb dX1_mark_85 (by decide) ?_
          have e1 : cd_mk h k (cd_zB M (2 ^ cd_n h k)) (i + 1) = (cd_up ((cd_mk h k (cd_zB M (2 ^ cd_n h k)) i).1) (cd_mbnd h (k + 1) i) true, (cd_mk h k (cd_zB M (2 ^ cd_n h k)) i).2) := by
            show (cd_up (cd_mk h k (cd_zB M (2 ^ cd_n h k)) i).1 (cd_mbnd h (k + 1) i) true, (cd_mk h k (cd_zB M (2 ^ cd_n h k)) i).2 + (if (cd_mk h k (cd_zB M (2 ^ cd_n h k)) i).1 (cd_mbnd h (k + 1) i) = true then 0 else 1)) = _
            rw [c68]; rfl
          exact ih (i + 1) (by omega) (by omega) _ _ (by rw [e1]; exact hP) (by rw [e1]; exact hD) hS _ (by rw [e1]; exact lv_sub hl [2, 3, 4, 5, 0] rfl)
        · refine lv_iinc (v := (nI ((cd_mk h k (cd_zB M (2 ^ cd_n h k)) i).2 + 1))) (lv' := [(2, .int (nI ((cd_mk h k (cd_zB M (2 ^ cd_n h k)) i).2 + 1))), (6, .int (nI (cd_mbnd h (k + 1) i))), (0, .ref (a 0)), (1, .int (nI k)), (4, .int (nI (2 ^ cd_n h (k + 1)))), (5, .int (nI i))]) hx hb dX1_mark_71 hl (k := 3) rfl (cd_inc ((cd_mk h k (cd_zB M (2 ^ cd_n h k)) i).2)) (by decide) rfl (fun ls hl => ?_)
          refine lv_aload_n hx hb dX1_mark_74 rfl (lv_at hl 2 rfl) ?_
          refine gy_marked hx hb hts hown hK hP dX1_mark_75 ?_
          refine lv_iload hx hb dX1_mark_78 (lv_at hl 1 rfl) ?_
          refine lv_iconst (v := nI 1) hx hb dX1_mark_80 (by decide) ?_
          refine sy_marked hx hb hK hP hD hS true (by decide) (by omega) dX1_mark_81 (fun H locs hP hD hS => ?_)
          refine lv_iinc (v := (nI (i + 1))) (lv' := [(5, .int (nI (i + 1))), (2, .int (nI ((cd_mk h k (cd_zB M (2 ^ cd_n h k)) i).2 + 1))), (6, .int (nI (cd_mbnd h (k + 1) i))), (0, .ref (a 0)), (1, .int (nI k)), (4, .int (nI (2 ^ cd_n h (k + 1))))]) hx hb dX1_mark_82 hl (k := 5) rfl (cd_inc i) (by decide) rfl (fun ls hl => ?_)
          refine lv_goto (tgt := 43) hx hb dX1_mark_85 (by decide) ?_
          have e1 : cd_mk h k (cd_zB M (2 ^ cd_n h k)) (i + 1) = (cd_up ((cd_mk h k (cd_zB M (2 ^ cd_n h k)) i).1) (cd_mbnd h (k + 1) i) true, (cd_mk h k (cd_zB M (2 ^ cd_n h k)) i).2 + 1) := by
            show (cd_up (cd_mk h k (cd_zB M (2 ^ cd_n h k)) i).1 (cd_mbnd h (k + 1) i) true, (cd_mk h k (cd_zB M (2 ^ cd_n h k)) i).2 + (if (cd_mk h k (cd_zB M (2 ^ cd_n h k)) i).1 (cd_mbnd h (k + 1) i) = true then 0 else 1)) = _
            rw [c68]; rfl
          exact ih (i + 1) (by omega) (by omega) _ _ (by rw [e1]; exact hP) (by rw [e1]; exact hD) hS _ (by rw [e1]; exact lv_sub hl [3, 4, 1, 5, 0] rfl)
  have loop0 : ∀ (n i : Nat), i ≤ 2 ^ cd_n h k → 2 ^ cd_n h k + 1 ≤ i + n → ∀ (H : Heap) (locs : List Loc), va_P D vwCl (cd_MW a z h (cd_zB M i)) H → va_D A (cd_MW a z h (cd_zB M i)) → va_S A s.heap H locs → ∀ ls : Array Slot, lv_has ls 7 [(0, .ref (a 0)), (1, .int (nI k)), (2, .int (nI 0)), (3, .int (nI (2 ^ cd_n h k))), (4, .int (nI (2 ^ cd_n h (k + 1)))), (5, .int (nI i))] → W p l e (cd_rm 4 99) s m args below meth c H locs 0 0 Q (F0 m 20 ls []) := by
    intro n
    induction n with
    | zero => intro i h1 h2; omega
    | succ n ih =>
      intro i h1 h2 H locs hP hD hS ls hl
      refine lv_iload hx hb dX1_mark_20 (lv_at hl 5 rfl) ?_
      refine lv_iload_n hx hb dX1_mark_22 rfl (lv_at hl 3 rfl) ?_
      refine cn_ge (tgt := 40) hx hb dX1_mark_23 (by decide) (by omega) (by omega) (fun c23 => ?_) (fun c23 => ?_)
      · have ei : i = 2 ^ cd_n h k := by omega
        rw [ei] at hP hD
        refine lv_iconst (v := nI 0) hx hb dX1_mark_40 (by decide) ?_
        refine lv_istore (lv' := [(5, .int (nI 0)), (0, .ref (a 0)), (1, .int (nI k)), (2, .int (nI 0)), (3, .int (nI (2 ^ cd_n h k))), (4, .int (nI (2 ^ cd_n h (k + 1))))]) hx hb dX1_mark_41 hl (by decide) rfl (fun ls hl => ?_)
        exact loop (2 ^ cd_n h (k + 1) + 1) 0 (Nat.zero_le _) (by omega) _ _ hP hD hS _ (lv_sub hl [1, 2, 3, 5, 0] rfl)
      · refine lv_aload_n hx hb dX1_mark_26 rfl (lv_at hl 0 rfl) ?_
        refine gy_marked hx hb hts hown hK hP dX1_mark_27 ?_
        refine lv_iload hx hb dX1_mark_30 (lv_at hl 5 rfl) ?_
        refine lv_iconst (v := nI 0) hx hb dX1_mark_32 (by decide) ?_
        refine sy_marked hx hb hK hP hD hS false (by decide) (by omega) dX1_mark_33 (fun H locs hP hD hS => ?_)
        refine lv_iinc (v := (nI (i + 1))) (lv' := [(5, .int (nI (i + 1))), (0, .ref (a 0)), (1, .int (nI k)), (2, .int (nI 0)), (3, .int (nI (2 ^ cd_n h k))), (4, .int (nI (2 ^ cd_n h (k + 1))))]) hx hb dX1_mark_34 hl (k := 5) rfl (cd_inc i) (by decide) rfl (fun ls hl => ?_)
        refine lv_goto (tgt := 20) hx hb dX1_mark_37 (by decide) ?_
        rw [cd_zBS] at hP hD
        exact ih (i + 1) (by omega) (by omega) _ _ hP hD hS _ (lv_sub hl [1, 2, 3, 4, 5, 0] rfl)
  refine lv_iconst (v := nI 0) hx hb dX1_mark_0 (by decide) ?_
  refine lv_istore_n (lv' := [(2, .int (nI 0)), (0, .ref (a 0)), (1, .int (nI k))]) hx hb dX1_mark_1 rfl hl (by decide) rfl (fun ls hl => ?_)
  refine lv_aload_n hx hb dX1_mark_2 rfl (lv_at hl 1 rfl) ?_
  refine lv_iload_n hx hb dX1_mark_3 rfl (lv_at hl 2 rfl) ?_
  refine cd_callV [] hx hb hml hown hts hA (mt1_chains l D a z h M k (by omega)) (cwV 1 hts (lw_V q177 q179 qs10 q16 q180) rfl rfl rfl (by decide +kernel) ⟨Nat.le_of_ble_eq_true rfl, Nat.le_of_ble_eq_true rfl⟩) hK hD hP hS rfl (va_recv hK hP (ci := 1) (q0 := 0) rfl rfl) hl.1 rfl rfl (Nat.le_of_ble_eq_true rfl) dX1_mark_4 ⟨Nat.zero_le _, Nat.zero_le _⟩ (fun H locs hP hD hS => ?_)
  refine lv_istore_n (lv' := [(3, .int (nI (2 ^ cd_n h k))), (2, .int (nI 0)), (0, .ref (a 0)), (1, .int (nI k))]) hx hb dX1_mark_7 rfl hl (by decide) rfl (fun ls hl => ?_)
  refine lv_aload_n hx hb dX1_mark_8 rfl (lv_at hl 2 rfl) ?_
  refine lv_iload_n hx hb dX1_mark_9 rfl (lv_at hl 3 rfl) ?_
  refine lv_iconst (v := nI 1) hx hb dX1_mark_10 (by decide) ?_
  refine cn_add hx hb dX1_mark_11 ?_
  refine cd_callV [] hx hb hml hown hts hA (mt1_chains l D a z h M (k + 1) (by omega)) (cwV 1 hts (lw_V q177 q179 qs10 q16 q180) rfl rfl rfl (by decide +kernel) ⟨Nat.le_of_ble_eq_true rfl, Nat.le_of_ble_eq_true rfl⟩) hK hD hP hS rfl (va_recv hK hP (ci := 1) (q0 := 0) rfl rfl) hl.1 rfl rfl (Nat.le_of_ble_eq_true rfl) dX1_mark_12 ⟨Nat.zero_le _, Nat.zero_le _⟩ (fun H locs hP hD hS => ?_)
  refine lv_istore (lv' := [(4, .int (nI (2 ^ cd_n h (k + 1)))), (3, .int (nI (2 ^ cd_n h k))), (2, .int (nI 0)), (0, .ref (a 0)), (1, .int (nI k))]) hx hb dX1_mark_15 hl (by decide) rfl (fun ls hl => ?_)
  refine lv_iconst (v := nI 0) hx hb dX1_mark_17 (by decide) ?_
  refine lv_istore (lv' := [(5, .int (nI 0)), (4, .int (nI (2 ^ cd_n h (k + 1)))), (3, .int (nI (2 ^ cd_n h k))), (2, .int (nI 0)), (0, .ref (a 0)), (1, .int (nI k))]) hx hb dX1_mark_18 hl (by decide) rfl (fun ls hl => ?_)
  exact loop0 (2 ^ cd_n h k + 1) 0 (Nat.zero_le _) (by omega) _ _ (by rw [cd_zB0]; exact hP) (by rw [cd_zB0]; exact hD) hS _ (lv_sub hl [4, 5, 3, 2, 1, 0] rfl)

set_option maxHeartbeats 4000000 in
set_option maxRecDepth 100000 in
theorem mt1_holes (l : Launch) (D : va_G) (a : Nat → Nat) (z : Nat → ClassId) (h M : Nat → Bool) (k0 : Int32) : cd_J l yX1_holes (ws_ yX1_holes cX1_holes 6 (some .int)) (cd_rm 5 125) [.ref (a 0), .int k0] D (cd_MT z) (cd_MW a z h M) (cd_dv (fun k => nI (cd_hb (cd_mark h k M).2 (cd_cy h k (2 ^ cd_n h k)) 10 0)) k0) (cd_FM a z h) := by
  refine cd_J.mk cX1_holes 6 .int RX1 (by decide) rfl (cd_narI _) (Nat.le_of_ble_eq_true rfl) ?_
  intro p e s m args below meth c A Q hx hb hml hown hts hA hK hD hP hS hret ls hl
  have hl : lv_has ls 6 [(0, .ref (a 0)), (1, .int k0)] := hl
  refine lv_iload_n hx hb dX1_holes_0 rfl (lv_at hl 1 rfl) ?_
  refine cd_callS [] hx hb hml hown hts hA (mt1_bad l D _ _ k0) (va_cwS 1 hts (lw_S q159 q160 q16 q161) rfl rfl rfl (by decide +kernel) ⟨Nat.le_of_ble_eq_true rfl, Nat.le_of_ble_eq_true rfl⟩) hK hD hP hS rfl hl.1 rfl rfl (Nat.le_of_ble_eq_true rfl) dX1_holes_1 ⟨Nat.zero_le _, Nat.zero_le _⟩ (fun H locs hP hD hS => ?_)
  refine cb_ifeq (tgt := 9) hx hb dX1_holes_4 (by decide) (fun c4 => ?_) (fun c4 => ?_)
  · obtain ⟨k, hk, rfl⟩ := cd_dimE (k0 := k0) (by simpa using c4)
    have hi10 := cd_cnt_le (h := h) hk
    refine lv_aload_n hx hb dX1_holes_9 rfl (lv_at hl 0 rfl) ?_
    refine lv_iload_n hx hb dX1_holes_10 rfl (lv_at hl 1 rfl) ?_
    refine cd_callV [] hx hb hml hown hts hA (mt1_mark l D a z h M k hk) (cwV 1 hts (lw_V q195 q197 qs13 q16 q198) rfl rfl rfl (by decide +kernel) ⟨Nat.le_of_ble_eq_true rfl, Nat.le_of_ble_eq_true rfl⟩) hK hD hP hS rfl (va_recv hK hP (ci := 1) (q0 := 0) rfl rfl) hl.1 rfl rfl (Nat.le_of_ble_eq_true rfl) dX1_holes_11 ⟨Nat.zero_le _, Nat.zero_le _⟩ (fun H locs hP hD hS => ?_)
    refine lv_istore_n (lv' := [(2, .int (nI ((cd_mark h k M).2))), (0, .ref (a 0)), (1, .int (nI k))]) hx hb dX1_holes_14 rfl hl (by decide) rfl (fun ls hl => ?_)
    refine lv_iconst (v := nI 0) hx hb dX1_holes_15 (by decide) ?_
    refine lv_istore_n (lv' := [(3, .int (nI 0)), (2, .int (nI ((cd_mark h k M).2))), (0, .ref (a 0)), (1, .int (nI k))]) hx hb dX1_holes_16 rfl hl (by decide) rfl (fun ls hl => ?_)
    refine lv_aload_n hx hb dX1_holes_17 rfl (lv_at hl 2 rfl) ?_
    refine lv_iload_n hx hb dX1_holes_18 rfl (lv_at hl 3 rfl) ?_
    refine cd_callV [] hx hb hml hown hts hA (mt1_chains l D a z h ((cd_mark h k M).1) k (by omega)) (cwV 1 hts (lw_V q177 q179 qs10 q16 q180) rfl rfl rfl (by decide +kernel) ⟨Nat.le_of_ble_eq_true rfl, Nat.le_of_ble_eq_true rfl⟩) hK hD hP hS rfl (va_recv hK hP (ci := 1) (q0 := 0) rfl rfl) hl.1 rfl rfl (Nat.le_of_ble_eq_true rfl) dX1_holes_19 ⟨Nat.zero_le _, Nat.zero_le _⟩ (fun H locs hP hD hS => ?_)
    refine lv_istore (lv' := [(4, .int (nI (2 ^ cd_n h k))), (3, .int (nI 0)), (2, .int (nI ((cd_mark h k M).2))), (0, .ref (a 0)), (1, .int (nI k))]) hx hb dX1_holes_22 hl (by decide) rfl (fun ls hl => ?_)
    refine lv_iconst (v := nI 0) hx hb dX1_holes_24 (by decide) ?_
    refine lv_istore (lv' := [(5, .int (nI 0)), (4, .int (nI (2 ^ cd_n h k))), (3, .int (nI 0)), (2, .int (nI ((cd_mark h k M).2))), (0, .ref (a 0)), (1, .int (nI k))]) hx hb dX1_holes_25 hl (by decide) rfl (fun ls hl => ?_)
    have hp1 := cd_pow_le (cd_n_le h k)
    have hp2 := cd_pow_le (cd_n_le h (k + 1))
    have hf1 : (cd_mark h k M).2 ≤ 2 ^ cd_n h (k + 1) := cd_mk2_le h k _ _
    have hy1 := cd_cy_le h k (2 ^ cd_n h k)
    have hv : cd_dv (fun k => nI (cd_hb (cd_mark h k M).2 (cd_cy h k (2 ^ cd_n h k)) 10 0)) (nI k) = nI (cd_hb (cd_mark h k M).2 (cd_cy h k (2 ^ cd_n h k)) 10 0) := by rw [cd_dv_t hk] <;> rfl
    have loop2 : ∀ (n b : Nat), n + b = 10 → cd_hb (cd_mark h k M).2 (cd_cy h k (2 ^ cd_n h k)) n b = cd_hb (cd_mark h k M).2 (cd_cy h k (2 ^ cd_n h k)) 10 0 → ∀ (H : Heap) (locs : List Loc), va_P D vwCl (cd_MW a z h ((cd_mark h k M).1)) H → va_D A (cd_MW a z h ((cd_mark h k M).1)) → va_S A s.heap H locs → ∀ ls : Array Slot, lv_has ls 6 [(0, .ref (a 0)), (1, .int (nI k)), (2, .int (nI ((cd_mark h k M).2))), (3, .int (nI (cd_cy h k (2 ^ cd_n h k)))), (5, .int (nI b))] → W p l e (cd_rm 5 125) s m args below meth c H locs 0 0 Q (F0 m 56 ls []) := by
      intro n
      induction n with
      | zero =>
        intro b h1 he H locs hP hD hS ls hl
        refine lv_iload hx hb dX1_holes_56 (lv_at hl 4 rfl) ?_
        refine lv_bipush (v := nI 10) hx hb dX1_holes_58 (by decide) ?_
        refine cn_ge (tgt := 77) hx hb dX1_holes_60 (by decide) (by omega) (by omega) (fun c60 => ?_) (fun c60 => ?_)
        · refine lv_iload hx hb dX1_holes_77 (lv_at hl 4 rfl) ?_
          exact cd_top (by rw [hv, ← he] <;> rfl) (hret ⟨_, rfl⟩ hP hS dX1_holes_79)
        · exact absurd c60 (by omega)
      | succ n ih =>
        intro b h1 he H locs hP hD hS ls hl
        refine lv_iload hx hb dX1_holes_56 (lv_at hl 4 rfl) ?_
        refine lv_bipush (v := nI 10) hx hb dX1_holes_58 (by decide) ?_
        refine cn_ge (tgt := 77) hx hb dX1_holes_60 (by decide) (by omega) (by omega) (fun c60 => ?_) (fun c60 => ?_)
        · exact absurd c60 (by omega)
        · have hb9 : 2 ^ b ≤ 2 ^ 9 := Nat.pow_le_pow_right (by decide) (by omega)
          have hfb : (cd_mark h k M).2 * 2 ^ b ≤ 1024 * 2 ^ 9 := Nat.mul_le_mul (by omega) hb9
          refine lv_iload_n hx hb dX1_holes_63 rfl (lv_at hl 2 rfl) ?_
          refine lv_iload hx hb dX1_holes_64 (lv_at hl 4 rfl) ?_
          refine cn_shl hx hb (by omega) (by omega) dX1_holes_66 ?_
          refine lv_iload_n hx hb dX1_holes_67 rfl (lv_at hl 3 rfl) ?_
          refine cn_ge (tgt := 77) hx hb dX1_holes_68 (by decide) (by omega) (by omega) (fun c68 => ?_) (fun c68 => ?_)
          · refine lv_iload hx hb dX1_holes_77 (lv_at hl 4 rfl) ?_
            exact cd_top (by rw [hv, ← he]; show nI b = nI (if (cd_mark h k M).2 * 2 ^ b < cd_cy h k (2 ^ cd_n h k) then _ else b); rw [if_neg (Nat.not_lt.mpr c68)]) (hret ⟨_, rfl⟩ hP hS dX1_holes_79)
          · refine lv_iinc (v := (nI (b + 1))) (lv' := [(5, .int (nI (b + 1))), (0, .ref (a 0)), (1, .int (nI k)), (2, .int (nI ((cd_mark h k M).2))), (3, .int (nI (cd_cy h k (2 ^ cd_n h k))))]) hx hb dX1_holes_71 hl (k := 4) rfl (cd_inc b) (by decide) rfl (fun ls hl => ?_)
            refine lv_goto (tgt := 56) hx hb dX1_holes_74 (by decide) ?_
            have e1 : cd_hb (cd_mark h k M).2 (cd_cy h k (2 ^ cd_n h k)) n (b + 1) = cd_hb (cd_mark h k M).2 (cd_cy h k (2 ^ cd_n h k)) 10 0 := by
              rw [← he]
              show _ = (if (cd_mark h k M).2 * 2 ^ b < cd_cy h k (2 ^ cd_n h k) then cd_hb (cd_mark h k M).2 (cd_cy h k (2 ^ cd_n h k)) n (b + 1) else b)
              rw [if_pos c68]
            exact ih (b + 1) (by omega) e1 _ _ hP hD hS _ (lv_sub hl [1, 2, 3, 4, 0] rfl)
    have loop : ∀ (n i : Nat), i ≤ 2 ^ cd_n h k → 2 ^ cd_n h k + 1 ≤ i + n → ∀ (H : Heap) (locs : List Loc), va_P D vwCl (cd_MW a z h ((cd_mark h k M).1)) H → va_D A (cd_MW a z h ((cd_mark h k M).1)) → va_S A s.heap H locs → ∀ ls : Array Slot, lv_has ls 6 [(0, .ref (a 0)), (1, .int (nI k)), (2, .int (nI ((cd_mark h k M).2))), (3, .int (nI (cd_cy h k i))), (4, .int (nI (2 ^ cd_n h k))), (5, .int (nI i))] → W p l e (cd_rm 5 125) s m args below meth c H locs 0 0 Q (F0 m 27 ls []) := by
      intro n
      induction n with
      | zero => intro i h1 h2; omega
      | succ n ih =>
        intro i h1 h2 H locs hP hD hS ls hl
        refine lv_iload hx hb dX1_holes_27 (lv_at hl 5 rfl) ?_
        refine lv_iload hx hb dX1_holes_29 (lv_at hl 4 rfl) ?_
        refine cn_ge (tgt := 53) hx hb dX1_holes_31 (by decide) (by omega) (by omega) (fun c31 => ?_) (fun c31 => ?_)
        · have ei : i = 2 ^ cd_n h k := by omega
          refine lv_iconst (v := nI 0) hx hb dX1_holes_53 (by decide) ?_
          refine lv_istore (lv' := [(5, .int (nI 0)), (0, .ref (a 0)), (1, .int (nI k)), (2, .int (nI ((cd_mark h k M).2))), (3, .int (nI (cd_cy h k i))), (4, .int (nI (2 ^ cd_n h k)))]) hx hb dX1_holes_54 hl (by decide) rfl (fun ls hl => ?_)
          exact loop2 10 0 (by omega) rfl _ _ hP hD hS _ (by rw [← ei]; exact lv_sub hl [1, 2, 3, 4, 0] rfl)
        · refine lv_aload_n hx hb dX1_holes_34 rfl (lv_at hl 0 rfl) ?_
          refine lv_iload_n hx hb dX1_holes_35 rfl (lv_at hl 1 rfl) ?_
          refine lv_iload hx hb dX1_holes_36 (lv_at hl 5 rfl) ?_
          refine cd_callV [] hx hb hml hown hts hA (mt1_boundaryOf l D a z h ((cd_mark h k M).1) k i (by omega) (by omega)) (cwV 2 hts (lw_V q182 q184 qs11 q16 q185) rfl rfl rfl (by decide +kernel) ⟨Nat.le_of_ble_eq_true rfl, Nat.le_of_ble_eq_true rfl⟩) hK hD hP hS rfl (va_recv hK hP (ci := 1) (q0 := 0) rfl rfl) hl.1 rfl rfl (Nat.le_of_ble_eq_true rfl) dX1_holes_38 ⟨Nat.zero_le _, Nat.zero_le _⟩ (fun H locs hP hD hS => ?_)
          refine cn_ifne (tgt := 47) hx hb dX1_holes_41 (by decide) (by have := cd_mbnd_lt4 h (k := k) (by omega) i; omega) (fun c41 => ?_) (fun c41 => ?_)
          · refine lv_iinc (v := (nI (i + 1))) (lv' := [(5, .int (nI (i + 1))), (0, .ref (a 0)), (1, .int (nI k)), (2, .int (nI ((cd_mark h k M).2))), (3, .int (nI (cd_cy h k i))), (4, .int (nI (2 ^ cd_n h k)))]) hx hb dX1_holes_47 hl (k := 5) rfl (cd_inc i) (by decide) rfl (fun ls hl => ?_)
            refine lv_goto (tgt := 27) hx hb dX1_holes_50 (by decide) ?_
            have e1 : cd_cy h k (i + 1) = cd_cy h k i := by
              show cd_cy h k i + (if cd_mbnd h k i = 0 then 1 else 0) = _
              rw [if_neg c41]; rfl
            exact ih (i + 1) (by omega) (by omega) _ _ hP hD hS _ (by rw [e1]; exact lv_sub hl [1, 2, 3, 4, 5, 0] rfl)
          · refine lv_iinc (v := (nI (cd_cy h k i + 1))) (lv' := [(3, .int (nI (cd_cy h k i + 1))), (0, .ref (a 0)), (1, .int (nI k)), (2, .int (nI ((cd_mark h k M).2))), (4, .int (nI (2 ^ cd_n h k))), (5, .int (nI i))]) hx hb dX1_holes_44 hl (k := 3) rfl (cd_inc (cd_cy h k i)) (by decide) rfl (fun ls hl => ?_)
            refine lv_iinc (v := (nI (i + 1))) (lv' := [(5, .int (nI (i + 1))), (3, .int (nI (cd_cy h k i + 1))), (0, .ref (a 0)), (1, .int (nI k)), (2, .int (nI ((cd_mark h k M).2))), (4, .int (nI (2 ^ cd_n h k)))]) hx hb dX1_holes_47 hl (k := 5) rfl (cd_inc i) (by decide) rfl (fun ls hl => ?_)
            refine lv_goto (tgt := 27) hx hb dX1_holes_50 (by decide) ?_
            have e1 : cd_cy h k (i + 1) = cd_cy h k i + 1 := by
              show cd_cy h k i + (if cd_mbnd h k i = 0 then 1 else 0) = _
              rw [if_pos c41]
            exact ih (i + 1) (by omega) (by omega) _ _ hP hD hS _ (by rw [e1]; exact lv_sub hl [2, 3, 4, 1, 5, 0] rfl)
    exact loop (2 ^ cd_n h k + 1) 0 (Nat.zero_le _) (by omega) _ _ hP hD hS _ (lv_sub hl [4, 5, 3, 2, 1, 0] rfl)
  · refine lv_iconst (v := -1) hx hb dX1_holes_7 (by decide) ?_
    exact cd_top (cd_dv_f (by simpa using c4)).symm (hret ⟨_, rfl⟩ hP hS dX1_holes_8)

set_option maxHeartbeats 4000000 in
set_option maxRecDepth 100000 in
theorem mt1_filled (l : Launch) (D : va_G) (a : Nat → Nat) (z : Nat → ClassId) (h M : Nat → Bool) (k0 x0 : Int32) : cd_J l yX1_filled (ws_ yX1_filled cX1_filled 3 (some .int)) (cd_rm 5 125) [.ref (a 0), .int k0, .int x0] D (cd_MT z) (cd_MW a z h M) (cd_cv h (fun k x => cd_b ((cd_mark h k M).1 x)) k0 x0) (cd_FM a z h) := by
  refine cd_J.mk cX1_filled 3 .int RX1 (by decide) rfl (cd_narI _) (Nat.le_of_ble_eq_true rfl) ?_
  intro p e s m args below meth c A Q hx hb hml hown hts hA hK hD hP hS hret ls hl
  have hl : lv_has ls 3 [(0, .ref (a 0)), (1, .int k0), (2, .int x0)] := hl
  refine lv_aload_n hx hb dX1_filled_0 rfl (lv_at hl 0 rfl) ?_
  refine lv_iload_n hx hb dX1_filled_1 rfl (lv_at hl 1 rfl) ?_
  refine lv_iload_n hx hb dX1_filled_2 rfl (lv_at hl 2 rfl) ?_
  refine cd_callV [] hx hb hml hown hts hA (mt1_noChain l D a z h M k0 x0) (cwV 2 hts (lw_V q173 q175 qs9 q16 q176) rfl rfl rfl (by decide +kernel) ⟨Nat.le_of_ble_eq_true rfl, Nat.le_of_ble_eq_true rfl⟩) hK hD hP hS rfl (va_recv hK hP (ci := 1) (q0 := 0) rfl rfl) hl.1 rfl rfl (Nat.le_of_ble_eq_true rfl) dX1_filled_3 ⟨Nat.zero_le _, Nat.zero_le _⟩ (fun H locs hP hD hS => ?_)
  refine cb_ifeq (tgt := 11) hx hb dX1_filled_6 (by decide) (fun c6 => ?_) (fun c6 => ?_)
  · obtain ⟨k, x, hk, hx1, hx2, rfl, rfl⟩ := cd_chnE (h := h) (k0 := k0) (x0 := x0) (by simpa using c6)
    refine lv_aload_n hx hb dX1_filled_11 rfl (lv_at hl 0 rfl) ?_
    refine lv_iload_n hx hb dX1_filled_12 rfl (lv_at hl 1 rfl) ?_
    refine cd_callV [] hx hb hml hown hts hA (mt1_mark l D a z h M k hk) (cwV 1 hts (lw_V q195 q197 qs13 q16 q198) rfl rfl rfl (by decide +kernel) ⟨Nat.le_of_ble_eq_true rfl, Nat.le_of_ble_eq_true rfl⟩) hK hD hP hS rfl (va_recv hK hP (ci := 1) (q0 := 0) rfl rfl) hl.1 rfl rfl (Nat.le_of_ble_eq_true rfl) dX1_filled_13 ⟨Nat.zero_le _, Nat.zero_le _⟩ (fun H locs hP hD hS => ?_)
    refine lv_pop hx hb dX1_filled_16 rfl ?_
    refine lv_aload_n hx hb dX1_filled_17 rfl (lv_at hl 0 rfl) ?_
    refine gy_marked hx hb hts hown hK hP dX1_filled_18 ?_
    refine lv_iload_n hx hb dX1_filled_21 rfl (lv_at hl 2 rfl) ?_
    refine ay_marked hx hb hK hP (by omega) dX1_filled_22 ?_
    refine cb_ifeq (tgt := 30) hx hb dX1_filled_23 (by decide) (fun c23 => ?_) (fun c23 => ?_)
    · refine lv_iconst (v := nI 0) hx hb dX1_filled_30 (by decide) ?_
      exact cd_top (by rw [cd_cv_t hk hx1 hx2]; show _ = cd_b ((cd_mark h k M).1 x); rw [c23]; rfl) (hret ⟨_, rfl⟩ hP hS dX1_filled_31)
    · refine lv_iconst (v := nI 1) hx hb dX1_filled_26 (by decide) ?_
      refine lv_goto (tgt := 31) hx hb dX1_filled_27 (by decide) ?_
      exact cd_top (by rw [cd_cv_t hk hx1 hx2]; show _ = cd_b ((cd_mark h k M).1 x); rw [c23]; rfl) (hret ⟨_, rfl⟩ hP hS dX1_filled_31)
  · refine lv_iconst (v := -1) hx hb dX1_filled_9 (by decide) ?_
    exact cd_top (cd_cv_f (by simpa using c6)).symm (hret ⟨_, rfl⟩ hP hS dX1_filled_10)

set_option maxHeartbeats 4000000 in
set_option maxRecDepth 100000 in
theorem mt1_filling (l : Launch) (D : va_G) (a : Nat → Nat) (z : Nat → ClassId) (h M : Nat → Bool) (k0 x0 : Int32) : cd_J l yX1_filling (ws_ yX1_filling cX1_filling 5 (some .int)) (cd_rm 4 99) [.ref (a 0), .int k0, .int x0] D (cd_MT z) (cd_MW a z h M) (cd_cv h (fun k x => cd_fl h k x (2 ^ cd_n h (k + 1)) 0) k0 x0) (cd_FM a z h) := by
  refine cd_J.mk cX1_filling 5 .int RX1 (by decide) rfl (cd_narI _) (Nat.le_of_ble_eq_true rfl) ?_
  intro p e s m args below meth c A Q hx hb hml hown hts hA hK hD hP hS hret ls hl
  have hl : lv_has ls 5 [(0, .ref (a 0)), (1, .int k0), (2, .int x0)] := hl
  refine lv_aload_n hx hb dX1_filling_0 rfl (lv_at hl 0 rfl) ?_
  refine lv_iload_n hx hb dX1_filling_1 rfl (lv_at hl 1 rfl) ?_
  refine lv_iload_n hx hb dX1_filling_2 rfl (lv_at hl 2 rfl) ?_
  refine cd_callV [] hx hb hml hown hts hA (mt1_noChain l D a z h M k0 x0) (cwV 2 hts (lw_V q173 q175 qs9 q16 q176) rfl rfl rfl (by decide +kernel) ⟨Nat.le_of_ble_eq_true rfl, Nat.le_of_ble_eq_true rfl⟩) hK hD hP hS rfl (va_recv hK hP (ci := 1) (q0 := 0) rfl rfl) hl.1 rfl rfl (Nat.le_of_ble_eq_true rfl) dX1_filling_3 ⟨Nat.zero_le _, Nat.zero_le _⟩ (fun H locs hP hD hS => ?_)
  refine cb_ifeq (tgt := 11) hx hb dX1_filling_6 (by decide) (fun c6 => ?_) (fun c6 => ?_)
  · obtain ⟨k, x, hk, hx1, hx2, rfl, rfl⟩ := cd_chnE (h := h) (k0 := k0) (x0 := x0) (by simpa using c6)
    refine lv_aload_n hx hb dX1_filling_11 rfl (lv_at hl 0 rfl) ?_
    refine lv_iload_n hx hb dX1_filling_12 rfl (lv_at hl 1 rfl) ?_
    refine lv_iconst (v := nI 1) hx hb dX1_filling_13 (by decide) ?_
    refine cn_add hx hb dX1_filling_14 ?_
    refine cd_callV [] hx hb hml hown hts hA (mt1_chains l D a z h M (k + 1) (by omega)) (cwV 1 hts (lw_V q177 q179 qs10 q16 q180) rfl rfl rfl (by decide +kernel) ⟨Nat.le_of_ble_eq_true rfl, Nat.le_of_ble_eq_true rfl⟩) hK hD hP hS rfl (va_recv hK hP (ci := 1) (q0 := 0) rfl rfl) hl.1 rfl rfl (Nat.le_of_ble_eq_true rfl) dX1_filling_15 ⟨Nat.zero_le _, Nat.zero_le _⟩ (fun H locs hP hD hS => ?_)
    refine lv_istore_n (lv' := [(3, .int (nI (2 ^ cd_n h (k + 1)))), (0, .ref (a 0)), (1, .int (nI k)), (2, .int (nI x))]) hx hb dX1_filling_18 rfl hl (by decide) rfl (fun ls hl => ?_)
    refine lv_iconst (v := nI 0) hx hb dX1_filling_19 (by decide) ?_
    refine lv_istore (lv' := [(4, .int (nI 0)), (3, .int (nI (2 ^ cd_n h (k + 1)))), (0, .ref (a 0)), (1, .int (nI k)), (2, .int (nI x))]) hx hb dX1_filling_20 hl (by decide) rfl (fun ls hl => ?_)
    have hp2 := cd_pow_le (cd_n_le h (k + 1))
    have hv : cd_cv h (fun k x => cd_fl h k x (2 ^ cd_n h (k + 1)) 0) (nI k) (nI x) = cd_fl h k x (2 ^ cd_n h (k + 1)) 0 := by rw [cd_cv_t hk hx1 hx2] <;> rfl
    have loop : ∀ (n i : Nat), n + i = 2 ^ cd_n h (k + 1) → cd_fl h k x n i = cd_fl h k x (2 ^ cd_n h (k + 1)) 0 → ∀ (H : Heap) (locs : List Loc), va_P D vwCl (cd_MW a z h M) H → va_D A (cd_MW a z h M) → va_S A s.heap H locs → ∀ ls : Array Slot, lv_has ls 5 [(0, .ref (a 0)), (1, .int (nI k)), (2, .int (nI x)), (3, .int (nI (2 ^ cd_n h (k + 1)))), (4, .int (nI i))] → W p l e (cd_rm 4 99) s m args below meth c H locs 0 0 Q (F0 m 22 ls []) := by
      intro n
      induction n with
      | zero =>
        intro i h1 he H locs hP hD hS ls hl
        refine lv_iload hx hb dX1_filling_22 (lv_at hl 4 rfl) ?_
        refine lv_iload_n hx hb dX1_filling_24 rfl (lv_at hl 3 rfl) ?_
        refine cn_ge (tgt := 50) hx hb dX1_filling_25 (by decide) (by omega) (by omega) (fun c25 => ?_) (fun c25 => ?_)
        · refine lv_bipush (v := -2) hx hb dX1_filling_50 (by decide) ?_
          exact cd_top (by rw [hv, ← he] <;> rfl) (hret ⟨_, rfl⟩ hP hS dX1_filling_52)
        · exact absurd c25 (by omega)
      | succ n ih =>
        intro i h1 he H locs hP hD hS ls hl
        have he2 : (if cd_mbnd h (k + 1) i = x then nI i else cd_fl h k x n (i + 1)) = cd_fl h k x (2 ^ cd_n h (k + 1)) 0 := he
        refine lv_iload hx hb dX1_filling_22 (lv_at hl 4 rfl) ?_
        refine lv_iload_n hx hb dX1_filling_24 rfl (lv_at hl 3 rfl) ?_
        refine cn_ge (tgt := 50) hx hb dX1_filling_25 (by decide) (by omega) (by omega) (fun c25 => ?_) (fun c25 => ?_)
        · exact absurd c25 (by omega)
        · refine lv_aload_n hx hb dX1_filling_28 rfl (lv_at hl 0 rfl) ?_
          refine lv_iload_n hx hb dX1_filling_29 rfl (lv_at hl 1 rfl) ?_
          refine lv_iconst (v := nI 1) hx hb dX1_filling_30 (by decide) ?_
          refine cn_add hx hb dX1_filling_31 ?_
          refine lv_iload hx hb dX1_filling_32 (lv_at hl 4 rfl) ?_
          refine cd_callV [] hx hb hml hown hts hA (mt1_boundaryOf l D a z h M (k + 1) i (by omega) (by omega)) (cwV 2 hts (lw_V q182 q184 qs11 q16 q185) rfl rfl rfl (by decide +kernel) ⟨Nat.le_of_ble_eq_true rfl, Nat.le_of_ble_eq_true rfl⟩) hK hD hP hS rfl (va_recv hK hP (ci := 1) (q0 := 0) rfl rfl) hl.1 rfl rfl (Nat.le_of_ble_eq_true rfl) dX1_filling_34 ⟨Nat.zero_le _, Nat.zero_le _⟩ (fun H locs hP hD hS => ?_)
          refine lv_iload_n hx hb dX1_filling_37 rfl (lv_at hl 2 rfl) ?_
          refine cn_ne (tgt := 44) hx hb dX1_filling_38 (by decide) (by have := cd_mbnd_lt4 h (k := k + 1) (by omega) i; omega) (by omega) (fun c38 => ?_) (fun c38 => ?_)
          · refine lv_iinc (v := (nI (i + 1))) (lv' := [(4, .int (nI (i + 1))), (0, .ref (a 0)), (1, .int (nI k)), (2, .int (nI x)), (3, .int (nI (2 ^ cd_n h (k + 1))))]) hx hb dX1_filling_44 hl (k := 4) rfl (cd_inc i) (by decide) rfl (fun ls hl => ?_)
            refine lv_goto (tgt := 22) hx hb dX1_filling_47 (by decide) ?_
            rw [if_neg c38] at he2
            exact ih (i + 1) (by omega) he2 _ _ hP hD hS _ (lv_sub hl [1, 2, 3, 4, 0] rfl)
          · refine lv_iload hx hb dX1_filling_41 (lv_at hl 4 rfl) ?_
            exact cd_top (by rw [hv, ← he2, if_pos c38]) (hret ⟨_, rfl⟩ hP hS dX1_filling_43)
    exact loop (2 ^ cd_n h (k + 1)) 0 rfl rfl _ _ hP hD hS _ (lv_sub hl [2, 3, 4, 1, 0] rfl)
  · refine lv_iconst (v := -1) hx hb dX1_filling_9 (by decide) ?_
    exact cd_top (cd_cv_f (by simpa using c6)).symm (hret ⟨_, rfl⟩ hP hS dX1_filling_10)

set_option maxHeartbeats 4000000 in
set_option maxRecDepth 100000 in
theorem mt1_least (l : Launch) (D : va_G) (a : Nat → Nat) (z : Nat → ClassId) (h M : Nat → Bool) (k0 x0 : Int32) : cd_J l yX1_least (ws_ yX1_least cX1_least 5 (some .int)) (cd_rm 5 125) [.ref (a 0), .int k0, .int x0] D (cd_MT z) (cd_MW a z h M) (cd_cv h (fun k x => nI (cd_ls (cd_mark h k M).1 x (2 ^ cd_n h k) 0)) k0 x0) (cd_FM a z h) := by
  refine cd_J.mk cX1_least 5 .int RX1 (by decide) rfl (cd_narI _) (Nat.le_of_ble_eq_true rfl) ?_
  intro p e s m args below meth c A Q hx hb hml hown hts hA hK hD hP hS hret ls hl
  have hl : lv_has ls 5 [(0, .ref (a 0)), (1, .int k0), (2, .int x0)] := hl
  refine lv_aload_n hx hb dX1_least_0 rfl (lv_at hl 0 rfl) ?_
  refine lv_iload_n hx hb dX1_least_1 rfl (lv_at hl 1 rfl) ?_
  refine lv_iload_n hx hb dX1_least_2 rfl (lv_at hl 2 rfl) ?_
  refine cd_callV [] hx hb hml hown hts hA (mt1_noChain l D a z h M k0 x0) (cwV 2 hts (lw_V q173 q175 qs9 q16 q176) rfl rfl rfl (by decide +kernel) ⟨Nat.le_of_ble_eq_true rfl, Nat.le_of_ble_eq_true rfl⟩) hK hD hP hS rfl (va_recv hK hP (ci := 1) (q0 := 0) rfl rfl) hl.1 rfl rfl (Nat.le_of_ble_eq_true rfl) dX1_least_3 ⟨Nat.zero_le _, Nat.zero_le _⟩ (fun H locs hP hD hS => ?_)
  refine cb_ifeq (tgt := 11) hx hb dX1_least_6 (by decide) (fun c6 => ?_) (fun c6 => ?_)
  · obtain ⟨k, x, hk, hx1, hx2, rfl, rfl⟩ := cd_chnE (h := h) (k0 := k0) (x0 := x0) (by simpa using c6)
    refine lv_aload_n hx hb dX1_least_11 rfl (lv_at hl 0 rfl) ?_
    refine lv_iload_n hx hb dX1_least_12 rfl (lv_at hl 1 rfl) ?_
    refine cd_callV [] hx hb hml hown hts hA (mt1_mark l D a z h M k hk) (cwV 1 hts (lw_V q195 q197 qs13 q16 q198) rfl rfl rfl (by decide +kernel) ⟨Nat.le_of_ble_eq_true rfl, Nat.le_of_ble_eq_true rfl⟩) hK hD hP hS rfl (va_recv hK hP (ci := 1) (q0 := 0) rfl rfl) hl.1 rfl rfl (Nat.le_of_ble_eq_true rfl) dX1_least_13 ⟨Nat.zero_le _, Nat.zero_le _⟩ (fun H locs hP hD hS => ?_)
    refine lv_pop hx hb dX1_least_16 rfl ?_
    refine lv_aload_n hx hb dX1_least_17 rfl (lv_at hl 0 rfl) ?_
    refine lv_iload_n hx hb dX1_least_18 rfl (lv_at hl 1 rfl) ?_
    refine cd_callV [] hx hb hml hown hts hA (mt1_chains l D a z h ((cd_mark h k M).1) k (by omega)) (cwV 1 hts (lw_V q177 q179 qs10 q16 q180) rfl rfl rfl (by decide +kernel) ⟨Nat.le_of_ble_eq_true rfl, Nat.le_of_ble_eq_true rfl⟩) hK hD hP hS rfl (va_recv hK hP (ci := 1) (q0 := 0) rfl rfl) hl.1 rfl rfl (Nat.le_of_ble_eq_true rfl) dX1_least_19 ⟨Nat.zero_le _, Nat.zero_le _⟩ (fun H locs hP hD hS => ?_)
    refine lv_istore_n (lv' := [(3, .int (nI (2 ^ cd_n h k))), (0, .ref (a 0)), (1, .int (nI k)), (2, .int (nI x))]) hx hb dX1_least_22 rfl hl (by decide) rfl (fun ls hl => ?_)
    refine lv_iconst (v := nI 0) hx hb dX1_least_23 (by decide) ?_
    refine lv_istore (lv' := [(4, .int (nI 0)), (3, .int (nI (2 ^ cd_n h k))), (0, .ref (a 0)), (1, .int (nI k)), (2, .int (nI x))]) hx hb dX1_least_24 hl (by decide) rfl (fun ls hl => ?_)
    have hp2 := cd_pow_le (cd_n_le h k)
    have hv : cd_cv h (fun k x => nI (cd_ls (cd_mark h k M).1 x (2 ^ cd_n h k) 0)) (nI k) (nI x) = nI (cd_ls (cd_mark h k M).1 x (2 ^ cd_n h k) 0) := by rw [cd_cv_t hk hx1 hx2] <;> rfl
    have loop : ∀ (n i : Nat), n + i = 2 ^ cd_n h k → cd_ls (cd_mark h k M).1 x n i = cd_ls (cd_mark h k M).1 x (2 ^ cd_n h k) 0 → ∀ (H : Heap) (locs : List Loc), va_P D vwCl (cd_MW a z h ((cd_mark h k M).1)) H → va_D A (cd_MW a z h ((cd_mark h k M).1)) → va_S A s.heap H locs → ∀ ls : Array Slot, lv_has ls 5 [(0, .ref (a 0)), (1, .int (nI k)), (2, .int (nI x)), (3, .int (nI (2 ^ cd_n h k))), (4, .int (nI i))] → W p l e (cd_rm 5 125) s m args below meth c H locs 0 0 Q (F0 m 26 ls []) := by
      intro n
      induction n with
      | zero =>
        intro i h1 he H locs hP hD hS ls hl
        refine lv_iload hx hb dX1_least_26 (lv_at hl 4 rfl) ?_
        refine lv_iload_n hx hb dX1_least_28 rfl (lv_at hl 3 rfl) ?_
        refine cn_ge (tgt := 53) hx hb dX1_least_29 (by decide) (by omega) (by omega) (fun c29 => ?_) (fun c29 => ?_)
        · refine lv_iload_n hx hb dX1_least_53 rfl (lv_at hl 2 rfl) ?_
          exact cd_top (by rw [hv, ← he] <;> rfl) (hret ⟨_, rfl⟩ hP hS dX1_least_54)
        · exact absurd c29 (by omega)
      | succ n ih =>
        intro i h1 he H locs hP hD hS ls hl
        have he2 : (if (cd_mark h k M).1 (i ^^^ x) = true then i else cd_ls (cd_mark h k M).1 x n (i + 1)) = cd_ls (cd_mark h k M).1 x (2 ^ cd_n h k) 0 := he
        refine lv_iload hx hb dX1_least_26 (lv_at hl 4 rfl) ?_
        refine lv_iload_n hx hb dX1_least_28 rfl (lv_at hl 3 rfl) ?_
        refine cn_ge (tgt := 53) hx hb dX1_least_29 (by decide) (by omega) (by omega) (fun c29 => ?_) (fun c29 => ?_)
        · exact absurd c29 (by omega)
        · refine lv_aload_n hx hb dX1_least_32 rfl (lv_at hl 0 rfl) ?_
          refine gy_marked hx hb hts hown hK hP dX1_least_33 ?_
          refine lv_iload hx hb dX1_least_36 (lv_at hl 4 rfl) ?_
          refine lv_iload_n hx hb dX1_least_38 rfl (lv_at hl 2 rfl) ?_
          refine cn_xor hx hb dX1_least_39 ?_
          refine ay_marked hx hb hK hP (Nat.xor_lt_two_pow (n := 10) (show i < 2 ^ 10 by omega) hx2) dX1_least_40 ?_
          refine cb_ifeq (tgt := 47) hx hb dX1_least_41 (by decide) (fun c41 => ?_) (fun c41 => ?_)
          · refine lv_iinc (v := (nI (i + 1))) (lv' := [(4, .int (nI (i + 1))), (0, .ref (a 0)), (1, .int (nI k)), (2, .int (nI x)), (3, .int (nI (2 ^ cd_n h k)))]) hx hb dX1_least_47 hl (k := 4) rfl (cd_inc i) (by decide) rfl (fun ls hl => ?_)
            refine lv_goto (tgt := 26) hx hb dX1_least_50 (by decide) ?_
            rw [if_neg (by rw [c41]; decide)] at he2
            exact ih (i + 1) (by omega) he2 _ _ hP hD hS _ (lv_sub hl [1, 2, 3, 4, 0] rfl)
          · refine lv_iload hx hb dX1_least_44 (lv_at hl 4 rfl) ?_
            exact cd_top (by rw [hv, ← he2, if_pos c41]) (hret ⟨_, rfl⟩ hP hS dX1_least_46)
    exact loop (2 ^ cd_n h k) 0 rfl rfl _ _ hP hD hS _ (lv_sub hl [2, 3, 4, 1, 0] rfl)
  · refine lv_iconst (v := -1) hx hb dX1_least_9 (by decide) ?_
    exact cd_top (cd_cv_f (by simpa using c6)).symm (hret ⟨_, rfl⟩ hP hS dX1_least_10)

set_option maxHeartbeats 4000000 in
set_option maxRecDepth 100000 in
theorem mt1_alternating (l : Launch) (D : va_G) (a : Nat → Nat) (z : Nat → ClassId) (h M : Nat → Bool)  : cd_I l yX1_alternating (ws_ yX1_alternating cX1_alternating 3 (some .int)) (cd_rm 1 22) [.ref (a 0)] D (cd_MT z) (cd_MW a z h M) (cd_am h 32) (cd_MW a z h M) := by
  refine cd_I.mk cX1_alternating 3 .int RX1 (by decide) rfl (cd_narI _) (Nat.le_of_ble_eq_true rfl) ?_
  intro p e s m args below meth c A Q hx hb hml hown hts hA hK hD hP hS hret ls hl
  have hl : lv_has ls 3 [(0, .ref (a 0))] := hl
  have loop : ∀ (n i : Nat), 1 ≤ i → i ≤ 32 → 33 ≤ i + n → ∀ (H : Heap) (locs : List Loc), va_P D vwCl (cd_MW a z h M) H → va_D A (cd_MW a z h M) → va_S A s.heap H locs → ∀ ls : Array Slot, lv_has ls 3 [(0, .ref (a 0)), (1, .int (cd_am h i)), (2, .int (nI i))] → W p l e (cd_rm 1 22) s m args below meth c H locs 0 0 Q (F0 m 4 ls []) := by
    intro n
    induction n with
    | zero => intro i h0 h1 h2; omega
    | succ n ih =>
      intro i h0 h1 h2 H locs hP hD hS ls hl
      refine lv_iload_n hx hb dX1_alternating_4 rfl (lv_at hl 2 rfl) ?_
      refine lv_bipush (v := nI 32) hx hb dX1_alternating_5 (by decide) ?_
      refine cn_ge (tgt := 43) hx hb dX1_alternating_7 (by decide) (by omega) (by omega) (fun c7 => ?_) (fun c7 => ?_)
      · refine lv_iload_n hx hb dX1_alternating_43 rfl (lv_at hl 1 rfl) ?_
        exact cd_top (by rw [show i = 32 by omega]) (hret hP hS dX1_alternating_44)
      · refine lv_aload_n hx hb dX1_alternating_10 rfl (lv_at hl 0 rfl) ?_
        refine gy_held hx hb hts hown hK hP dX1_alternating_11 ?_
        refine lv_iload_n hx hb dX1_alternating_14 rfl (lv_at hl 2 rfl) ?_
        refine ay_held hx hb hK hP (by omega) dX1_alternating_15 ?_
        refine cb_ifeq (tgt := 37) hx hb dX1_alternating_16 (by decide) (fun c16 => ?_) (fun c16 => ?_)
        · refine lv_iinc (v := (nI (i + 1))) (lv' := [(2, .int (nI (i + 1))), (0, .ref (a 0)), (1, .int (cd_am h i))]) hx hb dX1_alternating_37 hl (k := 2) rfl (cd_inc i) (by decide) rfl (fun ls hl => ?_)
          refine lv_goto (tgt := 4) hx hb dX1_alternating_40 (by decide) ?_
          have e1 : cd_am h (i + 1) = cd_am h i := by
            have hi0 : (i != 0) = true := by simp; omega
            show cd_am h i + (if ((i != 0) && h i) = true then (if cd_pts i % 2 = 1 then 1 else -1) else 0) = _
            rw [c16, Bool.and_false]
            exact Int32.add_zero _
          exact ih (i + 1) (by omega) (by omega) (by omega) _ _ hP hD hS _ (by rw [e1]; exact lv_sub hl [1, 2, 0] rfl)
        · refine lv_iload_n hx hb dX1_alternating_19 rfl (lv_at hl 1 rfl) ?_
          refine lv_iload_n hx hb dX1_alternating_20 rfl (lv_at hl 2 rfl) ?_
          refine cd_callS [.int (cd_am h i)] hx hb hml hown hts hA (mt1_points l D _ _ i (by omega)) (va_cwS 1 hts (lw_S q162 q163 q16 q164) rfl rfl rfl (by decide +kernel) ⟨Nat.le_of_ble_eq_true rfl, Nat.le_of_ble_eq_true rfl⟩) hK hD hP hS rfl hl.1 rfl rfl (Nat.le_of_ble_eq_true rfl) dX1_alternating_21 ⟨Nat.zero_le _, Nat.zero_le _⟩ (fun H locs hP hD hS => ?_)
          refine lv_iconst (v := nI 2) hx hb dX1_alternating_24 (by decide) ?_
          refine cn_rem hx hb (by have := cd_pts_le i; omega) (by omega) (by omega) dX1_alternating_25 ?_
          refine lv_iconst (v := nI 1) hx hb dX1_alternating_26 (by decide) ?_
          refine cn_ne (tgt := 34) hx hb dX1_alternating_27 (by decide) (by omega) (by omega) (fun c27 => ?_) (fun c27 => ?_)
          · refine lv_iconst (v := -1) hx hb dX1_alternating_34 (by decide) ?_
            refine lv_iadd hx hb dX1_alternating_35 ?_
            refine lv_istore_n (lv' := [(1, .int ((cd_am h i) + ((-1)))), (0, .ref (a 0)), (2, .int (nI i))]) hx hb dX1_alternating_36 rfl hl (by decide) rfl (fun ls hl => ?_)
            refine lv_iinc (v := (nI (i + 1))) (lv' := [(2, .int (nI (i + 1))), (1, .int ((cd_am h i) + ((-1)))), (0, .ref (a 0))]) hx hb dX1_alternating_37 hl (k := 2) rfl (cd_inc i) (by decide) rfl (fun ls hl => ?_)
            refine lv_goto (tgt := 4) hx hb dX1_alternating_40 (by decide) ?_
            have e1 : cd_am h (i + 1) = (cd_am h i) + ((-1)) := by
              have hi0 : (i != 0) = true := by simp; omega
              show cd_am h i + (if ((i != 0) && h i) = true then (if cd_pts i % 2 = 1 then 1 else -1) else 0) = _
              rw [c16, hi0, Bool.and_self, if_pos rfl, if_neg c27]
            exact ih (i + 1) (by omega) (by omega) (by omega) _ _ hP hD hS _ (by rw [e1]; exact lv_sub hl [2, 1, 0] rfl)
          · refine lv_iconst (v := nI 1) hx hb dX1_alternating_30 (by decide) ?_
            refine lv_goto (tgt := 35) hx hb dX1_alternating_31 (by decide) ?_
            refine lv_iadd hx hb dX1_alternating_35 ?_
            refine lv_istore_n (lv' := [(1, .int ((cd_am h i) + (nI 1))), (0, .ref (a 0)), (2, .int (nI i))]) hx hb dX1_alternating_36 rfl hl (by decide) rfl (fun ls hl => ?_)
            refine lv_iinc (v := (nI (i + 1))) (lv' := [(2, .int (nI (i + 1))), (1, .int ((cd_am h i) + (nI 1))), (0, .ref (a 0))]) hx hb dX1_alternating_37 hl (k := 2) rfl (cd_inc i) (by decide) rfl (fun ls hl => ?_)
            refine lv_goto (tgt := 4) hx hb dX1_alternating_40 (by decide) ?_
            have e1 : cd_am h (i + 1) = (cd_am h i) + (nI 1) := by
              have hi0 : (i != 0) = true := by simp; omega
              show cd_am h i + (if ((i != 0) && h i) = true then (if cd_pts i % 2 = 1 then 1 else -1) else 0) = _
              rw [c16, hi0, Bool.and_self, if_pos rfl, if_pos c27]; rfl
            exact ih (i + 1) (by omega) (by omega) (by omega) _ _ hP hD hS _ (by rw [e1]; exact lv_sub hl [2, 1, 0] rfl)
  refine lv_iconst (v := nI 0) hx hb dX1_alternating_0 (by decide) ?_
  refine lv_istore_n (lv' := [(1, .int (nI 0)), (0, .ref (a 0))]) hx hb dX1_alternating_1 rfl hl (by decide) rfl (fun ls hl => ?_)
  refine lv_iconst (v := nI 1) hx hb dX1_alternating_2 (by decide) ?_
  refine lv_istore_n (lv' := [(2, .int (nI 1)), (1, .int (nI 0)), (0, .ref (a 0))]) hx hb dX1_alternating_3 rfl hl (by decide) rfl (fun ls hl => ?_)
  exact loop 33 1 (by omega) (by omega) (by omega) _ _ hP hD hS _ (by rw [show cd_am h 1 = nI 0 from rfl]; exact lv_sub hl [2, 1, 0] rfl)
end
section
/-! the constructors -/
set_option maxHeartbeats 4000000 in
set_option maxRecDepth 100000 in
theorem mt0_init (l : Launch) (D : va_G) (h0 sz : Nat) : Met l yX0_init (ws_ yX0_init cX0_init 1 none) ({ frames := 1, cells := 4, slots := 62, locals := 12 } : Room) (va_Pc [.ref h0] (fun U => U.heap.size = sz ∧ va_P D vwCl [(h0, .inr (0, [.null, .null, .null, .null, .int 0, .int 0, .int 0]))] U.heap ∧ va_K D vwCl [] U ∧ va_D (fun _ => True) [(h0, .inr (0, [.null, .null, .null, .null, .int 0, .int 0, .int 0]))])) (va_Qv (fun (_ : Unit) => True) (fun (_ : Unit) (t : State) => ∃ (a : Nat → Nat) (z : Nat → ClassId), a 0 = h0 ∧ va_P D vwCl (cd_DW a z (fun _ => false) (fun _ => 0) (fun _ => 0) (fun _ => 0) 0 0 0) t.heap ∧ va_K D vwCl (cd_DT z) t ∧ va_D (va_A [(h0, .inr (0, [.null, .null, .null, .null, .int 0, .int 0, .int 0]))] sz) (cd_DW a z (fun _ => false) (fun _ => 0) (fun _ => 0) (fun _ => 0) 0 0 0)) (va_A [(h0, .inr (0, [.null, .null, .null, .null, .int 0, .int 0, .int 0]))] sz)) 4 62 (va_A [(h0, .inr (0, [.null, .null, .null, .null, .int 0, .int 0, .int 0]))] sz) := by
  refine Met.ofW (cc := cX0_init) (maxL := 1) (ret := none) (by decide) rfl ?_
  intro p e s m args below meth c s₁ B hml hv
  obtain ⟨rfl, hsz, hP, hK, hD0⟩ := hv
  have hx := B.exec
  have hb := B.bytes
  have hr := B.returns
  have hts := atoms_spec (ws := ws_ yX0_init cX0_init 1 none) B.pre
  have hts : ∀ w ∈ lw_all, w.before _ s = true := fun w h => hts w (List.mem_cons_of_mem _ h)
  have hown : s.vm.findClass RX0 = some m.cls := findClass_of_methodNamed B.named
  have hlocks := B.notSynchronized
  have hin : meth.name = "<init>" := (name_of_methodNamed B.named B.method).1
  subst hsz
  have hD := hD0.self (sz := s.heap.size)
  generalize hAe : va_A [(h0, .inr (0, [.null, .null, .null, .null, .int 0, .int 0, .int 0]))] s.heap.size = A at hD ⊢
  have hA : ∀ q : Nat, s.heap.size ≤ q → A q := fun q h => by rw [← hAe]; exact Or.inr h
  have hS : va_S A s.heap s.heap [] := va_S.rf
  have hl := lv_entry ([.ref h0]) (n := 1) (Nat.le_of_ble_eq_true rfl)
  rw [lg_entry_eq]
  generalize (lg_sl ([.ref h0]) ++ List.replicate (1 - (lg_sl ([.ref h0])).length) Slot.unset).toArray = ls at hl ⊢
  have hl : lv_has ls 1 [(0, .ref h0)] := hl
  refine lv_aload_n hx hb dX0_init_0 rfl (lv_at hl 0 rfl) ?_
  refine W.objInit hx hb hown (hts _ q22) (hts _ q23) (hts _ q24) rfl (by rw [hml]; exact hl.1) rfl dX0_init_1 (Nat.le_of_ble_eq_true rfl) (Nat.le_of_ble_eq_true rfl) ?_
  refine W.eq (g2 := F0 m 4 ls []) rfl ?_
  refine lv_aload_n hx hb dX0_init_4 rfl (lv_at hl 0 rfl) ?_
  refine lv_bipush (v := nI 32) hx hb dX0_init_5 (by decide) ?_
  refine va_newa (atype := .boolean) (ty := .boolean) (N' := 32) (a0 := (32, .inl (cd_BF (fun _ => false)))) hx hb (hts _ q47) rfl hK hP hD hS hA (fun _ => rfl) (by decide) (by decide) (by decide) (Nat.le_of_ble_eq_true rfl) (Nat.le_of_ble_eq_true rfl) dX0_init_7 (fun q1 k1 H hK hP hD hS => ?_)
  have hP : va_P D vwCl [(h0, .inr (0, [.null, .null, .null, .null, .int 0, .int 0, .int 0])), (q1, .inl (k1, 32, .inl (cd_BF (fun _ => false))))] H := hP
  have hD : va_D A [(h0, .inr (0, [.null, .null, .null, .null, .int 0, .int 0, .int 0])), (q1, .inl (k1, 32, .inl (cd_BF (fun _ => false))))] := hD
  have hK : va_K D vwCl [(k1, .boolean)] s := hK
  refine W.widen (k := 1) (n := 32) (by decide) (by decide) ?_
  refine va_putF (D := D) (ci := 0) (v := .ref q1) (ty := .array .boolean) (C := RX0) (T := TX0) (N := 7) hx hb hts in_X0 tyX0 tyX0_ok nmX0 hown hK hP hD hS 0 rfl rfl 0 (by decide) (hts _ q25) (fun _ h9 => h9) rfl hin rfl (by decide +kernel) rfl rfl (Nat.le_of_ble_eq_true rfl) dX0_init_9 (fun H locs hP hD hS => ?_)
  have hP : va_P D vwCl [(h0, .inr (0, [.ref q1, .null, .null, .null, .int 0, .int 0, .int 0])), (q1, .inl (k1, 32, .inl (cd_BF (fun _ => false))))] H := hP
  have hD : va_D A [(h0, .inr (0, [.ref q1, .null, .null, .null, .int 0, .int 0, .int 0])), (q1, .inl (k1, 32, .inl (cd_BF (fun _ => false))))] := hD
  refine lv_aload_n hx hb dX0_init_12 rfl (lv_at hl 0 rfl) ?_
  refine lv_bipush (v := nI 10) hx hb dX0_init_13 (by decide) ?_
  refine va_newa (atype := .int) (ty := .int) (N' := 10) (a0 := (10, .inl (cd_NF (fun _ => 0)))) hx hb (hts _ q48) rfl hK hP hD hS hA (fun _ => rfl) (by decide) (by decide) (by decide) (Nat.le_of_ble_eq_true rfl) (Nat.le_of_ble_eq_true rfl) dX0_init_15 (fun q2 k2 H hK hP hD hS => ?_)
  have hP : va_P D vwCl [(h0, .inr (0, [.ref q1, .null, .null, .null, .int 0, .int 0, .int 0])), (q1, .inl (k1, 32, .inl (cd_BF (fun _ => false)))), (q2, .inl (k2, 10, .inl (cd_NF (fun _ => 0))))] H := hP
  have hD : va_D A [(h0, .inr (0, [.ref q1, .null, .null, .null, .int 0, .int 0, .int 0])), (q1, .inl (k1, 32, .inl (cd_BF (fun _ => false)))), (q2, .inl (k2, 10, .inl (cd_NF (fun _ => 0))))] := hD
  have hK : va_K D vwCl [(k1, .boolean), (k2, .int)] s := hK
  refine W.widen (k := 2) (n := 42) (by decide) (by decide) ?_
  refine va_putF (D := D) (ci := 0) (v := .ref q2) (ty := .array .int) (C := RX0) (T := TX0) (N := 7) hx hb hts in_X0 tyX0 tyX0_ok nmX0 hown hK hP hD hS 0 rfl rfl 1 (by decide) (hts _ q26) (fun _ h9 => h9) rfl hin rfl (by decide +kernel) rfl rfl (Nat.le_of_ble_eq_true rfl) dX0_init_17 (fun H locs hP hD hS => ?_)
  have hP : va_P D vwCl [(h0, .inr (0, [.ref q1, .ref q2, .null, .null, .int 0, .int 0, .int 0])), (q1, .inl (k1, 32, .inl (cd_BF (fun _ => false)))), (q2, .inl (k2, 10, .inl (cd_NF (fun _ => 0))))] H := hP
  have hD : va_D A [(h0, .inr (0, [.ref q1, .ref q2, .null, .null, .int 0, .int 0, .int 0])), (q1, .inl (k1, 32, .inl (cd_BF (fun _ => false)))), (q2, .inl (k2, 10, .inl (cd_NF (fun _ => 0))))] := hD
  refine lv_aload_n hx hb dX0_init_20 rfl (lv_at hl 0 rfl) ?_
  refine lv_bipush (v := nI 10) hx hb dX0_init_21 (by decide) ?_
  refine va_newa (atype := .int) (ty := .int) (N' := 10) (a0 := (10, .inl (cd_NF (fun _ => 0)))) hx hb (hts _ q48) rfl hK hP hD hS hA (fun _ => rfl) (by decide) (by decide) (by decide) (Nat.le_of_ble_eq_true rfl) (Nat.le_of_ble_eq_true rfl) dX0_init_23 (fun q3 k3 H hK hP hD hS => ?_)
  have hP : va_P D vwCl [(h0, .inr (0, [.ref q1, .ref q2, .null, .null, .int 0, .int 0, .int 0])), (q1, .inl (k1, 32, .inl (cd_BF (fun _ => false)))), (q2, .inl (k2, 10, .inl (cd_NF (fun _ => 0)))), (q3, .inl (k3, 10, .inl (cd_NF (fun _ => 0))))] H := hP
  have hD : va_D A [(h0, .inr (0, [.ref q1, .ref q2, .null, .null, .int 0, .int 0, .int 0])), (q1, .inl (k1, 32, .inl (cd_BF (fun _ => false)))), (q2, .inl (k2, 10, .inl (cd_NF (fun _ => 0)))), (q3, .inl (k3, 10, .inl (cd_NF (fun _ => 0))))] := hD
  have hK : va_K D vwCl [(k1, .boolean), (k2, .int), (k3, .int)] s := hK
  refine W.widen (k := 3) (n := 52) (by decide) (by decide) ?_
  refine va_putF (D := D) (ci := 0) (v := .ref q3) (ty := .array .int) (C := RX0) (T := TX0) (N := 7) hx hb hts in_X0 tyX0 tyX0_ok nmX0 hown hK hP hD hS 0 rfl rfl 2 (by decide) (hts _ q27) (fun _ h9 => h9) rfl hin rfl (by decide +kernel) rfl rfl (Nat.le_of_ble_eq_true rfl) dX0_init_25 (fun H locs hP hD hS => ?_)
  have hP : va_P D vwCl [(h0, .inr (0, [.ref q1, .ref q2, .ref q3, .null, .int 0, .int 0, .int 0])), (q1, .inl (k1, 32, .inl (cd_BF (fun _ => false)))), (q2, .inl (k2, 10, .inl (cd_NF (fun _ => 0)))), (q3, .inl (k3, 10, .inl (cd_NF (fun _ => 0))))] H := hP
  have hD : va_D A [(h0, .inr (0, [.ref q1, .ref q2, .ref q3, .null, .int 0, .int 0, .int 0])), (q1, .inl (k1, 32, .inl (cd_BF (fun _ => false)))), (q2, .inl (k2, 10, .inl (cd_NF (fun _ => 0)))), (q3, .inl (k3, 10, .inl (cd_NF (fun _ => 0))))] := hD
  refine lv_aload_n hx hb dX0_init_28 rfl (lv_at hl 0 rfl) ?_
  refine lv_bipush (v := nI 10) hx hb dX0_init_29 (by decide) ?_
  refine va_newa (atype := .int) (ty := .int) (N' := 10) (a0 := (10, .inl (cd_NF (fun _ => 0)))) hx hb (hts _ q48) rfl hK hP hD hS hA (fun _ => rfl) (by decide) (by decide) (by decide) (Nat.le_of_ble_eq_true rfl) (Nat.le_of_ble_eq_true rfl) dX0_init_31 (fun q4 k4 H hK hP hD hS => ?_)
  have hP : va_P D vwCl [(h0, .inr (0, [.ref q1, .ref q2, .ref q3, .null, .int 0, .int 0, .int 0])), (q1, .inl (k1, 32, .inl (cd_BF (fun _ => false)))), (q2, .inl (k2, 10, .inl (cd_NF (fun _ => 0)))), (q3, .inl (k3, 10, .inl (cd_NF (fun _ => 0)))), (q4, .inl (k4, 10, .inl (cd_NF (fun _ => 0))))] H := hP
  have hD : va_D A [(h0, .inr (0, [.ref q1, .ref q2, .ref q3, .null, .int 0, .int 0, .int 0])), (q1, .inl (k1, 32, .inl (cd_BF (fun _ => false)))), (q2, .inl (k2, 10, .inl (cd_NF (fun _ => 0)))), (q3, .inl (k3, 10, .inl (cd_NF (fun _ => 0)))), (q4, .inl (k4, 10, .inl (cd_NF (fun _ => 0))))] := hD
  have hK : va_K D vwCl [(k1, .boolean), (k2, .int), (k3, .int), (k4, .int)] s := hK
  refine W.widen (k := 4) (n := 62) (by decide) (by decide) ?_
  refine va_putF (D := D) (ci := 0) (v := .ref q4) (ty := .array .int) (C := RX0) (T := TX0) (N := 7) hx hb hts in_X0 tyX0 tyX0_ok nmX0 hown hK hP hD hS 0 rfl rfl 3 (by decide) (hts _ q28) (fun _ h9 => h9) rfl hin rfl (by decide +kernel) rfl rfl (Nat.le_of_ble_eq_true rfl) dX0_init_33 (fun H locs hP hD hS => ?_)
  have hP : va_P D vwCl [(h0, .inr (0, [.ref q1, .ref q2, .ref q3, .ref q4, .int 0, .int 0, .int 0])), (q1, .inl (k1, 32, .inl (cd_BF (fun _ => false)))), (q2, .inl (k2, 10, .inl (cd_NF (fun _ => 0)))), (q3, .inl (k3, 10, .inl (cd_NF (fun _ => 0)))), (q4, .inl (k4, 10, .inl (cd_NF (fun _ => 0))))] H := hP
  have hD : va_D A [(h0, .inr (0, [.ref q1, .ref q2, .ref q3, .ref q4, .int 0, .int 0, .int 0])), (q1, .inl (k1, 32, .inl (cd_BF (fun _ => false)))), (q2, .inl (k2, 10, .inl (cd_NF (fun _ => 0)))), (q3, .inl (k3, 10, .inl (cd_NF (fun _ => 0)))), (q4, .inl (k4, 10, .inl (cd_NF (fun _ => 0))))] := hD
  refine W.vret hx hb hr (fun t ht hW => ⟨⟨(), rfl, trivial, (fun k => match k with | 0 => h0 | 1 => q1 | 2 => q2 | 3 => q3 | _ => q4), (fun k => match k with | 1 => k1 | 2 => k2 | 3 => k3 | _ => k4), rfl, by rw [ht]; exact hP, va_K.moved hW.alike hK, ?_⟩, hS.F ht⟩) hS.2.2 dX0_init_36
  exact hD
set_option maxHeartbeats 4000000 in
set_option maxRecDepth 100000 in
theorem mt1_init (l : Launch) (D : va_G) (h0 sz : Nat) : Met l yX1_init (ws_ yX1_init cX1_init 1 none) ({ frames := 1, cells := 2, slots := 1056, locals := 12 } : Room) (va_Pc [.ref h0] (fun U => U.heap.size = sz ∧ va_P D vwCl [(h0, .inr (1, [.null, .null]))] U.heap ∧ va_K D vwCl [] U ∧ va_D (fun _ => True) [(h0, .inr (1, [.null, .null]))])) (va_Qv (fun (_ : Unit) => True) (fun (_ : Unit) (t : State) => ∃ (a : Nat → Nat) (z : Nat → ClassId), a 0 = h0 ∧ va_P D vwCl (cd_MW a z (fun _ => false) (fun _ => false)) t.heap ∧ va_K D vwCl (cd_MT z) t ∧ va_D (va_A [(h0, .inr (1, [.null, .null]))] sz) (cd_MW a z (fun _ => false) (fun _ => false))) (va_A [(h0, .inr (1, [.null, .null]))] sz)) 2 1056 (va_A [(h0, .inr (1, [.null, .null]))] sz) := by
  refine Met.ofW (cc := cX1_init) (maxL := 1) (ret := none) (by decide) rfl ?_
  intro p e s m args below meth c s₁ B hml hv
  obtain ⟨rfl, hsz, hP, hK, hD0⟩ := hv
  have hx := B.exec
  have hb := B.bytes
  have hr := B.returns
  have hts := atoms_spec (ws := ws_ yX1_init cX1_init 1 none) B.pre
  have hts : ∀ w ∈ lw_all, w.before _ s = true := fun w h => hts w (List.mem_cons_of_mem _ h)
  have hown : s.vm.findClass RX1 = some m.cls := findClass_of_methodNamed B.named
  have hlocks := B.notSynchronized
  have hin : meth.name = "<init>" := (name_of_methodNamed B.named B.method).1
  subst hsz
  have hD := hD0.self (sz := s.heap.size)
  generalize hAe : va_A [(h0, .inr (1, [.null, .null]))] s.heap.size = A at hD ⊢
  have hA : ∀ q : Nat, s.heap.size ≤ q → A q := fun q h => by rw [← hAe]; exact Or.inr h
  have hS : va_S A s.heap s.heap [] := va_S.rf
  have hl := lv_entry ([.ref h0]) (n := 1) (Nat.le_of_ble_eq_true rfl)
  rw [lg_entry_eq]
  generalize (lg_sl ([.ref h0]) ++ List.replicate (1 - (lg_sl ([.ref h0])).length) Slot.unset).toArray = ls at hl ⊢
  have hl : lv_has ls 1 [(0, .ref h0)] := hl
  refine lv_aload_n hx hb dX1_init_0 rfl (lv_at hl 0 rfl) ?_
  refine W.objInit hx hb hown (hts _ q139) (hts _ q23) (hts _ q24) rfl (by rw [hml]; exact hl.1) rfl dX1_init_1 (Nat.le_of_ble_eq_true rfl) (Nat.le_of_ble_eq_true rfl) ?_
  refine W.eq (g2 := F0 m 4 ls []) rfl ?_
  refine lv_aload_n hx hb dX1_init_4 rfl (lv_at hl 0 rfl) ?_
  refine lv_bipush (v := nI 32) hx hb dX1_init_5 (by decide) ?_
  refine va_newa (atype := .boolean) (ty := .boolean) (N' := 32) (a0 := (32, .inl (cd_BF (fun _ => false)))) hx hb (hts _ q47) rfl hK hP hD hS hA (fun _ => rfl) (by decide) (by decide) (by decide) (Nat.le_of_ble_eq_true rfl) (Nat.le_of_ble_eq_true rfl) dX1_init_7 (fun q1 k1 H hK hP hD hS => ?_)
  have hP : va_P D vwCl [(h0, .inr (1, [.null, .null])), (q1, .inl (k1, 32, .inl (cd_BF (fun _ => false))))] H := hP
  have hD : va_D A [(h0, .inr (1, [.null, .null])), (q1, .inl (k1, 32, .inl (cd_BF (fun _ => false))))] := hD
  have hK : va_K D vwCl [(k1, .boolean)] s := hK
  refine W.widen (k := 1) (n := 32) (by decide) (by decide) ?_
  refine va_putF (D := D) (ci := 1) (v := .ref q1) (ty := .array .boolean) (C := RX1) (T := TX1) (N := 2) hx hb hts in_X1 tyX1 tyX1_ok nmX1 hown hK hP hD hS 0 rfl rfl 0 (by decide) (hts _ q140) (fun _ h9 => h9) rfl hin rfl (by decide +kernel) rfl rfl (Nat.le_of_ble_eq_true rfl) dX1_init_9 (fun H locs hP hD hS => ?_)
  have hP : va_P D vwCl [(h0, .inr (1, [.ref q1, .null])), (q1, .inl (k1, 32, .inl (cd_BF (fun _ => false))))] H := hP
  have hD : va_D A [(h0, .inr (1, [.ref q1, .null])), (q1, .inl (k1, 32, .inl (cd_BF (fun _ => false))))] := hD
  refine lv_aload_n hx hb dX1_init_12 rfl (lv_at hl 0 rfl) ?_
  refine lv_sipush (v := nI 1024) hx hb dX1_init_13 (by decide) ?_
  refine va_newa (atype := .boolean) (ty := .boolean) (N' := 1024) (a0 := (1024, .inl (cd_BF (fun _ => false)))) hx hb (hts _ q47) rfl hK hP hD hS hA (fun _ => rfl) (by decide) (by decide) (by decide) (Nat.le_of_ble_eq_true rfl) (Nat.le_of_ble_eq_true rfl) dX1_init_16 (fun q2 k2 H hK hP hD hS => ?_)
  have hP : va_P D vwCl [(h0, .inr (1, [.ref q1, .null])), (q1, .inl (k1, 32, .inl (cd_BF (fun _ => false)))), (q2, .inl (k2, 1024, .inl (cd_BF (fun _ => false))))] H := hP
  have hD : va_D A [(h0, .inr (1, [.ref q1, .null])), (q1, .inl (k1, 32, .inl (cd_BF (fun _ => false)))), (q2, .inl (k2, 1024, .inl (cd_BF (fun _ => false))))] := hD
  have hK : va_K D vwCl [(k1, .boolean), (k2, .boolean)] s := hK
  refine W.widen (k := 2) (n := 1056) (by decide) (by decide) ?_
  refine va_putF (D := D) (ci := 1) (v := .ref q2) (ty := .array .boolean) (C := RX1) (T := TX1) (N := 2) hx hb hts in_X1 tyX1 tyX1_ok nmX1 hown hK hP hD hS 0 rfl rfl 1 (by decide) (hts _ q141) (fun _ h9 => h9) rfl hin rfl (by decide +kernel) rfl rfl (Nat.le_of_ble_eq_true rfl) dX1_init_18 (fun H locs hP hD hS => ?_)
  have hP : va_P D vwCl [(h0, .inr (1, [.ref q1, .ref q2])), (q1, .inl (k1, 32, .inl (cd_BF (fun _ => false)))), (q2, .inl (k2, 1024, .inl (cd_BF (fun _ => false))))] H := hP
  have hD : va_D A [(h0, .inr (1, [.ref q1, .ref q2])), (q1, .inl (k1, 32, .inl (cd_BF (fun _ => false)))), (q2, .inl (k2, 1024, .inl (cd_BF (fun _ => false))))] := hD
  refine W.vret hx hb hr (fun t ht hW => ⟨⟨(), rfl, trivial, (fun k => match k with | 0 => h0 | 1 => q1 | _ => q2), (fun k => match k with | 1 => k1 | _ => k2), rfl, by rw [ht]; exact hP, va_K.moved hW.alike hK, ?_⟩, hS.F ht⟩) hS.2.2 dX1_init_21
  exact hD
section CDLAW
variable {p : Program} {l : Launch} {e : Env} {Rm : Room} {s : State} {m : MethodId} {args : Array Value} {below : List Frame} {meth : Method} {c : Code} {H : Heap} {locs : List Loc} {cells slots : Nat} {Q : State → Prop}
variable {cc : ByteArray} {pc : Nat} {ls : Array Slot} {D : va_G} {A : Nat → Prop} {H0 : Heap}
theorem cd_lawJ {y : MethodName} {bytes : ByteArray} {maxL nL n index : Nat} {ret : Option FieldType} {rm : Room} {own C : String} {As st : List Value} {b : Nat} {w  wz : va_W} {tys : List (ClassId × FieldType)} {v : Int32} {ws : List Cond} {F : va_W → Prop} (rest : List Value)
    (hx : p.tables.exec = Jvm.exec) (hb : c.code = cc) (hml : c.maxLocals = nL) (hown : s.vm.findClass own = some m.cls) (hts : ∀ w ∈ lw_all, w.before args s = true) (hA : ∀ q, H0.size ≤ q → A q)
    (hM : cd_J l y ws rm (.ref b :: As) D tys w v F) (cw : CallW Rm s args own C index y bytes maxL ret ws rm 0 0 n) (hK : va_K D vwCl tys s) (hD : va_D A w) (hP : va_P D vwCl w H) (hPz : va_P D vwCl wz H) (hap : ∀ x ∈ w.map Prod.fst, x ∉ wz.map Prod.fst) (hS : va_S A H0 H locs) (hrc : ∃ cell : Cell, H[b]? = some cell ∧ cell.vm.isStatics = false ∧ s.vm.findClass C = some cell.cls)
    (hl : ls.size = nL) (hn : As.length = n) (hst : st = As.reverse ++ .ref b :: rest) (hroom : (rest.map fun v => v.category).sum ≤ 8) (d : decode cc pc = .ok (.invokevirtual index, 3)) (hc : cells ≤ Rm.cells ∧ slots ≤ Rm.slots)
    (kk : ∀ (H1 : Heap) (locs1 : List Loc) (w' : va_W), F w' → va_P D vwCl w' H1 → va_P D vwCl wz H1 → va_S A H0 H1 locs1 → W p l e Rm s m args below meth c H1 locs1 cells slots Q (F0 m (pc + 3) ls (.int v :: rest))) : W p l e Rm s m args below meth c H locs cells slots Q (F0 m pc ls st) := by
  have hF : ∀ q, va_A w H.size q → A q := fun q h => by
    rcases h with ⟨k, e, h⟩ | h
    · exact hD.2 k (q, e) h
    · exact hA q (Nat.le_trans hS.1 h)
  refine va_calli (va_runV (As := As) (rest := rest) ⟨hx, hb, hml, hown, hts⟩ (hM H.size) cw ⟨fun a U g mk q => by obtain ⟨q0, q1, qP, qK, qD⟩ := q; exact ⟨q0, q1, qP, va_K.moved (u := U) (U := U.calling g mk a) (Vm.Alike.refl U.vm) qK, qD⟩, hrc, fun U hU hW => ⟨rfl, by rw [hU], by rw [hU]; exact hP, va_K.moved hW.alike hK, hD.weaken (fun _ _ _ _ => trivial)⟩⟩ rfl hn hl hst (lv_room hroom) d ⟨hc.1, hc.2⟩) hS (fun q _ h => hF q h) hF (fun r u t H1 locs1 ht hvm hw1 hB hz1 hk1 hS1 => ?_)
  subst hw1
  have hz : va_P D vwCl wz H1 := hPz.kept (fun k q hq => hk1 q.1 (hPz k q hq).lt (fun hh => by
    rcases hh with ⟨k2, e2, h2⟩ | h2
    · exact hap q.1 (List.mem_map.mpr ⟨(q.1, e2), List.mem_of_getElem? h2, rfl⟩) (List.mem_map.mpr ⟨q, List.mem_of_getElem? hq, rfl⟩)
    · exact absurd (hPz k q hq).lt (Nat.not_lt.mpr h2)))
  obtain ⟨w', hFw, hB⟩ := hB
  rw [ht] at hB
  exact kk H1 locs1 w' hFw hB hz hS1
theorem cd_lawI {y : MethodName} {bytes : ByteArray} {maxL nL n index : Nat} {ret : Option FieldType} {rm : Room} {own C : String} {As st : List Value} {b : Nat} {w w' wz : va_W} {tys : List (ClassId × FieldType)} {v : Int32} {ws : List Cond} (rest : List Value)
    (hx : p.tables.exec = Jvm.exec) (hb : c.code = cc) (hml : c.maxLocals = nL) (hown : s.vm.findClass own = some m.cls) (hts : ∀ w ∈ lw_all, w.before args s = true) (hA : ∀ q, H0.size ≤ q → A q)
    (hM : cd_I l y ws rm (.ref b :: As) D tys w v w') (cw : CallW Rm s args own C index y bytes maxL ret ws rm 0 0 n) (hK : va_K D vwCl tys s) (hD : va_D A w) (hP : va_P D vwCl w H) (hPz : va_P D vwCl wz H) (hap : ∀ x ∈ w.map Prod.fst, x ∉ wz.map Prod.fst) (hS : va_S A H0 H locs) (hrc : ∃ cell : Cell, H[b]? = some cell ∧ cell.vm.isStatics = false ∧ s.vm.findClass C = some cell.cls)
    (hl : ls.size = nL) (hn : As.length = n) (hst : st = As.reverse ++ .ref b :: rest) (hroom : (rest.map fun v => v.category).sum ≤ 8) (d : decode cc pc = .ok (.invokevirtual index, 3)) (hc : cells ≤ Rm.cells ∧ slots ≤ Rm.slots)
    (kk : ∀ (H1 : Heap) (locs1 : List Loc), va_P D vwCl w' H1 → va_P D vwCl wz H1 → va_S A H0 H1 locs1 → W p l e Rm s m args below meth c H1 locs1 cells slots Q (F0 m (pc + 3) ls (.int v :: rest))) : W p l e Rm s m args below meth c H locs cells slots Q (F0 m pc ls st) := by
  have hF : ∀ q, va_A w H.size q → A q := fun q h => by
    rcases h with ⟨k, e, h⟩ | h
    · exact hD.2 k (q, e) h
    · exact hA q (Nat.le_trans hS.1 h)
  refine va_calli (va_runV (As := As) (rest := rest) ⟨hx, hb, hml, hown, hts⟩ (hM H.size) cw ⟨fun a U g mk q => by obtain ⟨q0, q1, qP, qK, qD⟩ := q; exact ⟨q0, q1, qP, va_K.moved (u := U) (U := U.calling g mk a) (Vm.Alike.refl U.vm) qK, qD⟩, hrc, fun U hU hW => ⟨rfl, by rw [hU], by rw [hU]; exact hP, va_K.moved hW.alike hK, hD.weaken (fun _ _ _ _ => trivial)⟩⟩ rfl hn hl hst (lv_room hroom) d ⟨hc.1, hc.2⟩) hS (fun q _ h => hF q h) hF (fun r u t H1 locs1 ht hvm hw1 hB hz1 hk1 hS1 => ?_)
  subst hw1
  have hz : va_P D vwCl wz H1 := hPz.kept (fun k q hq => hk1 q.1 (hPz k q hq).lt (fun hh => by
    rcases hh with ⟨k2, e2, h2⟩ | h2
    · exact hap q.1 (List.mem_map.mpr ⟨(q.1, e2), List.mem_of_getElem? h2, rfl⟩) (List.mem_map.mpr ⟨q, List.mem_of_getElem? hq, rfl⟩)
    · exact absurd (hPz k q hq).lt (Nat.not_lt.mpr h2)))
  rw [ht] at hB
  exact kk H1 locs1 hB hz hS1
end CDLAW
theorem cd_lawcmp {L i : Nat} (hL : L ≤ 192) (hi : i ≤ 1000) : (nI L - nI 3 < nI i) ↔ L < i + 3 := by
  rw [Int32.lt_iff_toInt_lt, pk_sub_toInt (by omega) (by decide), nI_toInt (by omega)]
  omega
end
section
/-! plain law, 1: sets of simplices that are closed; alternating sums; bits -/
set_option maxRecDepth 100000
def cd_cl (h : Nat → Bool) : Prop := ∀ s, s < 32 → h s = true → ∀ t, 1 ≤ t → t &&& s = t → h t = true
theorem cd_cl0 : cd_cl (fun _ => false) := by
  intro s _ h
  cases h
theorem cd_ad_iff (x : Nat) (h : Nat → Bool) : ∀ n s, (cd_ad x h n).1 s = true ↔ (h s = true ∨ (s < n ∧ s ≠ 0 ∧ s &&& x = s)) := by
  intro n
  induction n with
  | zero =>
    intro s
    constructor
    · intro q; exact Or.inl q
    · rintro (q | q)
      · exact q
      · omega
  | succ n ih =>
    intro s
    by_cases h1 : n ≠ 0 ∧ n &&& x = n
    · by_cases h3 : (cd_ad x h n).1 n = true
      · rw [cd_adN2 h3, ih s]
        constructor
        · rintro (q | ⟨q, r⟩)
          · exact Or.inl q
          · exact Or.inr ⟨by omega, r⟩
        · rintro (q | ⟨q, r⟩)
          · exact Or.inl q
          · rcases Nat.lt_or_ge s n with w | w
            · exact Or.inr ⟨w, r⟩
            · have e : s = n := by omega
              rw [e]
              exact (ih n).mp h3
      · rw [cd_adS (by omega) h1.2 (by simpa using h3)]
        show cd_up (cd_ad x h n).1 n true s = true ↔ _
        unfold cd_up
        by_cases e : s = n
        · rw [if_pos e]
          constructor
          · intro _
            exact Or.inr ⟨by omega, by rw [e]; exact h1⟩
          · intro _; rfl
        · rw [if_neg e, ih s]
          constructor
          · rintro (q | ⟨q, r⟩)
            · exact Or.inl q
            · exact Or.inr ⟨by omega, r⟩
          · rintro (q | ⟨q, r⟩)
            · exact Or.inl q
            · exact Or.inr ⟨by omega, r⟩
    · have e1 : cd_ad x h (n + 1) = cd_ad x h n := by
        by_cases h2 : n &&& x = n
        · have h0 : n = 0 := by
            rcases Nat.eq_zero_or_pos n with q | q
            · exact q
            · exact absurd ⟨by omega, h2⟩ h1
          subst h0
          rfl
        · exact cd_adN1 h2
      rw [e1, ih s]
      constructor
      · rintro (q | ⟨q, r⟩)
        · exact Or.inl q
        · exact Or.inr ⟨by omega, r⟩
      · rintro (q | ⟨q, r⟩)
        · exact Or.inl q
        · rcases Nat.lt_or_ge s n with w | w
          · exact Or.inr ⟨w, r⟩
          · have e : s = n := by omega
            rw [e] at r
            exact absurd r h1
theorem cd_rem_iff (x : Nat) (h : Nat → Bool) : ∀ n s, (cd_rem x h n).1 s = true ↔ (h s = true ∧ ¬ (s < n ∧ s ≠ 0 ∧ s &&& x = x)) := by
  intro n
  induction n with
  | zero =>
    intro s
    constructor
    · intro q; exact ⟨q, by omega⟩
    · intro q; exact q.1
  | succ n ih =>
    intro s
    by_cases h1 : n ≠ 0 ∧ n &&& x = x
    · by_cases h3 : (cd_rem x h n).1 n = true
      · rw [cd_reS (by omega) h1.2 h3]
        show cd_up (cd_rem x h n).1 n false s = true ↔ _
        unfold cd_up
        by_cases e : s = n
        · rw [if_pos e]
          constructor
          · intro q; cases q
          · intro q
            exact absurd ⟨by omega, by rw [e]; exact h1⟩ q.2
        · rw [if_neg e, ih s]
          constructor
          · rintro ⟨q, r⟩
            exact ⟨q, fun w => r ⟨by omega, w.2⟩⟩
          · rintro ⟨q, r⟩
            exact ⟨q, fun w => r ⟨by omega, w.2⟩⟩
      · rw [cd_reN2 (by simpa using h3), ih s]
        constructor
        · rintro ⟨q, r⟩
          refine ⟨q, fun w => ?_⟩
          rcases Nat.lt_or_ge s n with v | v
          · exact r ⟨v, w.2⟩
          · have e : s = n := by omega
            subst e
            exact h3 ((ih s).mpr ⟨q, r⟩)
        · rintro ⟨q, r⟩
          exact ⟨q, fun w => r ⟨by omega, w.2⟩⟩
    · have e1 : cd_rem x h (n + 1) = cd_rem x h n := by
        by_cases h2 : n &&& x = x
        · have h0 : n = 0 := by
            rcases Nat.eq_zero_or_pos n with q | q
            · exact q
            · exact absurd ⟨by omega, h2⟩ h1
          subst h0
          rfl
        · exact cd_reN1 h2
      rw [e1, ih s]
      constructor
      · rintro ⟨q, r⟩
        refine ⟨q, fun w => ?_⟩
        rcases Nat.lt_or_ge s n with v | v
        · exact r ⟨v, w.2⟩
        · have e : s = n := by omega
          subst e
          exact h1 w.2
      · rintro ⟨q, r⟩
        exact ⟨q, fun w => r ⟨by omega, w.2⟩⟩
theorem cd_cl_ad {h : Nat → Bool} (hc : cd_cl h) (x : Int32) : cd_cl (cd_adH h x) := by
  unfold cd_adH
  split
  · intro s hs hh t ht hts
    rw [cd_ad_iff] at hh ⊢
    rcases hh with q | ⟨-, h0, hx⟩
    · exact Or.inl (hc s hs q t ht hts)
    · have hle : t ≤ s := by rw [← hts]; exact Nat.and_le_right
      refine Or.inr ⟨by omega, by omega, ?_⟩
      calc t &&& cd_k x = (t &&& s) &&& cd_k x := by rw [hts]
        _ = t &&& (s &&& cd_k x) := Nat.and_assoc _ _ _
        _ = t := by rw [hx, hts]
  · exact hc
theorem cd_cl_re {h : Nat → Bool} (hc : cd_cl h) (x : Int32) : cd_cl (cd_reH h x) := by
  unfold cd_reH
  split
  · intro s hs hh t ht hts
    rw [cd_rem_iff] at hh ⊢
    refine ⟨hc s hs hh.1 t ht hts, fun w => hh.2 ?_⟩
    have hle : t ≤ s := by rw [← hts]; exact Nat.and_le_right
    refine ⟨hs, by omega, ?_⟩
    calc s &&& cd_k x = s &&& (t &&& cd_k x) := by rw [w.2.2]
      _ = (s &&& t) &&& cd_k x := (Nat.and_assoc _ _ _).symm
      _ = cd_k x := by rw [Nat.and_comm s t, hts, w.2.2]
  · exact hc
/-! alternating sums -/
def cd_as (h : Nat → Bool) (n : Nat) : Int32 := nI (cd_rk h 1 n) - nI (cd_rk h 2 n) + nI (cd_rk h 3 n) - nI (cd_rk h 4 n) + nI (cd_rk h 5 n)
theorem cd_pts_0 : ∀ s, s < 32 → cd_pts s = 0 → s = 0 := by decide +kernel
theorem cd_as_am (h : Nat → Bool) : ∀ n, n ≤ 32 → cd_as h n = cd_am h n := by
  intro n
  induction n with
  | zero =>
    intro _
    show nI 0 - nI 0 + nI 0 - nI 0 + nI 0 = (0 : Int32)
    decide
  | succ n ih =>
    intro hn
    have e := ih (by omega)
    have hp5 := cd_pts_le n
    show cd_as h (n + 1) = cd_am h n + (if ((n != 0) && h n) = true then (if cd_pts n % 2 = 1 then 1 else -1) else 0)
    rw [← e]
    unfold cd_as
    by_cases hh : h n = true
    · rcases (show cd_pts n = 0 ∨ cd_pts n = 1 ∨ cd_pts n = 2 ∨ cd_pts n = 3 ∨ cd_pts n = 4 ∨ cd_pts n = 5 by omega) with q | q | q | q | q | q
      · have h0 := cd_pts_0 n (by omega) q
        subst h0
        simp [cd_rk, cd_sel, q]
      all_goals
        have hn0 : n ≠ 0 := fun w => by rw [w, cd_pts0] at q; cases q
        simp only [cd_rk, cd_sel, hh, q, hn0, bne_iff_ne, ne_eq, not_false_eq_true, decide_true, Bool.and_true, Bool.true_and, if_true]
        simp [hn0, ← nI_1]
        grind
    · simp [cd_rk, cd_sel, hh]
theorem cd_eq_alt (h : Nat → Bool) : cd_al h 5 = cd_am h 32 := by
  rw [← cd_as_am h 32 (Nat.le_refl _)]
  show ((((0 + nI (cd_cnt h 0)) + -(nI (cd_cnt h 1))) + nI (cd_cnt h 2)) + -(nI (cd_cnt h 3))) + nI (cd_cnt h 4) = _
  unfold cd_as cd_cnt
  grind
/-! bits -/
theorem cd_lt {x y b : Nat} (hx : x.testBit b = false) (hy : y.testBit b = true) (hn : ∀ j, b < j → x.testBit j = y.testBit j) : x < y := by
  have hq : x / 2 ^ (b + 1) = y / 2 ^ (b + 1) := by
    apply Nat.eq_of_testBit_eq
    intro j
    rw [Nat.testBit_div_two_pow, Nat.testBit_div_two_pow]
    exact hn _ (by omega)
  have h1 : x % 2 ^ (b + 1) < 2 ^ b := by
    apply Nat.lt_pow_two_of_testBit
    intro j hj
    rw [Nat.testBit_mod_two_pow]
    rcases Nat.eq_or_lt_of_le hj with e | e
    · rw [← e, hx, Bool.and_false]
    · rw [decide_eq_false (by omega)]
      rfl
  have h2 : 2 ^ b ≤ y % 2 ^ (b + 1) := by
    apply Nat.ge_two_pow_of_testBit
    rw [Nat.testBit_mod_two_pow, hy, decide_eq_true (by omega)]
    rfl
  have e1 := Nat.div_add_mod x (2 ^ (b + 1))
  have e2 := Nat.div_add_mod y (2 ^ (b + 1))
  rw [hq] at e1
  generalize 2 ^ (b + 1) * (y / 2 ^ (b + 1)) = q at e1 e2
  omega
/-- the highest bit -/
def cd_tb (x b : Nat) : Prop := x.testBit b = true ∧ ∀ j, b < j → x.testBit j = false
theorem cd_tb_of {x : Nat} (h : x ≠ 0) : ∃ b, cd_tb x b := by
  refine ⟨x.log2, Nat.testBit_log2 h, fun j hj => Nat.testBit_lt_two_pow (Nat.lt_of_lt_of_le Nat.lt_log2_self (Nat.pow_le_pow_right (by decide) hj))⟩
theorem cd_tb_uniq {x b c : Nat} (h1 : cd_tb x b) (h2 : cd_tb x c) : b = c := by
  rcases Nat.lt_trichotomy b c with q | q | q
  · have := h1.2 c q; rw [h2.1] at this; cases this
  · exact q
  · have := h2.2 b q; rw [h1.1] at this; cases this
theorem cd_tb_ne {x b : Nat} (h : cd_tb x b) : x ≠ 0 := fun e => by
  have := h.1
  rw [e, Nat.zero_testBit] at this
  cases this
theorem cd_tb_lt {x b n : Nat} (h : cd_tb x b) (hx : x < 2 ^ n) : b < n := cd_bit_lt hx h.1
theorem cd_tb_lt2 {x b : Nat} (h : cd_tb x b) : x < 2 ^ (b + 1) := Nat.lt_pow_two_of_testBit x (fun j hj => h.2 j hj)
theorem cd_xor_xor (x y : Nat) : x ^^^ (x ^^^ y) = y := by rw [← Nat.xor_assoc, Nat.xor_self, Nat.zero_xor]
theorem cd_xor_eq0 {x y : Nat} (h : x ^^^ y = 0) : x = y := by
  have e := cd_xor_xor x y
  rw [h, Nat.xor_zero] at e
  exact e
theorem cd_pow_xor {i c : Nat} (h : c < 2 ^ i) : 2 ^ i + c = 2 ^ i ^^^ c := by
  apply Nat.eq_of_testBit_eq
  intro j
  rw [Nat.testBit_xor]
  rcases Nat.lt_trichotomy j i with q | q | q
  · rw [Nat.testBit_two_pow_add_gt q, Nat.testBit_two_pow_of_ne (by omega), Bool.false_xor]
  · rw [q, Nat.testBit_two_pow_add_eq, Nat.testBit_two_pow_self, Bool.true_xor]
  · have hl : 2 ^ i + c < 2 ^ j := by
      have h2 : 2 ^ (i + 1) ≤ 2 ^ j := Nat.pow_le_pow_right (by decide) q
      rw [Nat.pow_succ] at h2
      omega
    rw [Nat.testBit_lt_two_pow hl, Nat.testBit_two_pow_of_ne (by omega), Nat.testBit_lt_two_pow (Nat.lt_of_le_of_lt (Nat.le_add_left _ _) hl)]
    rfl
/-- a number below 2^(i+1) is below 2^i, or 2^i and one below it -/
theorem cd_split {i c : Nat} (h : c < 2 ^ (i + 1)) : c < 2 ^ i ∨ ∃ c', c' < 2 ^ i ∧ c = 2 ^ i ^^^ c' := by
  rcases Nat.lt_or_ge c (2 ^ i) with q | q
  · exact Or.inl q
  · rw [Nat.pow_succ] at h
    refine Or.inr ⟨c - 2 ^ i, by omega, ?_⟩
    rw [← cd_pow_xor (by omega)]
    omega
end
section
/-! plain law, 2: the boundary is linear; both boundaries are the same; the boundary of a boundary is empty -/
set_option maxRecDepth 100000
theorem cd_xor_4 (a b x y : Nat) : (a ^^^ x) ^^^ (b ^^^ y) = (a ^^^ b) ^^^ (x ^^^ y) := by
  apply Nat.eq_of_testBit_eq
  intro j
  simp only [Nat.testBit_xor]
  cases a.testBit j <;> cases b.testBit j <;> cases x.testBit j <;> cases y.testBit j <;> rfl
theorem cd_bd_lin (h : Nat → Bool) (k x y : Nat) : ∀ i, cd_bd h k (x ^^^ y) i = cd_bd h k x i ^^^ cd_bd h k y i := by
  intro i
  induction i with
  | zero => exact (Nat.xor_self 0).symm
  | succ i ih =>
    show cd_bd h k (x ^^^ y) i ^^^ (if ((k != 0) && (x ^^^ y).testBit i) = true then cd_fc h (cd_nth h (k + 1) i) 5 else 0) = (cd_bd h k x i ^^^ (if ((k != 0) && x.testBit i) = true then cd_fc h (cd_nth h (k + 1) i) 5 else 0)) ^^^ (cd_bd h k y i ^^^ (if ((k != 0) && y.testBit i) = true then cd_fc h (cd_nth h (k + 1) i) 5 else 0))
    rw [cd_xor_4, ih, Nat.testBit_xor]
    generalize cd_fc h (cd_nth h (k + 1) i) 5 = F
    cases (k != 0) <;> cases x.testBit i <;> cases y.testBit i <;> simp
theorem cd_bnd_lin (h : Nat → Bool) (k x y : Nat) : cd_bnd h k (x ^^^ y) = cd_bnd h k x ^^^ cd_bnd h k y := cd_bd_lin h k x y 10
theorem cd_lin_0 {d : Nat → Nat} (hl : ∀ x y, d (x ^^^ y) = d x ^^^ d y) : d 0 = 0 := by
  have e := hl 0 0
  rw [Nat.xor_self, Nat.xor_self] at e
  exact e
/-- faces of a held simplex -/
theorem cd_fin1 : ∀ s, s < 32 → ∀ x, x < 5 → s.testBit x = true → (cd_pts (s ^^^ 2 ^ x) + 1 = cd_pts s ∧ (s ^^^ 2 ^ x) &&& s = s ^^^ 2 ^ x ∧ s ^^^ 2 ^ x < 32) := by decide +kernel
theorem cd_sel_face {h : Nat → Bool} (hc : cd_cl h) {d s x : Nat} (hd : 1 ≤ d) (hs : s < 32) (hx : x < 5) (hb : s.testBit x = true) (hsel : cd_sel h (d + 1) s = true) : cd_sel h d (s ^^^ 2 ^ x) = true := by
  obtain ⟨h1, h2, h3⟩ := cd_fin1 s hs x hx hb
  unfold cd_sel at hsel ⊢
  rw [Bool.and_eq_true, beq_iff_eq] at hsel ⊢
  have hp : cd_pts (s ^^^ 2 ^ x) = d := by omega
  refine ⟨hc s hs hsel.1 _ ?_ h2, hp⟩
  rcases Nat.eq_zero_or_pos (s ^^^ 2 ^ x) with q | q
  · rw [q, cd_pts0] at hp
    omega
  · exact q
def cd_gf (s F : Nat) : Nat → Bool
  | 0 => false
  | x + 1 => cd_gf s F x ^^ (s.testBit x && (s ^^^ 2 ^ x == F))
theorem cd_fin2 : ∀ s, s < 32 → ∀ F, F < 32 → cd_pts s = cd_pts F + 1 → cd_gf s F 5 = (s &&& F == F) := by decide +kernel
/-- a face's bit among the faces of a simplex -/
theorem cd_fc_bit {h : Nat → Bool} (hc : cd_cl h) {d s i : Nat} (hd : 1 ≤ d) (hs : s < 32) (hsel : cd_sel h (d + 1) s = true) (hi : i < cd_rk h d 32) : ∀ x, x ≤ 5 → (cd_fc h s x).testBit i = cd_gf s (cd_nth h d i) x := by
  intro x
  induction x with
  | zero => intro _; exact Nat.zero_testBit i
  | succ x ih =>
    intro hx
    show (cd_fc h s x ^^^ (if s.testBit x = true then 2 ^ cd_rk h (cd_pts (s ^^^ 2 ^ x)) (s ^^^ 2 ^ x) else 0)).testBit i = (cd_gf s (cd_nth h d i) x ^^ (s.testBit x && (s ^^^ 2 ^ x == cd_nth h d i)))
    rw [Nat.testBit_xor, ih (by omega)]
    congr 1
    by_cases hb : s.testBit x = true
    · rw [if_pos hb, hb, Bool.true_and, Nat.testBit_two_pow]
      have hf := cd_sel_face hc hd hs (by omega) hb hsel
      have hp : cd_pts (s ^^^ 2 ^ x) = d := by
        unfold cd_sel at hf
        rw [Bool.and_eq_true, beq_iff_eq] at hf
        exact hf.2
      rw [hp]
      obtain ⟨n1, n2, n3⟩ := cd_nthF_spec 32 hi
      by_cases e : cd_rk h d (s ^^^ 2 ^ x) = i
      · rw [decide_eq_true e, (cd_nth_eq (cd_fin1 s hs x (by omega) hb).2.2 hf e), beq_self_eq_true]
      · rw [decide_eq_false e]
        symm
        rw [beq_eq_false_iff_ne]
        intro q
        rw [q] at e
        exact e n2
    · rw [if_neg hb, Nat.zero_testBit]
      have hb2 : s.testBit x = false := by simpa using hb
      rw [hb2, Bool.false_and]
/-- the faces of a simplex lie among the held ones -/
theorem cd_fc_lt2 {h : Nat → Bool} (hc : cd_cl h) {d s : Nat} (hd : 1 ≤ d) (hs : s < 32) (hsel : cd_sel h (d + 1) s = true) : ∀ x, x ≤ 5 → cd_fc h s x < 2 ^ cd_rk h d 32 := by
  intro x
  induction x with
  | zero => intro _; exact Nat.two_pow_pos _
  | succ x ih =>
    intro hx
    show cd_fc h s x ^^^ (if s.testBit x = true then 2 ^ cd_rk h (cd_pts (s ^^^ 2 ^ x)) (s ^^^ 2 ^ x) else 0) < _
    refine Nat.xor_lt_two_pow (ih (by omega)) ?_
    split
    · rename_i hb
      have hf := cd_sel_face hc hd hs (by omega) hb hsel
      have hp : cd_pts (s ^^^ 2 ^ x) = d := by
        unfold cd_sel at hf
        rw [Bool.and_eq_true, beq_iff_eq] at hf
        exact hf.2
      rw [hp]
      exact Nat.pow_lt_pow_right (by decide) (cd_rk_lt hf (cd_fin1 s hs x (by omega) hb).2.2)
    · exact Nat.two_pow_pos _
theorem cd_nth_sel {h : Nat → Bool} {d i : Nat} (hi : i < cd_rk h d 32) : cd_sel h d (cd_nth h d i) = true := (cd_nthF_spec 32 hi).1
theorem cd_nth_rk {h : Nat → Bool} {d i : Nat} (hi : i < cd_rk h d 32) : cd_rk h d (cd_nth h d i) = i := (cd_nthF_spec 32 hi).2.1
theorem cd_bd_lt2 {h : Nat → Bool} (hc : cd_cl h) {k c : Nat} (hk : 1 ≤ k) (hcl : c < 2 ^ cd_cnt h k) : ∀ i, cd_bd h k c i < 2 ^ cd_rk h k 32 := by
  intro i
  induction i with
  | zero => exact Nat.two_pow_pos _
  | succ i ih =>
    show cd_bd h k c i ^^^ (if ((k != 0) && c.testBit i) = true then cd_fc h (cd_nth h (k + 1) i) 5 else 0) < _
    refine Nat.xor_lt_two_pow ih ?_
    split
    · rename_i q
      rw [Bool.and_eq_true] at q
      have hic : i < cd_rk h (k + 1) 32 := cd_bit_lt hcl q.2
      exact cd_fc_lt2 hc hk (cd_nth_lt _ _ _) (cd_nth_sel hic) 5 (Nat.le_refl _)
    · exact Nat.two_pow_pos _
/-- the desk's boundary bit by bit -/
theorem cd_bd_bit {h : Nat → Bool} (hc : cd_cl h) {k c i : Nat} (hk : 1 ≤ k) (hcl : c < 2 ^ cd_cnt h k) (hi : i < cd_rk h k 32) : ∀ j, j ≤ cd_cnt h k → (cd_bd h k c j).testBit i = decide (cd_od h k c (cd_nth h k i) j % 2 = 1) := by
  intro j
  induction j with
  | zero => intro _; exact Nat.zero_testBit i
  | succ j ih =>
    intro hj
    show (cd_bd h k c j ^^^ (if ((k != 0) && c.testBit j) = true then cd_fc h (cd_nth h (k + 1) j) 5 else 0)).testBit i = decide ((cd_od h k c (cd_nth h k i) j + (if (c.testBit j && (cd_nth h (k + 1) j &&& cd_nth h k i == cd_nth h k i)) = true then 1 else 0)) % 2 = 1)
    rw [Nat.testBit_xor, ih (by omega)]
    have hk0 : (k != 0) = true := by simp; omega
    rw [hk0, Bool.true_and]
    have hjc : j < cd_rk h (k + 1) 32 := hj
    by_cases hb : c.testBit j = true
    · rw [if_pos hb, hb, Bool.true_and, cd_fc_bit hc hk (cd_nth_lt _ _ _) (cd_nth_sel hjc) hi 5 (Nat.le_refl _)]
      rw [cd_fin2 _ (cd_nth_lt _ _ _) _ (cd_nth_lt _ _ _) (by rw [cd_nth_pts hjc, cd_nth_pts hi])]
      generalize cd_od h k c (cd_nth h k i) j = n
      cases (cd_nth h (k + 1) j &&& cd_nth h k i == cd_nth h k i)
      · simp
      · simp only [if_true, Bool.xor_true]
        rcases Nat.mod_two_eq_zero_or_one n with q | q
        · rw [q, show (n + 1) % 2 = 1 by omega]; rfl
        · rw [q, show (n + 1) % 2 = 0 by omega]; rfl
    · have hb2 : c.testBit j = false := by simpa using hb
      rw [hb2]
      simp
theorem cd_bd_stop (h : Nat → Bool) {k c n : Nat} (hcl : c < 2 ^ n) : ∀ j, cd_bd h k c (n + j) = cd_bd h k c n := by
  intro j
  induction j with
  | zero => rfl
  | succ j ih =>
    show cd_bd h k c (n + j) ^^^ (if ((k != 0) && c.testBit (n + j)) = true then cd_fc h (cd_nth h (k + 1) (n + j)) 5 else 0) = _
    rw [ih, Nat.testBit_lt_two_pow (Nat.lt_of_lt_of_le hcl (Nat.pow_le_pow_right (by decide) (by omega)))]
    simp
theorem cd_mb_bit (h : Nat → Bool) (k c i : Nat) : ∀ m, (cd_mb h k c m).testBit i = (decide (i < m) && decide (cd_od h k c (cd_nth h k i) (cd_cnt h k) % 2 = 1)) := by
  intro m
  induction m with
  | zero => rw [show cd_mb h k c 0 = 0 from rfl, Nat.zero_testBit]; simp
  | succ m ih =>
    show (cd_mb h k c m ||| (if cd_od h k c (cd_nth h k m) (cd_cnt h k) % 2 = 1 then 2 ^ m else 0)).testBit i = _
    rw [Nat.testBit_or, ih]
    rcases Nat.lt_trichotomy i m with q | q | q
    · rw [decide_eq_true q, decide_eq_true (show i < m + 1 by omega)]
      have e : (if cd_od h k c (cd_nth h k m) (cd_cnt h k) % 2 = 1 then 2 ^ m else 0).testBit i = false := by
        split
        · exact Nat.testBit_two_pow_of_ne (by omega)
        · exact Nat.zero_testBit i
      rw [e, Bool.or_false]
    · subst q
      rw [decide_eq_false (show ¬ i < i by omega), decide_eq_true (show i < i + 1 by omega), Bool.false_and, Bool.false_or, Bool.true_and]
      split
      · rename_i w
        rw [decide_eq_true w, Nat.testBit_two_pow_self]
      · rename_i w
        rw [decide_eq_false w, Nat.zero_testBit]
    · rw [decide_eq_false (show ¬ i < m by omega), decide_eq_false (show ¬ i < m + 1 by omega), Bool.false_and, Bool.false_or]
      split
      · exact Nat.testBit_two_pow_of_ne (by omega)
      · exact Nat.zero_testBit i
/-- both boundaries are the same -/
theorem cd_bnd_eq {h : Nat → Bool} (hc : cd_cl h) {k c : Nat} (hk : k ≤ 4) (hcl : c < 2 ^ cd_cnt h k) : cd_mbnd h k c = cd_bnd h k c := by
  rcases Nat.eq_zero_or_pos k with q | q
  · subst q
    have e : ∀ i, cd_bd h 0 c i = 0 := by
      intro i
      induction i with
      | zero => rfl
      | succ i ih =>
        show cd_bd h 0 c i ^^^ (if (((0 : Nat) != 0) && c.testBit i) = true then cd_fc h (cd_nth h (0 + 1) i) 5 else 0) = 0
        rw [ih]
        simp
    unfold cd_mbnd cd_bnd
    rw [if_neg (by omega), e]
  · unfold cd_mbnd cd_bnd
    rw [if_pos ⟨q, hk⟩]
    have hr : cd_cnt h (k - 1) = cd_rk h k 32 := by
      unfold cd_cnt
      rw [show k - 1 + 1 = k by omega]
    have h10 := cd_cnt_le (h := h) hk
    have e10 : cd_bd h k c 10 = cd_bd h k c (cd_cnt h k) := by
      have e := cd_bd_stop h (k := k) hcl (10 - cd_cnt h k)
      rw [show cd_cnt h k + (10 - cd_cnt h k) = 10 by omega] at e
      exact e
    apply Nat.eq_of_testBit_eq
    intro i
    rw [cd_mb_bit, hr, e10]
    by_cases hi : i < cd_rk h k 32
    · rw [decide_eq_true hi, Bool.true_and, cd_bd_bit hc q hcl hi _ (Nat.le_refl _)]
    · rw [decide_eq_false hi, Bool.false_and]
      symm
      exact Nat.testBit_lt_two_pow (Nat.lt_of_lt_of_le (cd_bd_lt2 hc q hcl _) (Nat.pow_le_pow_right (by decide) (by omega)))
/-! the boundary of a boundary -/
def cd_X (g : Nat → Nat) : Nat → Nat
  | 0 => 0
  | n + 1 => cd_X g n ^^^ g n
theorem cd_X_add (g f : Nat → Nat) : ∀ n, cd_X (fun x => g x ^^^ f x) n = cd_X g n ^^^ cd_X f n := by
  intro n
  induction n with
  | zero => exact (Nat.xor_self 0).symm
  | succ n ih =>
    show cd_X (fun x => g x ^^^ f x) n ^^^ (g n ^^^ f n) = (cd_X g n ^^^ g n) ^^^ (cd_X f n ^^^ f n)
    rw [ih, cd_xor_4]
theorem cd_X_congr {g f : Nat → Nat} : ∀ n, (∀ x, x < n → g x = f x) → cd_X g n = cd_X f n := by
  intro n
  induction n with
  | zero => intro _; rfl
  | succ n ih =>
    intro e
    show cd_X g n ^^^ g n = cd_X f n ^^^ f n
    rw [ih (fun x hx => e x (by omega)), e n (by omega)]
theorem cd_X_sym (G : Nat → Nat → Nat) (hs : ∀ x y, G x y = G y x) (h0 : ∀ x, G x x = 0) : ∀ n, cd_X (fun x => cd_X (G x) n) n = 0 := by
  intro n
  induction n with
  | zero => rfl
  | succ n ih =>
    show cd_X (fun x => cd_X (G x) n ^^^ G x n) n ^^^ (cd_X (G n) n ^^^ G n n) = 0
    rw [cd_X_add, ih, h0, Nat.xor_zero, Nat.zero_xor, cd_X_congr (g := fun x => G x n) (f := G n) n (fun x _ => hs x n), Nat.xor_self]
def cd_ph (h : Nat → Bool) (t : Nat) : Nat := 2 ^ cd_rk h (cd_pts t) t
theorem cd_fc_X (h : Nat → Bool) (s : Nat) : ∀ x, cd_fc h s x = cd_X (fun x => if s.testBit x = true then cd_ph h (s ^^^ 2 ^ x) else 0) x := by
  intro x
  induction x with
  | zero => rfl
  | succ x ih =>
    show cd_fc h s x ^^^ _ = cd_X _ x ^^^ _
    rw [ih]
    rfl
theorem cd_lin_X {d : Nat → Nat} (hl : ∀ x y, d (x ^^^ y) = d x ^^^ d y) (g : Nat → Nat) : ∀ n, d (cd_X g n) = cd_X (fun x => d (g x)) n := by
  intro n
  induction n with
  | zero => exact cd_lin_0 hl
  | succ n ih =>
    show d (cd_X g n ^^^ g n) = cd_X (fun x => d (g x)) n ^^^ d (g n)
    rw [hl, ih]
/-- the boundary of one simplex -/
theorem cd_bnd_one (h : Nat → Bool) {k j : Nat} (hk : 1 ≤ k) (hj : j < 10) : cd_bnd h k (2 ^ j) = cd_fc h (cd_nth h (k + 1) j) 5 := by
  have hk0 : (k != 0) = true := by simp; omega
  have lo : ∀ i, i ≤ j → cd_bd h k (2 ^ j) i = 0 := by
    intro i
    induction i with
    | zero => intro _; rfl
    | succ i ih =>
      intro hi
      show cd_bd h k (2 ^ j) i ^^^ (if ((k != 0) && (2 ^ j).testBit i) = true then cd_fc h (cd_nth h (k + 1) i) 5 else 0) = 0
      rw [ih (by omega), Nat.testBit_two_pow_of_ne (by omega)]
      simp
  have up : cd_bd h k (2 ^ j) (j + 1) = cd_fc h (cd_nth h (k + 1) j) 5 := by
    show cd_bd h k (2 ^ j) j ^^^ (if ((k != 0) && (2 ^ j).testBit j) = true then cd_fc h (cd_nth h (k + 1) j) 5 else 0) = _
    rw [lo j (Nat.le_refl _), Nat.testBit_two_pow_self, hk0]
    simp
  have e := cd_bd_stop h (k := k) (c := 2 ^ j) (n := j + 1) (Nat.pow_lt_pow_right (by decide) (by omega)) (10 - (j + 1))
  rw [show j + 1 + (10 - (j + 1)) = 10 by omega, up] at e
  exact e
theorem cd_fin3 : ∀ s, s < 32 → ∀ x, x < 5 → ∀ y, y < 5 → (x ≠ y → (s ^^^ 2 ^ x).testBit y = s.testBit y) ∧ (s ^^^ 2 ^ x).testBit x = !s.testBit x := by decide +kernel
theorem cd_dd_one {h : Nat → Bool} (hc : cd_cl h) {k s : Nat} (hk : 1 ≤ k) (hs : s < 32) (hsel : cd_sel h (k + 1 + 1) s = true) : cd_bnd h k (cd_fc h s 5) = 0 := by
  rw [cd_fc_X, cd_lin_X (cd_bnd_lin h k)]
  have e : ∀ x, x < 5 → cd_bnd h k (if s.testBit x = true then cd_ph h (s ^^^ 2 ^ x) else 0) = cd_X (fun y => if (s.testBit x && (s ^^^ 2 ^ x).testBit y) = true then cd_ph h (s ^^^ 2 ^ x ^^^ 2 ^ y) else 0) 5 := by
    intro x hx
    by_cases hb : s.testBit x = true
    · rw [if_pos hb]
      have hf := cd_sel_face hc (d := k + 1) (by omega) hs hx hb hsel
      have hl := (cd_fin1 s hs x hx hb).2.2
      have hp : cd_pts (s ^^^ 2 ^ x) = k + 1 := by
        unfold cd_sel at hf
        rw [Bool.and_eq_true, beq_iff_eq] at hf
        exact hf.2
      have hr := cd_rk_lt hf hl
      have h5 := cd_pts_le (s ^^^ 2 ^ x)
      have h10 := cd_rk_10 (h := h) (d := k + 1) (i := 32) (by omega) (Nat.le_refl _)
      unfold cd_ph
      rw [hp, cd_bnd_one h hk (by omega), cd_nth_eq hl hf rfl, cd_fc_X]
      apply cd_X_congr
      intro y _
      rw [hb, Bool.true_and]
      rfl
    · have hb2 : s.testBit x = false := by simpa using hb
      rw [if_neg hb, cd_lin_0 (cd_bnd_lin h k), hb2]
      simp [cd_X]
  rw [cd_X_congr 5 e]
  -- now symmetric
  have key := cd_X_sym (fun x y => if x < 5 ∧ y < 5 then (if (s.testBit x && (s ^^^ 2 ^ x).testBit y) = true then cd_ph h (s ^^^ 2 ^ x ^^^ 2 ^ y) else 0) else 0) ?_ ?_ 5
  · refine Eq.trans ?_ key
    apply cd_X_congr
    intro x hx
    apply cd_X_congr
    intro y hy
    rw [if_pos (c := x < 5 ∧ y < 5) ⟨hx, hy⟩]
  · intro x y
    by_cases hxy : x < 5 ∧ y < 5
    · rw [if_pos (c := x < 5 ∧ y < 5) hxy, if_pos (c := y < 5 ∧ x < 5) ⟨hxy.2, hxy.1⟩]
      by_cases e2 : x = y
      · rw [e2]
      · rw [(cd_fin3 s hs x hxy.1 y hxy.2).1 e2, (cd_fin3 s hs y hxy.2 x hxy.1).1 (Ne.symm e2), Bool.and_comm, Nat.xor_assoc, Nat.xor_assoc, Nat.xor_comm (2 ^ x) (2 ^ y)]
    · rw [if_neg (c := x < 5 ∧ y < 5) hxy, if_neg (c := y < 5 ∧ x < 5) (fun q => hxy ⟨q.2, q.1⟩)]
  · intro x
    by_cases hx : x < 5
    · rw [if_pos (c := x < 5 ∧ x < 5) ⟨hx, hx⟩, (cd_fin3 s hs x hx x hx).2]
      cases s.testBit x <;> simp
    · rw [if_neg (c := x < 5 ∧ x < 5) (fun q => hx q.1)]
/-- the boundary of a boundary is empty -/
theorem cd_dd {h : Nat → Bool} (hc : cd_cl h) {k c : Nat} (hcl : c < 2 ^ cd_cnt h (k + 1)) : cd_bnd h k (cd_bnd h (k + 1) c) = 0 := by
  rcases Nat.eq_zero_or_pos k with q | q
  · subst q
    generalize cd_bnd h (0 + 1) c = x
    have e : ∀ i, cd_bd h 0 x i = 0 := by
      intro i
      induction i with
      | zero => rfl
      | succ i ih =>
        show cd_bd h 0 x i ^^^ (if (((0 : Nat) != 0) && x.testBit i) = true then cd_fc h (cd_nth h (0 + 1) i) 5 else 0) = 0
        rw [ih]
        simp
    exact e 10
  · have hl := cd_bnd_lin h k
    have e : ∀ i, cd_bnd h k (cd_bd h (k + 1) c i) = 0 := by
      intro i
      induction i with
      | zero => exact cd_lin_0 hl
      | succ i ih =>
        show cd_bnd h k (cd_bd h (k + 1) c i ^^^ (if (((k + 1) != 0) && c.testBit i) = true then cd_fc h (cd_nth h (k + 1 + 1) i) 5 else 0)) = 0
        rw [hl, ih, Nat.zero_xor]
        split
        · rename_i w
          rw [Bool.and_eq_true] at w
          have hic : i < cd_rk h (k + 1 + 1) 32 := cd_bit_lt hcl w.2
          exact cd_dd_one hc q (cd_nth_lt _ _ _) (cd_nth_sel hic)
        · exact cd_lin_0 hl
    exact e 10
end
section
/-! plain law, 3: elimination -/
theorem cd_red_S (R O : Nat → Nat) (n l t : Nat) : cd_red R O (n + 1) l t = if ((R n != 0) && l.testBit n) = true then cd_red R O n (l ^^^ R n) (t ^^^ O n) else cd_red R O n l t := rfl
theorem cd_red_bits {R O : Nat → Nat} : ∀ n, (∀ b, b < n → R b ≠ 0 → cd_tb (R b) b) → ∀ l t, (∀ b, b < n → R b ≠ 0 → (cd_red R O n l t).1.testBit b = false) ∧ (∀ j, n ≤ j → (cd_red R O n l t).1.testBit j = l.testBit j) := by
  intro n
  induction n with
  | zero => intro _ l t; exact ⟨fun b hb => absurd hb (Nat.not_lt_zero b), fun j _ => rfl⟩
  | succ n ih =>
    intro hR l t
    have ihR := ih (fun b hb => hR b (by omega))
    by_cases hc : ((R n != 0) && l.testBit n) = true
    · rw [cd_red_S, if_pos hc]
      rw [Bool.and_eq_true, bne_iff_ne] at hc
      have htb := hR n (by omega) hc.1
      obtain ⟨i1, i2⟩ := ihR (l ^^^ R n) (t ^^^ O n)
      refine ⟨fun b hb hne => ?_, fun j hj => ?_⟩
      · rcases Nat.lt_or_ge b n with q | q
        · exact i1 b q hne
        · have e : b = n := by omega
          rw [e, i2 n (Nat.le_refl _), Nat.testBit_xor, hc.2, htb.1]
          rfl
      · rw [i2 j (by omega), Nat.testBit_xor, htb.2 j (by omega), Bool.xor_false]
    · rw [cd_red_S, if_neg hc]
      obtain ⟨i1, i2⟩ := ihR l t
      refine ⟨fun b hb hne => ?_, fun j hj => i2 j (by omega)⟩
      rcases Nat.lt_or_ge b n with q | q
      · exact i1 b q hne
      · have e : b = n := by omega
        rw [e] at hne ⊢
        rw [i2 n (Nat.le_refl _)]
        cases hl : l.testBit n
        · rfl
        · exact absurd (by rw [hl, Bool.and_true, bne_iff_ne]; exact hne) hc
theorem cd_red_lin {R O d : Nat → Nat} (hl : ∀ x y, d (x ^^^ y) = d x ^^^ d y) : ∀ n, (∀ b, b < n → R b ≠ 0 → d (O b) = R b) → ∀ l t, d (cd_red R O n l t).2 ^^^ (cd_red R O n l t).1 = d t ^^^ l := by
  intro n
  induction n with
  | zero => intro _ l t; rfl
  | succ n ih =>
    intro hO l t
    rw [cd_red_S]
    split
    · rename_i hc
      rw [Bool.and_eq_true, bne_iff_ne] at hc
      rw [ih (fun b hb => hO b (by omega)), hl, hO n (by omega) hc.1, cd_xor_4, Nat.xor_self, Nat.xor_zero]
    · exact ih (fun b hb => hO b (by omega)) l t
theorem cd_red_ker {C O d : Nat → Nat} (hl : ∀ x y, d (x ^^^ y) = d x ^^^ d y) : ∀ n, (∀ b, b < n → C b ≠ 0 → d (C b) = 0) → ∀ l t, d (cd_red C O n l t).1 = d l := by
  intro n
  induction n with
  | zero => intro _ l t; rfl
  | succ n ih =>
    intro hO l t
    rw [cd_red_S]
    split
    · rename_i hc
      rw [Bool.and_eq_true, bne_iff_ne] at hc
      rw [ih (fun b hb => hO b (by omega)), hl, hO n (by omega) hc.1, Nat.xor_zero]
    · exact ih (fun b hb => hO b (by omega)) l t
theorem cd_red_ltm {R O : Nat → Nat} {m : Nat} : ∀ n, (∀ b, b < n → R b ≠ 0 → R b < 2 ^ m) → ∀ l t, l < 2 ^ m → (cd_red R O n l t).1 < 2 ^ m := by
  intro n
  induction n with
  | zero => intro _ l t hl; exact hl
  | succ n ih =>
    intro hR l t hl
    rw [cd_red_S]
    split
    · rename_i hc
      rw [Bool.and_eq_true, bne_iff_ne] at hc
      exact ih (fun b hb => hR b (by omega)) _ _ (Nat.xor_lt_two_pow hl (hR n (by omega) hc.1))
    · exact ih (fun b hb => hR b (by omega)) _ _ hl
theorem cd_red_ltm2 {R O : Nat → Nat} {m : Nat} : ∀ n, (∀ b, b < n → R b ≠ 0 → O b < 2 ^ m) → ∀ l t, t < 2 ^ m → (cd_red R O n l t).2 < 2 ^ m := by
  intro n
  induction n with
  | zero => intro _ l t hl; exact hl
  | succ n ih =>
    intro hR l t hl
    rw [cd_red_S]
    split
    · rename_i hc
      rw [Bool.and_eq_true, bne_iff_ne] at hc
      exact ih (fun b hb => hR b (by omega)) _ _ (Nat.xor_lt_two_pow hl (hR n (by omega) hc.1))
    · exact ih (fun b hb => hR b (by omega)) _ _ hl
theorem cd_addC_top {C : Nat → Nat} {t i : Nat} (htb : cd_tb t i) (hC : C i = 0) : ∀ n, i < n → cd_addC C n t = cd_up C i t := by
  intro n
  induction n with
  | zero => intro q; omega
  | succ n ih =>
    intro q
    show (if t.testBit n = true then (if C n = 0 then cd_up C n t else cd_addC C n (t ^^^ C n)) else cd_addC C n t) = _
    by_cases e : n = i
    · subst e
      rw [if_pos htb.1, if_pos hC]
    · rw [htb.2 n (by omega), if_neg (by decide)]
      exact ih (by omega)
theorem cd_hi_top {l b : Nat} (htb : cd_tb l b) : ∀ n, b < n → cd_hi l n = b := by
  intro n
  induction n with
  | zero => intro q; omega
  | succ n ih =>
    intro q
    show (if l.testBit n = true then n else cd_hi l n) = b
    by_cases e : n = b
    · rw [e, if_pos htb.1]
    · rw [htb.2 n (by omega), if_neg (by decide)]
      exact ih (by omega)
/-- what holds after i simplices -/
def cd_inv (d : Nat → Nat) (i : Nat) (u : cd_E) : Prop :=
  (∀ b, b < 10 → u.1 b ≠ 0 → cd_tb (u.1 b) b ∧ d (u.2.1 b) = u.1 b ∧ u.2.1 b < 2 ^ i) ∧
  (∀ c, c < 2 ^ i → d c ≠ 0 → ∃ b, b < 10 ∧ u.1 b ≠ 0 ∧ cd_tb (d c) b) ∧
  (∀ b, b < 10 → u.2.2.1 b ≠ 0 → b < i ∧ cd_tb (u.2.2.1 b) b ∧ d (u.2.2.1 b) = 0) ∧
  (∀ c, c < 2 ^ i → c ≠ 0 → d c = 0 → ∃ b, b < 10 ∧ u.2.2.1 b ≠ 0 ∧ cd_tb c b)
theorem cd_up_same {α : Type} (f : Nat → α) (k : Nat) (v : α) : cd_up f k v k = v := if_pos rfl
theorem cd_up_other {α : Type} (f : Nat → α) {k j : Nat} (v : α) (h : j ≠ k) : cd_up f k v j = f j := if_neg h
theorem cd_tb_pow {t i : Nat} (h : t < 2 ^ i) : cd_tb (t ^^^ 2 ^ i) i := by
  constructor
  · rw [Nat.testBit_xor, Nat.testBit_lt_two_pow h, Nat.testBit_two_pow_self]
    rfl
  · intro j hj
    rw [Nat.testBit_xor, Nat.testBit_lt_two_pow (Nat.lt_of_lt_of_le h (Nat.pow_le_pow_right (by decide) (by omega))), Nat.testBit_two_pow_of_ne (by omega)]
    rfl
/-- the higher of two highest bits stays -/
theorem cd_tb_xor {x y b c : Nat} (hx : cd_tb x b) (hy : cd_tb y c) (h : b < c) : cd_tb (x ^^^ y) c := by
  constructor
  · rw [Nat.testBit_xor, hx.2 c h, hy.1]
    rfl
  · intro j hj
    rw [Nat.testBit_xor, hx.2 j (by omega), hy.2 j hj]
    rfl
theorem cd_step {h : Nat → Bool} {k i : Nat} {u : cd_E} (hi : i < 10) (hd : ∀ c, c < 2 ^ (i + 1) → cd_bnd h k c < 1024) (hI : cd_inv (cd_bnd h k) i u) :
    cd_inv (cd_bnd h k) (i + 1) (cd_es h k i u) ∧
    (((∃ t, t < 2 ^ i ∧ cd_bnd h k t = cd_bnd h k (2 ^ i)) ∧ (cd_es h k i u).2.2.2.1 = u.2.2.2.1) ∨ ((∀ c, c < 2 ^ i → cd_bnd h k c ≠ cd_bnd h k (2 ^ i)) ∧ (cd_es h k i u).2.2.2.1 = u.2.2.2.1 + 1)) := by
  have hlin := cd_bnd_lin h k
  unfold cd_es
  generalize cd_bnd h k = d at hlin hd hI ⊢
  obtain ⟨Ia, Ib, Ic, Id⟩ := hI
  have hpp : 2 ^ i < 2 ^ (i + 1) := Nat.pow_lt_pow_right (by decide) (by omega)
  have hf : d (2 ^ i) < 2 ^ 10 := hd _ hpp
  have h1 := cd_red_bits (O := u.2.1) 10 (fun b hb hne => (Ia b hb hne).1) (d (2 ^ i)) 0
  have h2 := cd_red_lin hlin 10 (fun b hb hne => (Ia b hb hne).2.1) (d (2 ^ i)) 0
  have h3 := cd_red_ltm2 10 (fun b hb hne => (Ia b hb hne).2.2) (d (2 ^ i)) 0 (Nat.two_pow_pos i)
  have h4 := cd_red_ltm (O := u.2.1) (m := 10) 10 (fun b hb hne => Nat.lt_of_lt_of_le (cd_tb_lt2 (Ia b hb hne).1) (Nat.pow_le_pow_right (by decide) (by omega))) (d (2 ^ i)) 0 hf
  rw [cd_lin_0 hlin, Nat.zero_xor] at h2
  generalize cd_red u.1 u.2.1 10 (d (2 ^ i)) 0 = r at h1 h2 h3 h4 ⊢
  have ht : d (r.2 ^^^ 2 ^ i) = r.1 := by rw [hlin, ← h2, cd_xor_xor]
  have htb := cd_tb_pow h3
  have ht1 : r.2 ^^^ 2 ^ i < 2 ^ (i + 1) := cd_tb_lt2 htb
  have key : ∀ c, d (2 ^ i ^^^ c) = r.1 ^^^ d (r.2 ^^^ c) := by
    intro c
    rw [hlin, ← h2, hlin, Nat.xor_comm (d r.2) r.1, Nat.xor_assoc]
  by_cases hl : r.1 = 0
  · rw [if_pos hl]
    have hfe : d r.2 = d (2 ^ i) := by rw [← h2, hl, Nat.xor_zero]
    have hC0 : u.2.2.1 i = 0 := by
      by_cases q : u.2.2.1 i = 0
      · exact q
      · exact absurd (Ic i hi q).1 (Nat.lt_irrefl i)
    have hadd := cd_addC_top htb hC0 10 hi
    refine ⟨⟨fun b hb hne => ?_, fun c hc hne => ?_, fun b hb hne => ?_, fun c hc hne h0 => ?_⟩, Or.inl ⟨⟨r.2, h3, hfe⟩, rfl⟩⟩
    · obtain ⟨a1, a2, a3⟩ := Ia b hb hne
      exact ⟨a1, a2, Nat.lt_trans a3 hpp⟩
    · rcases cd_split hc with q | ⟨c', hc', rfl⟩
      · exact Ib c q hne
      · have e : d (2 ^ i ^^^ c') = d (r.2 ^^^ c') := by rw [key, hl, Nat.zero_xor]
        rw [e] at hne ⊢
        exact Ib _ (Nat.xor_lt_two_pow h3 hc') hne
    · dsimp only at hne ⊢
      rw [hadd] at hne ⊢
      by_cases e : b = i
      · rw [e, cd_up_same]
        exact ⟨Nat.lt_succ_self i, htb, by rw [ht, hl]⟩
      · rw [cd_up_other _ _ e] at hne ⊢
        obtain ⟨a1, a2⟩ := Ic b hb hne
        exact ⟨by omega, a2⟩
    · dsimp only
      rw [hadd]
      rcases cd_split hc with q | ⟨c', hc', rfl⟩
      · obtain ⟨b, b1, b2, b3⟩ := Id c q hne h0
        have hbi := (Ic b b1 b2).1
        exact ⟨b, b1, by rw [cd_up_other _ _ (by omega)]; exact b2, b3⟩
      · refine ⟨i, hi, by rw [cd_up_same]; exact cd_tb_ne htb, ?_⟩
        rw [Nat.xor_comm]
        exact cd_tb_pow hc'
  · rw [if_neg hl]
    obtain ⟨top, htop⟩ := cd_tb_of hl
    have ht10 : top < 10 := cd_tb_lt htop h4
    rw [cd_hi_top htop 10 ht10]
    have hR0 : u.1 top = 0 := by
      by_cases q : u.1 top = 0
      · exact q
      · have := h1.1 top ht10 q
        rw [htop.1] at this
        cases this
    have hind : ∀ c, c < 2 ^ i → r.1 ≠ d c := by
      intro c hc e
      obtain ⟨b, b1, b2, b3⟩ := Ib c hc (by rw [← e]; exact hl)
      rw [← e] at b3
      rw [cd_tb_uniq b3 htop] at b2
      exact b2 hR0
    refine ⟨⟨fun b hb hne => ?_, fun c hc hne => ?_, fun b hb hne => ?_, fun c hc hne h0 => ?_⟩, Or.inr ⟨fun c hc e => ?_, rfl⟩⟩
    · dsimp only at hne ⊢
      by_cases e : b = top
      · rw [e, cd_up_same, cd_up_same]
        exact ⟨htop, ht, ht1⟩
      · rw [cd_up_other _ _ e] at hne ⊢
        rw [cd_up_other _ _ e]
        obtain ⟨a1, a2, a3⟩ := Ia b hb hne
        exact ⟨a1, a2, Nat.lt_trans a3 hpp⟩
    · dsimp only
      have old : ∀ b, u.1 b ≠ 0 → cd_up u.1 top r.1 b ≠ 0 := by
        intro b hb
        by_cases e : b = top
        · rw [e] at hb
          exact absurd hR0 hb
        · rw [cd_up_other _ _ e]
          exact hb
      rcases cd_split hc with q | ⟨c', hc', rfl⟩
      · obtain ⟨b, b1, b2, b3⟩ := Ib c q hne
        exact ⟨b, b1, old b b2, b3⟩
      · rw [key]
        by_cases e0 : d (r.2 ^^^ c') = 0
        · rw [e0, Nat.xor_zero]
          exact ⟨top, ht10, by rw [cd_up_same]; exact hl, htop⟩
        · obtain ⟨b, b1, b2, b3⟩ := Ib _ (Nat.xor_lt_two_pow h3 hc') e0
          rcases Nat.lt_trichotomy top b with w | w | w
          · exact ⟨b, b1, old b b2, cd_tb_xor htop b3 w⟩
          · rw [← w] at b2
            exact absurd hR0 b2
          · refine ⟨top, ht10, by rw [cd_up_same]; exact hl, ?_⟩
            rw [Nat.xor_comm]
            exact cd_tb_xor b3 htop w
    · obtain ⟨a1, a2⟩ := Ic b hb hne
      exact ⟨by omega, a2⟩
    · rcases cd_split hc with q | ⟨c', hc', rfl⟩
      · exact Id c q hne h0
      · rw [key] at h0
        exact absurd (cd_xor_eq0 h0) (hind _ (Nat.xor_lt_two_pow h3 hc'))
    · have e2 := key c
      rw [hlin, e, Nat.xor_self] at e2
      exact hind _ (Nat.xor_lt_two_pow h3 hc) (cd_xor_eq0 e2.symm)
theorem cd_inv_0 {h : Nat → Bool} {k : Nat} (R O C : Nat → Nat) (x y w : Nat) : cd_inv (cd_bnd h k) 0 (cd_z R 10, cd_z O 10, cd_z C 10, x, y, w) := by
  have z : ∀ (R : Nat → Nat) (b : Nat), b < 10 → ¬ cd_z R 10 b ≠ 0 := fun R b hb q => q (if_pos hb)
  refine ⟨fun b hb hne => absurd hne (z R b hb), fun c hc hne => ?_, fun b hb hne => absurd hne (z C b hb), fun c hc hne _ => ?_⟩
  · have e : c = 0 := by
      rw [Nat.pow_zero] at hc
      omega
    rw [e] at hne
    exact absurd (cd_lin_0 (cd_bnd_lin h k)) hne
  · rw [Nat.pow_zero] at hc
    omega
/-- the desk's boundaries stay below 1024 -/
theorem cd_bnd_1024 {h : Nat → Bool} (hc : cd_cl h) {k c : Nat} (hk : k ≤ 4) (hcl : c < 2 ^ cd_cnt h k) : cd_bnd h k c < 1024 := by
  rw [← cd_bnd_eq hc hk hcl]
  exact cd_mbnd_lt4 h (by omega) c
theorem cd_el_inv {h : Nat → Bool} (hc : cd_cl h) {k : Nat} (R O C : Nat → Nat) (x y w : Nat) : ∀ i, i ≤ cd_n h k → cd_inv (cd_bnd h k) i (cd_el h k (cd_z R 10, cd_z O 10, cd_z C 10, x, y, w) i) := by
  intro i
  induction i with
  | zero => intro _; exact cd_inv_0 R O C x y w
  | succ i ih =>
    intro hi
    have hn := cd_n_le h k
    have hk : k ≤ 4 := by
      rcases Nat.lt_or_ge 4 k with q | q
      · rw [cd_n_5 (by omega)] at hi
        omega
      · exact q
    rw [cd_n_of hk] at hi hn
    exact (cd_step (by omega) (fun c hcl => cd_bnd_1024 hc hk (Nat.lt_of_lt_of_le hcl (Nat.pow_le_pow_right (by decide) hi))) (ih (by rw [cd_n_of hk]; omega))).1
theorem cd_elim_inv {h : Nat → Bool} (hc : cd_cl h) (k : Nat) (R O C : Nat → Nat) (lf tk : Nat) : cd_inv (cd_bnd h k) (cd_n h k) (cd_elim h k R O C lf tk) := cd_el_inv hc R O C 0 lf tk _ (Nat.le_refl _)
/-! what is left of a chain -/
theorem cd_left_spec {d : Nat → Nat} (hlin : ∀ x y, d (x ^^^ y) = d x ^^^ d y) {n : Nat} {u : cd_E} (hI : cd_inv d n u) (x : Nat) :
    d (cd_red u.1 u.2.1 10 x 0).2 ^^^ (cd_red u.1 u.2.1 10 x 0).1 = x ∧ (cd_red u.1 u.2.1 10 x 0).2 < 2 ^ n ∧ (∀ c, c < 2 ^ n → ((cd_red u.1 u.2.1 10 x 0).1 = (cd_red u.1 u.2.1 10 x 0).1 ^^^ d c ∨ (cd_red u.1 u.2.1 10 x 0).1 < (cd_red u.1 u.2.1 10 x 0).1 ^^^ d c)) := by
  obtain ⟨Ia, Ib, Ic, Id⟩ := hI
  have h1 := cd_red_bits (O := u.2.1) 10 (fun b hb hne => (Ia b hb hne).1) x 0
  have h2 := cd_red_lin hlin 10 (fun b hb hne => (Ia b hb hne).2.1) x 0
  have h3 := cd_red_ltm2 10 (fun b hb hne => (Ia b hb hne).2.2) x 0 (Nat.two_pow_pos n)
  rw [cd_lin_0 hlin, Nat.zero_xor] at h2
  generalize cd_red u.1 u.2.1 10 x 0 = r at h1 h2 h3 ⊢
  refine ⟨h2, h3, fun c hc => ?_⟩
  by_cases e : d c = 0
  · rw [e, Nat.xor_zero]
    exact Or.inl rfl
  · obtain ⟨b, b1, b2, b3⟩ := Ib c hc e
    refine Or.inr (cd_lt (b := b) (h1.1 b b1 b2) ?_ (fun j hj => ?_))
    · rw [Nat.testBit_xor, h1.1 b b1 b2, b3.1]
      rfl
    · rw [Nat.testBit_xor, b3.2 j hj, Bool.xor_false]
/-- the least filling -/
theorem cd_fill_spec {d : Nat → Nat} (hlin : ∀ x y, d (x ^^^ y) = d x ^^^ d y) {n : Nat} {u : cd_E} (hI : cd_inv d n u) {t : Nat} (ht : t < 2 ^ n) :
    d (cd_red u.2.2.1 u.2.2.1 10 t 0).1 = d t ∧ (cd_red u.2.2.1 u.2.2.1 10 t 0).1 < 2 ^ n ∧ (∀ c, c < 2 ^ n → d c = d t → (cd_red u.2.2.1 u.2.2.1 10 t 0).1 ≤ c) := by
  obtain ⟨Ia, Ib, Ic, Id⟩ := hI
  have h1 := cd_red_bits (O := u.2.2.1) 10 (fun b hb hne => (Ic b hb hne).2.1) t 0
  have h2 := cd_red_ker (O := u.2.2.1) hlin 10 (fun b hb hne => (Ic b hb hne).2.2) t 0
  have h3 := cd_red_ltm (O := u.2.2.1) (m := n) 10 (fun b hb hne => Nat.lt_of_lt_of_le (cd_tb_lt2 (Ic b hb hne).2.1) (Nat.pow_le_pow_right (by decide) (Ic b hb hne).1)) t 0 ht
  generalize (cd_red u.2.2.1 u.2.2.1 10 t 0).1 = y at h1 h2 h3 ⊢
  refine ⟨h2, h3, fun c hc hdc => ?_⟩
  by_cases e : y ^^^ c = 0
  · rw [cd_xor_eq0 e]
    exact Nat.le_refl _
  · have hz : d (y ^^^ c) = 0 := by rw [hlin, h2, hdc, Nat.xor_self]
    obtain ⟨b, b1, b2, b3⟩ := Id _ (Nat.xor_lt_two_pow h3 hc) e hz
    have hyb := h1.1 b b1 b2
    refine Nat.le_of_lt (cd_lt (b := b) hyb ?_ (fun j hj => ?_))
    · have q := b3.1
      rw [Nat.testBit_xor, hyb, Bool.false_xor] at q
      exact q
    · have q := b3.2 j hj
      rw [Nat.testBit_xor] at q
      revert q
      cases y.testBit j <;> cases c.testBit j <;> simp
end
section
/-! plain law, 4: counting -/
def cd_ct (P : Nat → Bool) : Nat → Nat
  | 0 => 0
  | m + 1 => cd_ct P m + (if P m then 1 else 0)
theorem cd_ct_congr {P Q : Nat → Bool} : ∀ m, (∀ c, c < m → P c = Q c) → cd_ct P m = cd_ct Q m := by
  intro m
  induction m with
  | zero => intro _; rfl
  | succ m ih =>
    intro e
    show cd_ct P m + (if P m = true then 1 else 0) = cd_ct Q m + (if Q m = true then 1 else 0)
    rw [ih (fun c hc => e c (by omega)), e m (by omega)]
theorem cd_ct_le {P Q : Nat → Bool} : ∀ m, (∀ c, c < m → P c = true → Q c = true) → cd_ct P m ≤ cd_ct Q m := by
  intro m
  induction m with
  | zero => intro _; exact Nat.le_refl _
  | succ m ih =>
    intro e
    show cd_ct P m + (if P m = true then 1 else 0) ≤ cd_ct Q m + (if Q m = true then 1 else 0)
    have h1 := ih (fun c hc => e c (by omega))
    by_cases hp : P m = true
    · rw [if_pos hp, if_pos (e m (by omega) hp)]
      omega
    · rw [if_neg hp]
      omega
theorem cd_ct_zero {P : Nat → Bool} : ∀ m, (∀ c, c < m → P c = false) → cd_ct P m = 0 := by
  intro m
  induction m with
  | zero => intro _; rfl
  | succ m ih =>
    intro e
    show cd_ct P m + (if P m = true then 1 else 0) = 0
    rw [ih (fun c hc => e c (by omega)), e m (by omega)]
    rfl
theorem cd_ct_add (P : Nat → Bool) (m : Nat) : ∀ n, cd_ct P (m + n) = cd_ct P m + cd_ct (fun c => P (m + c)) n := by
  intro n
  induction n with
  | zero => rfl
  | succ n ih =>
    show cd_ct P (m + n) + (if P (m + n) = true then 1 else 0) = cd_ct P m + (cd_ct (fun c => P (m + c)) n + (if P (m + n) = true then 1 else 0))
    rw [ih, Nat.add_assoc]
theorem cd_ct_dbl (P : Nat → Bool) (i : Nat) : cd_ct P (2 ^ (i + 1)) = cd_ct P (2 ^ i) + cd_ct (fun c => P (2 ^ i ^^^ c)) (2 ^ i) := by
  rw [show 2 ^ (i + 1) = 2 ^ i + 2 ^ i by rw [Nat.pow_succ]; omega, cd_ct_add]
  congr 1
  apply cd_ct_congr
  intro c hc
  rw [cd_pow_xor hc]
theorem cd_ct_sh : ∀ (i : Nat) (P : Nat → Bool) (t : Nat), t < 2 ^ i → cd_ct (fun c => P (t ^^^ c)) (2 ^ i) = cd_ct P (2 ^ i) := by
  intro i
  induction i with
  | zero =>
    intro P t ht
    rw [Nat.pow_zero] at ht
    have e : t = 0 := by omega
    subst e
    apply cd_ct_congr
    intro c _
    rw [Nat.zero_xor]
  | succ i ih =>
    intro P t ht
    rw [cd_ct_dbl, cd_ct_dbl]
    rcases cd_split ht with q | ⟨t', ht', rfl⟩
    · rw [ih P t q]
      congr 1
      rw [← ih (fun c => P (2 ^ i ^^^ c)) t q]
      apply cd_ct_congr
      intro c _
      try dsimp only
      rw [← Nat.xor_assoc, ← Nat.xor_assoc, Nat.xor_comm t]
    · rw [Nat.add_comm]
      congr 1
      · rw [← ih P t' ht']
        apply cd_ct_congr
        intro c _
        try dsimp only
        rw [cd_xor_4 (2 ^ i) (2 ^ i) t' c, Nat.xor_self, Nat.zero_xor]
      · rw [← ih (fun c => P (2 ^ i ^^^ c)) t' ht']
        apply cd_ct_congr
        intro c _
        try dsimp only
        rw [Nat.xor_assoc]
/-- chains without boundary -/
theorem cd_K_dep {d : Nat → Nat} (hl : ∀ x y, d (x ^^^ y) = d x ^^^ d y) {i t : Nat} (ht : t < 2 ^ i) (e : d t = d (2 ^ i)) : cd_ct (fun c => d c == 0) (2 ^ (i + 1)) = 2 * cd_ct (fun c => d c == 0) (2 ^ i) := by
  rw [cd_ct_dbl]
  have e2 : cd_ct (fun c => d (2 ^ i ^^^ c) == 0) (2 ^ i) = cd_ct (fun c => d c == 0) (2 ^ i) := by
    rw [← cd_ct_sh i (fun c => d c == 0) t ht]
    apply cd_ct_congr
    intro c _
    try dsimp only
    rw [hl, hl, e]
  rw [e2]
  omega
theorem cd_K_ind {d : Nat → Nat} (hl : ∀ x y, d (x ^^^ y) = d x ^^^ d y) {i : Nat} (e : ∀ c, c < 2 ^ i → d c ≠ d (2 ^ i)) : cd_ct (fun c => d c == 0) (2 ^ (i + 1)) = cd_ct (fun c => d c == 0) (2 ^ i) := by
  rw [cd_ct_dbl]
  have e2 : cd_ct (fun c => d (2 ^ i ^^^ c) == 0) (2 ^ i) = 0 := by
    apply cd_ct_zero
    intro c hc
    try dsimp only
    rw [beq_eq_false_iff_ne]
    intro q
    rw [hl] at q
    exact e c hc (cd_xor_eq0 q).symm
  rw [e2]
  rfl
/-- a boundary that no smaller chain has -/
def cd_nw (d : Nat → Nat) (c : Nat) : Bool := decide (∀ c', c' < c → d c' ≠ d c)
theorem cd_N_dep {d : Nat → Nat} (hl : ∀ x y, d (x ^^^ y) = d x ^^^ d y) {i t : Nat} (ht : t < 2 ^ i) (e : d t = d (2 ^ i)) : cd_ct (cd_nw d) (2 ^ (i + 1)) = cd_ct (cd_nw d) (2 ^ i) := by
  rw [cd_ct_dbl]
  have e2 : cd_ct (fun c => cd_nw d (2 ^ i ^^^ c)) (2 ^ i) = 0 := by
    apply cd_ct_zero
    intro c hc
    unfold cd_nw
    rw [decide_eq_false]
    intro q
    have h1 : t ^^^ c < 2 ^ i := Nat.xor_lt_two_pow ht hc
    refine q (t ^^^ c) ?_ ?_
    · rw [← cd_pow_xor hc]
      omega
    · rw [hl, hl, e]
  rw [e2]
  rfl
theorem cd_N_ind {d : Nat → Nat} (hl : ∀ x y, d (x ^^^ y) = d x ^^^ d y) {i : Nat} (e : ∀ c, c < 2 ^ i → d c ≠ d (2 ^ i)) : cd_ct (cd_nw d) (2 ^ (i + 1)) = 2 * cd_ct (cd_nw d) (2 ^ i) := by
  rw [cd_ct_dbl]
  have e2 : cd_ct (fun c => cd_nw d (2 ^ i ^^^ c)) (2 ^ i) = cd_ct (cd_nw d) (2 ^ i) := by
    apply cd_ct_congr
    intro c hc
    unfold cd_nw
    rw [decide_eq_decide]
    constructor
    · intro q c' hc' e3
      refine q (2 ^ i ^^^ c') ?_ (by rw [hl, hl, e3])
      rw [← cd_pow_xor hc, ← cd_pow_xor (by omega)]
      omega
    · intro q c' hc' e3
      have hlt : c' < 2 ^ (i + 1) := by
        rw [← cd_pow_xor hc] at hc'
        rw [Nat.pow_succ]
        omega
      rcases cd_split hlt with w | ⟨c2, hc2, rfl⟩
      · rw [hl] at e3
        refine e (c' ^^^ c) (Nat.xor_lt_two_pow w hc) ?_
        rw [hl, e3, Nat.xor_assoc, Nat.xor_self, Nat.xor_zero]
      · rw [← cd_pow_xor hc, ← cd_pow_xor hc2] at hc'
        refine q c2 (by omega) ?_
        rw [hl, hl] at e3
        have e4 := congrArg (fun y => d (2 ^ i) ^^^ y) e3
        try dsimp only at e4
        rw [cd_xor_xor, cd_xor_xor] at e4
        exact e4
  rw [e2]
  omega
theorem cd_el_rank {h : Nat → Bool} (hc : cd_cl h) {k : Nat} (R O C : Nat → Nat) (y w : Nat) : ∀ i, i ≤ cd_n h k → cd_ct (fun c => cd_bnd h k c == 0) (2 ^ i) * 2 ^ (cd_el h k (cd_z R 10, cd_z O 10, cd_z C 10, 0, y, w) i).2.2.2.1 = 2 ^ i ∧ cd_ct (cd_nw (cd_bnd h k)) (2 ^ i) = 2 ^ (cd_el h k (cd_z R 10, cd_z O 10, cd_z C 10, 0, y, w) i).2.2.2.1 := by
  intro i
  have hl := cd_bnd_lin h k
  induction i with
  | zero =>
    intro _
    constructor
    · show (0 + (if (cd_bnd h k 0 == 0) = true then 1 else 0)) * 2 ^ 0 = 2 ^ 0
      rw [cd_lin_0 hl]
      rfl
    · show 0 + (if cd_nw (cd_bnd h k) 0 = true then 1 else 0) = 2 ^ 0
      rw [show cd_nw (cd_bnd h k) 0 = true from decide_eq_true (fun c' q => absurd q (Nat.not_lt_zero c'))]
      rfl
  | succ i ih =>
    intro hi
    have hn := cd_n_le h k
    have hk : k ≤ 4 := by
      rcases Nat.lt_or_ge 4 k with q | q
      · rw [cd_n_5 (by omega)] at hi
        omega
      · exact q
    obtain ⟨i1, i2⟩ := ih (by omega)
    have hi2 := hi
    rw [cd_n_of hk] at hi hn
    have st := (cd_step (h := h) (k := k) (i := i) (by omega) (fun c hcl => cd_bnd_1024 hc hk (Nat.lt_of_lt_of_le hcl (Nat.pow_le_pow_right (by decide) hi))) (cd_el_inv hc R O C 0 y w i (by omega))).2
    show cd_ct (fun c => cd_bnd h k c == 0) (2 ^ (i + 1)) * 2 ^ (cd_es h k i (cd_el h k (cd_z R 10, cd_z O 10, cd_z C 10, 0, y, w) i)).2.2.2.1 = 2 ^ (i + 1) ∧ cd_ct (cd_nw (cd_bnd h k)) (2 ^ (i + 1)) = 2 ^ (cd_es h k i (cd_el h k (cd_z R 10, cd_z O 10, cd_z C 10, 0, y, w) i)).2.2.2.1
    rcases st with ⟨⟨t, ht, e⟩, er⟩ | ⟨e, er⟩
    · rw [er, cd_K_dep hl ht e, cd_N_dep hl ht e, Nat.mul_assoc, i1, i2]
      exact ⟨by rw [Nat.pow_succ, Nat.mul_comm], rfl⟩
    · rw [er, cd_K_ind hl e, cd_N_ind hl e, i2, Nat.pow_succ, ← Nat.mul_assoc, i1]
      exact ⟨by rw [Nat.pow_succ], by rw [Nat.mul_comm]⟩
theorem cd_elim_rank {h : Nat → Bool} (hc : cd_cl h) (k : Nat) (R O C : Nat → Nat) (lf tk : Nat) : cd_ct (fun c => cd_bnd h k c == 0) (2 ^ cd_n h k) * 2 ^ (cd_elim h k R O C lf tk).2.2.2.1 = 2 ^ cd_n h k ∧ cd_ct (cd_nw (cd_bnd h k)) (2 ^ cd_n h k) = 2 ^ (cd_elim h k R O C lf tk).2.2.2.1 := cd_el_rank hc R O C lf tk _ (Nat.le_refl _)
/-! the reference's marks -/
theorem cd_lt_n {h : Nat → Bool} {k c : Nat} (hcl : c < 2 ^ cd_n h k) : c < 2 ^ cd_cnt h k := by
  by_cases hk : k ≤ 4
  · rw [cd_n_of hk] at hcl
    exact hcl
  · rw [cd_n_5 hk, Nat.pow_zero] at hcl
    have := Nat.two_pow_pos (cd_cnt h k)
    omega
theorem cd_bnd_eqn {h : Nat → Bool} (hc : cd_cl h) {k c : Nat} (hcl : c < 2 ^ cd_n h k) : cd_mbnd h k c = cd_bnd h k c := by
  by_cases hk : k ≤ 4
  · exact cd_bnd_eq hc hk (cd_lt_n hcl)
  · rw [cd_n_5 hk, Nat.pow_zero] at hcl
    have e : c = 0 := by omega
    rw [e, cd_lin_0 (cd_bnd_lin h k)]
    unfold cd_mbnd
    rw [if_neg (by omega)]
theorem cd_mk_iff (h : Nat → Bool) (k : Nat) (M : Nat → Bool) (b : Nat) : ∀ m, (cd_mk h k M m).1 b = true ↔ (M b = true ∨ ∃ c, c < m ∧ cd_mbnd h (k + 1) c = b) := by
  intro m
  induction m with
  | zero =>
    constructor
    · intro q; exact Or.inl q
    · rintro (q | ⟨c, hc, -⟩)
      · exact q
      · omega
  | succ m ih =>
    show cd_up (cd_mk h k M m).1 (cd_mbnd h (k + 1) m) true b = true ↔ _
    by_cases e : b = cd_mbnd h (k + 1) m
    · rw [e, cd_up_same]
      constructor
      · intro _; exact Or.inr ⟨m, Nat.lt_succ_self m, rfl⟩
      · intro _; rfl
    · rw [cd_up_other _ _ e, ih]
      constructor
      · rintro (q | ⟨c, hc, q⟩)
        · exact Or.inl q
        · exact Or.inr ⟨c, by omega, q⟩
      · rintro (q | ⟨c, hc, q⟩)
        · exact Or.inl q
        · rcases Nat.lt_or_ge c m with w | w
          · exact Or.inr ⟨c, w, q⟩
          · have e2 : c = m := by omega
            rw [e2] at q
            exact absurd q.symm e
theorem cd_zB_f (M : Nat → Bool) {n b : Nat} (hb : b < n) : cd_zB M n b = false := if_pos hb
/-- a chain is marked just if it is a boundary -/
theorem cd_mark_iff {h : Nat → Bool} (hc : cd_cl h) {k b : Nat} (M : Nat → Bool) (hb : b < 2 ^ cd_n h k) : (cd_mark h k M).1 b = true ↔ ∃ c, c < 2 ^ cd_n h (k + 1) ∧ cd_bnd h (k + 1) c = b := by
  unfold cd_mark
  rw [cd_mk_iff, cd_zB_f M hb]
  constructor
  · rintro (q | ⟨c, hcl, q⟩)
    · cases q
    · exact ⟨c, hcl, by rw [← cd_bnd_eqn hc hcl]; exact q⟩
  · rintro ⟨c, hcl, q⟩
    exact Or.inr ⟨c, hcl, by rw [cd_bnd_eqn hc hcl]; exact q⟩
theorem cd_mk_ct {h : Nat → Bool} (hc : cd_cl h) {k : Nat} (hk : k ≤ 4) (M : Nat → Bool) : ∀ m, m ≤ 2 ^ cd_n h (k + 1) → (cd_mk h k (cd_zB M (2 ^ cd_n h k)) m).2 = cd_ct (cd_nw (cd_bnd h (k + 1))) m := by
  intro m
  induction m with
  | zero => intro _; rfl
  | succ m ih =>
    intro hm
    show (cd_mk h k (cd_zB M (2 ^ cd_n h k)) m).2 + (if (cd_mk h k (cd_zB M (2 ^ cd_n h k)) m).1 (cd_mbnd h (k + 1) m) = true then 0 else 1) = cd_ct (cd_nw (cd_bnd h (k + 1))) m + (if cd_nw (cd_bnd h (k + 1)) m = true then 1 else 0)
    rw [ih (by omega)]
    congr 1
    by_cases q : ∃ c, c < m ∧ cd_mbnd h (k + 1) c = cd_mbnd h (k + 1) m
    · rw [if_pos ((cd_mk_iff _ _ _ _ _).mpr (Or.inr q)), if_neg]
      obtain ⟨c, c1, c2⟩ := q
      unfold cd_nw
      rw [decide_eq_true_eq]
      intro w
      refine w c c1 ?_
      rw [← cd_bnd_eqn hc (by omega), ← cd_bnd_eqn hc (by omega)]
      exact c2
    · rw [if_neg, if_pos]
      · unfold cd_nw
        rw [decide_eq_true_eq]
        intro c c1 c2
        refine q ⟨c, c1, ?_⟩
        rw [cd_bnd_eqn hc (by omega), cd_bnd_eqn hc (by omega)]
        exact c2
      · rw [cd_mk_iff, cd_zB_f M (cd_mbnd_lt h hk m)]
        rintro (w | w)
        · cases w
        · exact q w
theorem cd_ct_up {M : Nat → Bool} {b : Nat} : ∀ n, b < n → cd_ct (cd_up M b true) n = cd_ct M n + (if M b = true then 0 else 1) := by
  intro n
  induction n with
  | zero => intro q; omega
  | succ n ih =>
    intro q
    show cd_ct (cd_up M b true) n + (if cd_up M b true n = true then 1 else 0) = cd_ct M n + (if M n = true then 1 else 0) + (if M b = true then 0 else 1)
    by_cases e : b = n
    · rw [e, cd_up_same, cd_ct_congr (Q := M) n (fun c hc => cd_up_other _ _ (by omega)), if_pos rfl]
      by_cases w : M n = true
      · rw [if_pos w, if_pos w]
      · rw [if_neg w, if_neg w]
    · rw [ih (by omega), cd_up_other _ _ (Ne.symm e)]
      omega
theorem cd_mk_ct2 {h : Nat → Bool} {k : Nat} (hk : k ≤ 4) (M : Nat → Bool) : ∀ m, (cd_mk h k (cd_zB M (2 ^ cd_n h k)) m).2 = cd_ct (cd_mk h k (cd_zB M (2 ^ cd_n h k)) m).1 (2 ^ cd_n h k) := by
  intro m
  induction m with
  | zero => exact (cd_ct_zero _ (fun c hc => cd_zB_f M hc)).symm
  | succ m ih =>
    show (cd_mk h k (cd_zB M (2 ^ cd_n h k)) m).2 + (if (cd_mk h k (cd_zB M (2 ^ cd_n h k)) m).1 (cd_mbnd h (k + 1) m) = true then 0 else 1) = cd_ct (cd_up (cd_mk h k (cd_zB M (2 ^ cd_n h k)) m).1 (cd_mbnd h (k + 1) m) true) (2 ^ cd_n h k)
    rw [cd_ct_up _ (cd_mbnd_lt h hk m), ih]
theorem cd_cy_ct {h : Nat → Bool} (hc : cd_cl h) {k : Nat} : ∀ m, m ≤ 2 ^ cd_n h k → cd_cy h k m = cd_ct (fun c => cd_bnd h k c == 0) m := by
  intro m
  induction m with
  | zero => intro _; rfl
  | succ m ih =>
    intro hm
    show cd_cy h k m + (if cd_mbnd h k m = 0 then 1 else 0) = cd_ct (fun c => cd_bnd h k c == 0) m + (if (cd_bnd h k m == 0) = true then 1 else 0)
    rw [ih (by omega), cd_bnd_eqn hc (by omega)]
    congr 1
    by_cases q : cd_bnd h k m = 0
    · rw [if_pos q, if_pos (by rw [q]; rfl)]
    · rw [if_neg q, if_neg (by rw [beq_iff_eq]; exact q)]
theorem cd_hb_pow (p q : Nat) : ∀ m b, p + b ≤ q → q ≤ p + b + m → cd_hb (2 ^ p) (2 ^ q) m b = q - p := by
  intro m
  induction m with
  | zero =>
    intro b h1 h2
    show b = q - p
    omega
  | succ m ih =>
    intro b h1 h2
    show (if 2 ^ p * 2 ^ b < 2 ^ q then cd_hb (2 ^ p) (2 ^ q) m (b + 1) else b) = q - p
    rw [← Nat.pow_add]
    by_cases e : p + b < q
    · rw [if_pos (Nat.pow_lt_pow_right (by decide) e)]
      exact ih (b + 1) (by omega) (by omega)
    · rw [if_neg (Nat.not_lt.mpr (Nat.pow_le_pow_right (by decide) (by omega)))]
      omega
end
section
/-! the plain law: what both compute is the same -/
theorem cd_eq_bnd {h : Nat → Bool} (hc : cd_cl h) (k0 x0 : Int32) : cd_cv h (fun k x => nI (cd_bnd h k x)) k0 x0 = cd_cv h (fun k x => nI (cd_mbnd h k x)) k0 x0 := by
  by_cases hf : cd_chn h k0 x0 = true
  · obtain ⟨k, x, hk, h1, h2, rfl, rfl⟩ := cd_chnE hf
    rw [cd_cv_t hk h1 h2, cd_cv_t hk h1 h2]
    try dsimp only
    rw [cd_bnd_eq hc hk h1]
  · have hf2 : cd_chn h k0 x0 = false := by simpa using hf
    rw [cd_cv_f hf2, cd_cv_f hf2]
theorem cd_eq_hol {h : Nat → Bool} (hc : cd_cl h) (R O C : Nat → Nat) (lf tk : Nat) (M : Nat → Bool) (k0 : Int32) : cd_dv (cd_hoD h R O C lf tk) k0 = cd_dv (fun k => nI (cd_hb (cd_mark h k M).2 (cd_cy h k (2 ^ cd_n h k)) 10 0)) k0 := by
  by_cases hf : cd_dim k0 = true
  · obtain ⟨k, hk, rfl⟩ := cd_dimE hf
    rw [cd_dv_t hk, cd_dv_t hk]
    try dsimp only
    unfold cd_hoD
    have hn := cd_n_le h k
    have hcn := cd_n_of (h := h) hk
    obtain ⟨r1, r2⟩ := cd_elim_rank hc k R O C lf tk
    have e2 : ∃ r', (cd_E2 h R O C lf tk k).2.2.2.1 = r' ∧ cd_ct (cd_nw (cd_bnd h (k + 1))) (2 ^ cd_n h (k + 1)) = 2 ^ r' := ⟨_, rfl, (cd_elim_rank hc (k + 1) _ _ _ _ _).2⟩
    obtain ⟨r', e3, e4⟩ := e2
    rw [e3]
    generalize (cd_elim h k R O C lf tk).2.2.2.1 = r at r1 r2 ⊢
    have hF : (cd_mark h k M).2 = 2 ^ r' := by
      rw [← e4]
      exact cd_mk_ct hc hk M _ (Nat.le_refl _)
    have hF2 : (cd_mark h k M).2 = cd_ct (cd_mark h k M).1 (2 ^ cd_n h k) := cd_mk_ct2 hk M _
    have hle : (cd_mark h k M).2 ≤ cd_ct (fun c => cd_bnd h k c == 0) (2 ^ cd_n h k) := by
      rw [hF2]
      apply cd_ct_le
      intro b hb hm
      obtain ⟨c, c1, c2⟩ := (cd_mark_iff hc M hb).mp hm
      try dsimp only
      rw [← c2, cd_dd hc (cd_lt_n c1)]
      rfl
    have hy := cd_cy_ct hc (k := k) (2 ^ cd_n h k) (Nat.le_refl _)
    have hrn : r ≤ cd_n h k := by
      rcases Nat.lt_or_ge (cd_n h k) r with q | q
      · have h3 : 2 ^ cd_n h k < 2 ^ r := Nat.pow_lt_pow_right (by decide) q
        rcases Nat.eq_zero_or_pos (cd_ct (fun c => cd_bnd h k c == 0) (2 ^ cd_n h k)) with w | w
        · rw [w, Nat.zero_mul] at r1
          have := Nat.two_pow_pos (cd_n h k)
          omega
        · have := Nat.le_mul_of_pos_left (2 ^ r) w
          omega
      · exact q
    have hK : cd_ct (fun c => cd_bnd h k c == 0) (2 ^ cd_n h k) = 2 ^ (cd_n h k - r) := by
      have e5 : 2 ^ (cd_n h k - r) * 2 ^ r = 2 ^ cd_n h k := by rw [← Nat.pow_add, Nat.sub_add_cancel hrn]
      exact Nat.eq_of_mul_eq_mul_right (Nat.two_pow_pos r) (r1.trans e5.symm)
    rw [hy, hK, hF]
    rw [hK, hF] at hle
    have hrr : r' ≤ cd_n h k - r := by
      rcases Nat.lt_or_ge (cd_n h k - r) r' with q | q
      · have h3 : 2 ^ (cd_n h k - r) < 2 ^ r' := Nat.pow_lt_pow_right (by decide) q
        omega
      · exact q
    rw [cd_hb_pow r' (cd_n h k - r) 10 0 (by omega) (by omega), ← hcn, pk_sub hrn, pk_sub hrr]
  · have hf2 : cd_dim k0 = false := by simpa using hf
    rw [cd_dv_f hf2, cd_dv_f hf2]
theorem cd_eq_fld {h : Nat → Bool} (hc : cd_cl h) (R O C : Nat → Nat) (lf tk : Nat) (M : Nat → Bool) (k0 x0 : Int32) : cd_cv h (fun k x => cd_b ((cd_rdD h R O C lf tk k x).1 == 0)) k0 x0 = cd_cv h (fun k x => cd_b ((cd_mark h k M).1 x)) k0 x0 := by
  by_cases hf : cd_chn h k0 x0 = true
  · obtain ⟨k, x, hk, h1, h2, rfl, rfl⟩ := cd_chnE hf
    rw [cd_cv_t hk h1 h2, cd_cv_t hk h1 h2]
    try dsimp only
    congr 1
    unfold cd_rdD
    obtain ⟨s1, s2, s3⟩ := cd_left_spec (cd_bnd_lin h (k + 1)) (cd_elim_inv hc (k + 1) R O C lf tk) x
    generalize cd_red (cd_elim h (k + 1) R O C lf tk).1 (cd_elim h (k + 1) R O C lf tk).2.1 10 x 0 = r at s1 s2 s3 ⊢
    have hi := cd_mark_iff hc M (b := x) (k := k) (by rw [cd_n_of hk]; exact h1)
    rw [Bool.eq_iff_iff, hi, beq_iff_eq]
    constructor
    · intro q
      refine ⟨r.2, s2, ?_⟩
      rw [q, Nat.xor_zero] at s1
      exact s1
    · rintro ⟨c, c1, c2⟩
      have e : r.1 = cd_bnd h (k + 1) (r.2 ^^^ c) := by
        rw [cd_bnd_lin, c2]
        rw [← s1, cd_xor_xor]
      have q := s3 (r.2 ^^^ c) (Nat.xor_lt_two_pow s2 c1)
      rw [← e, Nat.xor_self] at q
      omega
  · have hf2 : cd_chn h k0 x0 = false := by simpa using hf
    rw [cd_cv_f hf2, cd_cv_f hf2]
theorem cd_fl_spec {h : Nat → Bool} {k x y : Nat} : ∀ n c, c ≤ y → y < c + n → cd_mbnd h (k + 1) y = x → (∀ c', c' < y → cd_mbnd h (k + 1) c' ≠ x) → cd_fl h k x n c = nI y := by
  intro n
  induction n with
  | zero => intro c h1 h2; omega
  | succ n ih =>
    intro c h1 h2 h3 h4
    show (if cd_mbnd h (k + 1) c = x then nI c else cd_fl h k x n (c + 1)) = nI y
    by_cases e : c = y
    · rw [e, if_pos h3]
    · rw [if_neg (h4 c (by omega))]
      exact ih (c + 1) (by omega) (by omega) h3 h4
theorem cd_fl_none {h : Nat → Bool} {k x : Nat} : ∀ n c, (∀ c', c' < c + n → cd_mbnd h (k + 1) c' ≠ x) → cd_fl h k x n c = -2 := by
  intro n
  induction n with
  | zero => intro c _; rfl
  | succ n ih =>
    intro c h4
    show (if cd_mbnd h (k + 1) c = x then nI c else cd_fl h k x n (c + 1)) = -2
    rw [if_neg (h4 c (by omega))]
    exact ih (c + 1) (fun c' q => h4 c' (by omega))
theorem cd_eq_flg {h : Nat → Bool} (hc : cd_cl h) (R O C : Nat → Nat) (lf tk : Nat) (k0 x0 : Int32) : cd_cv h (cd_flD h R O C lf tk) k0 x0 = cd_cv h (fun k x => cd_fl h k x (2 ^ cd_n h (k + 1)) 0) k0 x0 := by
  by_cases hf : cd_chn h k0 x0 = true
  · obtain ⟨k, x, hk, h1, h2, rfl, rfl⟩ := cd_chnE hf
    rw [cd_cv_t hk h1 h2, cd_cv_t hk h1 h2]
    try dsimp only
    unfold cd_flD cd_rdD
    have hlin := cd_bnd_lin h (k + 1)
    have hI := cd_elim_inv hc (k + 1) R O C lf tk
    obtain ⟨s1, s2, s3⟩ := cd_left_spec hlin hI x
    generalize cd_red (cd_elim h (k + 1) R O C lf tk).1 (cd_elim h (k + 1) R O C lf tk).2.1 10 x 0 = r at s1 s2 s3 ⊢
    by_cases q : r.1 = 0
    · rw [if_pos q]
      rw [q, Nat.xor_zero] at s1
      obtain ⟨f1, f2, f3⟩ := cd_fill_spec hlin hI s2
      rw [s1] at f1 f3
      symm
      refine cd_fl_spec _ 0 (Nat.zero_le _) (by omega) ?_ ?_
      · rw [cd_bnd_eqn hc f2]
        exact f1
      · intro c' w e
        rw [cd_bnd_eqn hc (by omega)] at e
        have := f3 c' (by omega) e
        omega
    · rw [if_neg q]
      symm
      apply cd_fl_none
      intro c' w e
      rw [Nat.zero_add] at w
      rw [cd_bnd_eqn hc w] at e
      have e2 : r.1 = cd_bnd h (k + 1) (r.2 ^^^ c') := by
        rw [hlin, e]
        rw [← s1, cd_xor_xor]
      have q2 := s3 (r.2 ^^^ c') (Nat.xor_lt_two_pow s2 w)
      rw [← e2, Nat.xor_self] at q2
      omega
  · have hf2 : cd_chn h k0 x0 = false := by simpa using hf
    rw [cd_cv_f hf2, cd_cv_f hf2]
theorem cd_ls_spec {M : Nat → Bool} {x y : Nat} : ∀ n c, c ≤ y → y < c + n → M (y ^^^ x) = true → (∀ c', c' < y → M (c' ^^^ x) = false) → cd_ls M x n c = y := by
  intro n
  induction n with
  | zero => intro c h1 h2; omega
  | succ n ih =>
    intro c h1 h2 h3 h4
    show (if M (c ^^^ x) = true then c else cd_ls M x n (c + 1)) = y
    by_cases e : c = y
    · rw [e, if_pos h3]
    · rw [h4 c (by omega), if_neg (by decide)]
      exact ih (c + 1) (by omega) (by omega) h3 h4
theorem cd_eq_lst {h : Nat → Bool} (hc : cd_cl h) (R O C : Nat → Nat) (lf tk : Nat) (M : Nat → Bool) (k0 x0 : Int32) : cd_cv h (fun k x => nI (cd_rdD h R O C lf tk k x).1) k0 x0 = cd_cv h (fun k x => nI (cd_ls (cd_mark h k M).1 x (2 ^ cd_n h k) 0)) k0 x0 := by
  by_cases hf : cd_chn h k0 x0 = true
  · obtain ⟨k, x, hk, h1, h2, rfl, rfl⟩ := cd_chnE hf
    rw [cd_cv_t hk h1 h2, cd_cv_t hk h1 h2]
    try dsimp only
    congr 1
    unfold cd_rdD
    have hlin := cd_bnd_lin h (k + 1)
    obtain ⟨s1, s2, s3⟩ := cd_left_spec hlin (cd_elim_inv hc (k + 1) R O C lf tk) x
    generalize cd_red (cd_elim h (k + 1) R O C lf tk).1 (cd_elim h (k + 1) R O C lf tk).2.1 10 x 0 = r at s1 s2 s3 ⊢
    rw [← cd_n_of hk] at h1
    have hb : cd_bnd h (k + 1) r.2 < 2 ^ cd_n h k := by
      rw [← cd_bnd_eqn hc s2]
      exact cd_mbnd_lt h hk _
    have hr : r.1 = x ^^^ cd_bnd h (k + 1) r.2 := by
      rw [Nat.xor_comm]
      rw [← s1, cd_xor_xor]
    have hl : r.1 < 2 ^ cd_n h k := by
      rw [hr]
      exact Nat.xor_lt_two_pow h1 hb
    symm
    refine cd_ls_spec _ 0 (Nat.zero_le _) (by omega) ?_ ?_
    · rw [hr, Nat.xor_comm x, Nat.xor_assoc, Nat.xor_self, Nat.xor_zero]
      exact (cd_mark_iff hc M hb).mpr ⟨r.2, s2, rfl⟩
    · intro c' w
      cases e : (cd_mark h k M).1 (c' ^^^ x)
      · rfl
      · obtain ⟨c, c1, c2⟩ := (cd_mark_iff hc M (Nat.xor_lt_two_pow (by omega) h1)).mp e
        have q := s3 (r.2 ^^^ c) (Nat.xor_lt_two_pow s2 c1)
        have e2 : r.1 ^^^ cd_bnd h (k + 1) (r.2 ^^^ c) = c' := by
          rw [hlin, c2, ← Nat.xor_assoc, Nat.xor_comm r.1, s1, Nat.xor_comm c', cd_xor_xor]
        rw [e2] at q
        omega
  · have hf2 : cd_chn h k0 x0 = false := by simpa using hf
    rw [cd_cv_f hf2, cd_cv_f hf2]
end
section
/-! THE CLAIM OUT OF ONE WALK OF THE LAW'S BODY. Your part is whole_start (and what it stands on); all else here is the same for every law, but numbers. -/
def R_law : String := "ChainDeskLaw"
def lw_P (b : Addr) (xs : List Int32) (args : Array Value) (s : State) : Prop := args = #[.ref b] ∧ s.IntsAt b xs ∧ xs.length ≤ 192 ∧ (Jvm.Cond.and given_1 narrow_1).before args s = true
def lw_Q (_ : Array Value) (s : State) (o : Outcome) (t : State) : Prop := o = .returned (some (.int 1)) ∧ Framed s o t [] 600000 7290000
def lw_Z (below : List Frame) (a : Array Value) (s : State) : State → Prop := fun t => ∃ o, t.status = .running ∧ Ended t below o ∧ lw_Q a s o t
/-- the law's own end, with 1 on the stack, nothing written that was there before, its room as the claim has it -/
theorem lw_ret {p : Program} {l : Launch} {e : Env} {s : State} {m : MethodId} {below : List Frame} {meth : Method} {c : Code} {b : Nat} (hx : p.tables.exec = Jvm.exec) (hb : c.code = code) (hr : meth.sig.returnType = ret) (hlocks : meth.locks = false) {pc : Nat} {H : Heap} {ls : Array Slot} (hdg : decode code pc = .ok (.ireturn, 1)) : W p l e room_1 s m #[Value.ref b] below meth c H [] 600000 7290000 (lw_Z below #[Value.ref b] s) (F0 m pc ls [.int 1]) := by
  intro T hT X
  obtain ⟨fs, hret, hrun, hended, hW, hframe⟩ := X.leave (v := some (.int 1)) (hlocks := hlocks) (fun h => by rw [hr] at h; cases h)
  have hmeth' : T.vm.method? m = some meth := X.method'
  refine ⟨T.setFrames fs, ?_, .returned (some (.int 1)), hrun, hended, rfl, ⟨_, rfl⟩, hW, hframe⟩
  jvm_step X.here [X.here.top, hx, hb, hdg, hmeth', hr, ret, narrow_b1]
  (try refine ⟨rfl, ?_⟩); (try refine ⟨rfl, ?_⟩)
  first | (intro acts; rw [hret _ acts rfl rfl rfl]) | rw [hret _ _ rfl rfl rfl]
  exact Steps.refl _
/-- what holds at the law's entry: the machine, the code, the tables' words (any of lw_tbl by 'hts w (by decide +kernel)'), the script of L ints xs at the cell b, what the Statement gives of the start (any of its parts by flat_of_before) -/
def lw_At (p : Program) (s : State) (m : MethodId) (meth : Method) (c : Code) (b L : Nat) (xs : Nat → Int32) : Prop :=
  p.tables.exec = Jvm.exec ∧ c.code = code ∧ meth.sig.returnType = ret ∧ c.maxLocals = 4 ∧ s.vm.findClass R_law = some m.cls ∧ (∀ w ∈ lw_tbl, w.before #[Value.ref b] s = true) ∧ va_X b L xs s s.heap ∧ b < s.heap.size ∧ meth.locks = false ∧ (Jvm.Cond.and given_1 narrow_1).before #[Value.ref b] s = true
end
section
/-! the law -/
set_option maxRecDepth 100000
theorem cd_apart {A : Nat → Prop} {w wz : va_W} (hD : va_D A (w ++ wz)) : ∀ x ∈ w.map Prod.fst, x ∉ wz.map Prod.fst := by
  intro x h1 h2
  obtain ⟨p, hp, rfl⟩ := List.mem_map.mp h1
  obtain ⟨q, hq, e⟩ := List.mem_map.mp h2
  obtain ⟨i, hi⟩ := List.getElem?_of_mem hp
  obtain ⟨j, hj⟩ := List.getElem?_of_mem hq
  have hil : i < w.length := (List.getElem?_eq_some_iff.mp hi).1
  have h3 := hD.1 i (w.length + j) p q (by rw [List.getElem?_append_left hil, hi]) (by rw [List.getElem?_append_right (by omega)]; rw [Nat.add_sub_cancel_left]; exact hj) e.symm
  omega
theorem cd_Daddr2 {A : Nat → Prop} {w w' : va_W} (hD : va_D A w) (h : w'.map Prod.fst = w.map Prod.fst) : va_D A w' := cd_Daddr h hD
theorem cd_sym {l1 l2 : List Nat} (h : ∀ x ∈ l1, x ∉ l2) : ∀ x ∈ l2, x ∉ l1 := fun x h2 h1 => h x h1 h2
set_option maxHeartbeats 8000000 in
set_option maxRecDepth 100000 in
theorem law_loop {p : Program} {e : Env} {s : State} {m : MethodId} {below : List Frame} {meth : Method} {c : Code} {l : Launch} {b L : Nat} {xs : Nat → Int32} (hL : L ≤ 192) (C0 : lw_At p s m meth c b L xs) {D : va_G} {a a2 : Nat → Nat} {z z2 : Nat → ClassId} (hK : va_K D vwCl (cd_DT z) s) (hK2 : va_K D vwCl (cd_MT z2) s) (hap : ∀ x ∈ [a 0, a 1, a 2, a 3, a 4], x ∉ [a2 0, a2 1, a2 2]) :
    ∀ (n i : Nat), i ≤ L → L + 1 ≤ i + n → ∀ (h : Nat → Bool) (R O C : Nat → Nat) (rk lf tk : Nat) (M : Nat → Bool), cd_cl h → ∀ (H : Heap) (locs : List Loc), va_P D vwCl (cd_DW a z h R O C rk lf tk) H → va_P D vwCl (cd_MW a2 z2 h M) H → va_D (fun q : Nat => s.heap.size ≤ q) (cd_DW a z h R O C rk lf tk) → va_D (fun q : Nat => s.heap.size ≤ q) (cd_MW a2 z2 h M) → va_S (fun q : Nat => s.heap.size ≤ q) s.heap H locs → ∀ ls : Array Slot, lv_has ls 4 [(0, .ref b), (1, .ref (a 0)), (2, .ref (a2 0)), (3, .int (nI i))] → W p l e room_1 s m #[Value.ref b] below meth c H locs 8 1127 (lw_Z below #[Value.ref b] s) (F0 m 18 ls []) := by
  obtain ⟨hx, hb, hr, hml, hown, hts0, hX, hbl, hlocks, hgv⟩ := id C0
  have hts : ∀ w ∈ lw_all, w.before #[Value.ref b] s = true := fun w h => hts0 w (lw_all_tbl h)
  have hA : ∀ q : Nat, s.heap.size ≤ q → (fun q : Nat => s.heap.size ≤ q) q := fun _ h => h
  have hbA : ¬ (fun q : Nat => s.heap.size ≤ q) b := Nat.not_le.mpr hbl
  have hap2 := cd_sym hap
  intro n
  induction n with
  | zero => intro i h1 h2; omega
  | succ n ih =>
    intro i h1 h2 h R O C rk lf tk M hcl H locs hPx hPm hDx hDm hS ls hl
    refine lv_iload_n hx hb dL_law_18 rfl (lv_at hl 3 rfl) ?_
    refine lv_aload_n hx hb dL_law_19 rfl (lv_at hl 0 rfl) ?_
    refine va_slen hx hb hX hbl hbA hS dL_law_20 ?_
    refine lv_iconst (v := nI 3) hx hb dL_law_21 (by decide) ?_
    refine lv_isub hx hb dL_law_22 ?_
    refine lv_icmp_gt (tgt := 364) hx hb dL_law_23 (by decide) (fun c23 => ?_) (fun c23 => ?_)
    · refine lv_iconst (v := 1) hx hb dL_law_364 (by decide) ?_
      refine W.widen (k := 600000) (n := 7290000) (Nat.le_of_ble_eq_true rfl) (Nat.le_of_ble_eq_true rfl) ?_
      refine va_forget (fun q h => hS.2.2 q h) ?_
      exact lw_ret hx hb hr hlocks dL_law_365
    have hi3 : i + 3 ≤ L := Nat.not_lt.mp (fun q => c23 ((cd_lawcmp hL (by omega)).mpr q))
    have next : ∀ (h' : Nat → Bool) (R O C : Nat → Nat) (rk lf tk : Nat) (M : Nat → Bool), cd_cl h' → ∀ (H : Heap) (locs : List Loc), va_P D vwCl (cd_DW a z h' R O C rk lf tk) H → va_P D vwCl (cd_MW a2 z2 h' M) H → va_S (fun q : Nat => s.heap.size ≤ q) s.heap H locs → ∀ ls : Array Slot, lv_has ls 4 [(0, .ref b), (1, .ref (a 0)), (2, .ref (a2 0)), (3, .int (nI i))] → W p l e room_1 s m #[Value.ref b] below meth c H locs 8 1127 (lw_Z below #[Value.ref b] s) (F0 m 358 ls []) := by
      intro h' R O C rk lf tk M hcl H locs hPx hPm hS ls hl
      refine lv_iinc (v := nI (i + 3)) (lv' := [(3, .int (nI (i + 3))), (0, .ref b), (1, .ref (a 0)), (2, .ref (a2 0))]) hx hb dL_law_358 hl (k := 3) rfl (nI_add i 3) (by decide) rfl (fun ls hl => ?_)
      refine lv_goto (tgt := 18) hx hb dL_law_361 (by decide) ?_
      exact ih (i + 3) hi3 (by omega) _ _ _ _ _ _ _ _ hcl _ _ hPx hPm (cd_Daddr2 hDx rfl) (cd_Daddr2 hDm rfl) hS _ (lv_sub hl [1, 2, 3, 0] rfl)
    refine lv_aload_n hx hb dL_law_26 rfl (lv_at hl 0 rfl) ?_
    refine lv_iload_n hx hb dL_law_27 rfl (lv_at hl 3 rfl) ?_
    refine va_sld hx hb hX hbl hbA hS (vp_in_nI (by omega) (by omega)) dL_law_28 ?_
    refine lv_bipush (v := nI 15) hx hb dL_law_29 (by decide) ?_
    refine lv_iand hx hb dL_law_31 ?_
    obtain ⟨j, hj, ej⟩ := pk_andE (xs (nI i).toNatClampNeg) (m := nI 15) 4 (by decide)
    refine cd_top ej ?_
    rcases (show j = 0 ∨ j = 1 ∨ j = 2 ∨ j = 3 ∨ j = 4 ∨ j = 5 ∨ j = 6 ∨ j = 7 ∨ j = 8 ∨ j = 9 ∨ 10 ≤ j by omega) with rfl | rfl | rfl | rfl | rfl | rfl | rfl | rfl | rfl | rfl | hj10
    · refine lv_tableIn (tgt := 88) (off := 56) hx hb dL_law_32 (by decide) (by decide) (by decide) (by decide) ?_
      refine lv_aload_n hx hb dL_law_88 rfl (lv_at hl 1 rfl) ?_
      refine lv_aload_n hx hb dL_law_89 rfl (lv_at hl 0 rfl) ?_
      refine lv_iload_n hx hb dL_law_90 rfl (lv_at hl 3 rfl) ?_
      refine lv_iconst (v := nI 1) hx hb dL_law_91 (by decide) ?_
      refine cn_add hx hb dL_law_92 ?_
      refine va_sld hx hb hX hbl hbA hS (vp_in_nI (by omega) (by omega)) dL_law_93 ?_
      refine cd_lawI [] hx hb hml hown hts hA (mt0_add l D a z h R O C rk lf tk (xs (nI (i + 1)).toNatClampNeg)) (cwV 1 hts (lw_V q49 q50 q51 q15 q52) rfl rfl rfl (by decide +kernel) ⟨Nat.le_of_ble_eq_true rfl, Nat.le_of_ble_eq_true rfl⟩) hK hDx hPx hPm hap hS (va_recv hK hPx (ci := 0) (q0 := 0) rfl rfl) hl.1 rfl rfl (Nat.le_of_ble_eq_true rfl) dL_law_94 ⟨Nat.le_of_ble_eq_true rfl, Nat.le_of_ble_eq_true rfl⟩ (fun H locs hPx hPm hS => ?_)
      refine lv_aload_n hx hb dL_law_97 rfl (lv_at hl 2 rfl) ?_
      refine lv_aload_n hx hb dL_law_98 rfl (lv_at hl 0 rfl) ?_
      refine lv_iload_n hx hb dL_law_99 rfl (lv_at hl 3 rfl) ?_
      refine lv_iconst (v := nI 1) hx hb dL_law_100 (by decide) ?_
      refine cn_add hx hb dL_law_101 ?_
      refine va_sld hx hb hX hbl hbA hS (vp_in_nI (by omega) (by omega)) dL_law_102 ?_
      refine cd_lawI [.int _] hx hb hml hown hts hA (mt1_add l D a2 z2 h M (xs (nI (i + 1)).toNatClampNeg)) (cwV 1 hts (lw_V q147 q148 q149 q16 q150) rfl rfl rfl (by decide +kernel) ⟨Nat.le_of_ble_eq_true rfl, Nat.le_of_ble_eq_true rfl⟩) hK2 hDm hPm hPx hap2 hS (va_recv hK2 hPm (ci := 1) (q0 := 0) rfl rfl) hl.1 rfl rfl (Nat.le_of_ble_eq_true rfl) dL_law_103 ⟨Nat.le_of_ble_eq_true rfl, Nat.le_of_ble_eq_true rfl⟩ (fun H locs hPm hPx hS => ?_)
      refine lv_icmp_eq (tgt := 358) hx hb dL_law_106 (by decide) (fun cc => ?_) (fun cc => ?_)
      · exact next _ _ _ _ _ _ _ _ (cd_cl_ad hcl _) _ _ hPx hPm hS _ hl
      · exact absurd (rfl) cc
    · refine lv_tableIn (tgt := 111) (off := 79) hx hb dL_law_32 (by decide) (by decide) (by decide) (by decide) ?_
      refine lv_aload_n hx hb dL_law_111 rfl (lv_at hl 1 rfl) ?_
      refine lv_aload_n hx hb dL_law_112 rfl (lv_at hl 0 rfl) ?_
      refine lv_iload_n hx hb dL_law_113 rfl (lv_at hl 3 rfl) ?_
      refine lv_iconst (v := nI 1) hx hb dL_law_114 (by decide) ?_
      refine cn_add hx hb dL_law_115 ?_
      refine va_sld hx hb hX hbl hbA hS (vp_in_nI (by omega) (by omega)) dL_law_116 ?_
      refine cd_lawI [] hx hb hml hown hts hA (mt0_remove l D a z h R O C rk lf tk (xs (nI (i + 1)).toNatClampNeg)) (cwV 1 hts (lw_V q53 q54 q55 q15 q56) rfl rfl rfl (by decide +kernel) ⟨Nat.le_of_ble_eq_true rfl, Nat.le_of_ble_eq_true rfl⟩) hK hDx hPx hPm hap hS (va_recv hK hPx (ci := 0) (q0 := 0) rfl rfl) hl.1 rfl rfl (Nat.le_of_ble_eq_true rfl) dL_law_117 ⟨Nat.le_of_ble_eq_true rfl, Nat.le_of_ble_eq_true rfl⟩ (fun H locs hPx hPm hS => ?_)
      refine lv_aload_n hx hb dL_law_120 rfl (lv_at hl 2 rfl) ?_
      refine lv_aload_n hx hb dL_law_121 rfl (lv_at hl 0 rfl) ?_
      refine lv_iload_n hx hb dL_law_122 rfl (lv_at hl 3 rfl) ?_
      refine lv_iconst (v := nI 1) hx hb dL_law_123 (by decide) ?_
      refine cn_add hx hb dL_law_124 ?_
      refine va_sld hx hb hX hbl hbA hS (vp_in_nI (by omega) (by omega)) dL_law_125 ?_
      refine cd_lawI [.int _] hx hb hml hown hts hA (mt1_remove l D a2 z2 h M (xs (nI (i + 1)).toNatClampNeg)) (cwV 1 hts (lw_V q151 q152 q153 q16 q154) rfl rfl rfl (by decide +kernel) ⟨Nat.le_of_ble_eq_true rfl, Nat.le_of_ble_eq_true rfl⟩) hK2 hDm hPm hPx hap2 hS (va_recv hK2 hPm (ci := 1) (q0 := 0) rfl rfl) hl.1 rfl rfl (Nat.le_of_ble_eq_true rfl) dL_law_126 ⟨Nat.le_of_ble_eq_true rfl, Nat.le_of_ble_eq_true rfl⟩ (fun H locs hPm hPx hS => ?_)
      refine lv_icmp_eq (tgt := 358) hx hb dL_law_129 (by decide) (fun cc => ?_) (fun cc => ?_)
      · exact next _ _ _ _ _ _ _ _ (cd_cl_re hcl _) _ _ hPx hPm hS _ hl
      · exact absurd (rfl) cc
    · refine lv_tableIn (tgt := 134) (off := 102) hx hb dL_law_32 (by decide) (by decide) (by decide) (by decide) ?_
      refine lv_aload_n hx hb dL_law_134 rfl (lv_at hl 1 rfl) ?_
      refine lv_aload_n hx hb dL_law_135 rfl (lv_at hl 0 rfl) ?_
      refine lv_iload_n hx hb dL_law_136 rfl (lv_at hl 3 rfl) ?_
      refine lv_iconst (v := nI 1) hx hb dL_law_137 (by decide) ?_
      refine cn_add hx hb dL_law_138 ?_
      refine va_sld hx hb hX hbl hbA hS (vp_in_nI (by omega) (by omega)) dL_law_139 ?_
      refine cd_lawI [] hx hb hml hown hts hA (mt0_count l D a z h R O C rk lf tk (xs (nI (i + 1)).toNatClampNeg)) (cwV 1 hts (lw_V q57 q58 q59 q15 q60) rfl rfl rfl (by decide +kernel) ⟨Nat.le_of_ble_eq_true rfl, Nat.le_of_ble_eq_true rfl⟩) hK hDx hPx hPm hap hS (va_recv hK hPx (ci := 0) (q0 := 0) rfl rfl) hl.1 rfl rfl (Nat.le_of_ble_eq_true rfl) dL_law_140 ⟨Nat.le_of_ble_eq_true rfl, Nat.le_of_ble_eq_true rfl⟩ (fun H locs hPx hPm hS => ?_)
      refine lv_aload_n hx hb dL_law_143 rfl (lv_at hl 2 rfl) ?_
      refine lv_aload_n hx hb dL_law_144 rfl (lv_at hl 0 rfl) ?_
      refine lv_iload_n hx hb dL_law_145 rfl (lv_at hl 3 rfl) ?_
      refine lv_iconst (v := nI 1) hx hb dL_law_146 (by decide) ?_
      refine cn_add hx hb dL_law_147 ?_
      refine va_sld hx hb hX hbl hbA hS (vp_in_nI (by omega) (by omega)) dL_law_148 ?_
      refine cd_lawI [.int _] hx hb hml hown hts hA (mt1_count l D a2 z2 h M (xs (nI (i + 1)).toNatClampNeg)) (cwV 1 hts (lw_V q155 q156 q157 q16 q158) rfl rfl rfl (by decide +kernel) ⟨Nat.le_of_ble_eq_true rfl, Nat.le_of_ble_eq_true rfl⟩) hK2 hDm hPm hPx hap2 hS (va_recv hK2 hPm (ci := 1) (q0 := 0) rfl rfl) hl.1 rfl rfl (Nat.le_of_ble_eq_true rfl) dL_law_149 ⟨Nat.le_of_ble_eq_true rfl, Nat.le_of_ble_eq_true rfl⟩ (fun H locs hPm hPx hS => ?_)
      refine lv_icmp_eq (tgt := 358) hx hb dL_law_152 (by decide) (fun cc => ?_) (fun cc => ?_)
      · exact next _ _ _ _ _ _ _ _ hcl _ _ hPx hPm hS _ hl
      · exact absurd (rfl) cc
    · refine lv_tableIn (tgt := 157) (off := 125) hx hb dL_law_32 (by decide) (by decide) (by decide) (by decide) ?_
      refine lv_aload_n hx hb dL_law_157 rfl (lv_at hl 1 rfl) ?_
      refine lv_aload_n hx hb dL_law_158 rfl (lv_at hl 0 rfl) ?_
      refine lv_iload_n hx hb dL_law_159 rfl (lv_at hl 3 rfl) ?_
      refine lv_iconst (v := nI 1) hx hb dL_law_160 (by decide) ?_
      refine cn_add hx hb dL_law_161 ?_
      refine va_sld hx hb hX hbl hbA hS (vp_in_nI (by omega) (by omega)) dL_law_162 ?_
      refine lv_aload_n hx hb dL_law_163 rfl (lv_at hl 0 rfl) ?_
      refine lv_iload_n hx hb dL_law_164 rfl (lv_at hl 3 rfl) ?_
      refine lv_iconst (v := nI 2) hx hb dL_law_165 (by decide) ?_
      refine cn_add hx hb dL_law_166 ?_
      refine va_sld hx hb hX hbl hbA hS (vp_in_nI (by omega) (by omega)) dL_law_167 ?_
      refine cd_lawI [] hx hb hml hown hts hA (mt0_simplex l D a z h R O C rk lf tk (xs (nI (i + 1)).toNatClampNeg) (xs (nI (i + 2)).toNatClampNeg)) (cwV 2 hts (lw_V q71 q72 q73 q15 q74) rfl rfl rfl (by decide +kernel) ⟨Nat.le_of_ble_eq_true rfl, Nat.le_of_ble_eq_true rfl⟩) hK hDx hPx hPm hap hS (va_recv hK hPx (ci := 0) (q0 := 0) rfl rfl) hl.1 rfl rfl (Nat.le_of_ble_eq_true rfl) dL_law_168 ⟨Nat.le_of_ble_eq_true rfl, Nat.le_of_ble_eq_true rfl⟩ (fun H locs hPx hPm hS => ?_)
      refine lv_aload_n hx hb dL_law_171 rfl (lv_at hl 2 rfl) ?_
      refine lv_aload_n hx hb dL_law_172 rfl (lv_at hl 0 rfl) ?_
      refine lv_iload_n hx hb dL_law_173 rfl (lv_at hl 3 rfl) ?_
      refine lv_iconst (v := nI 1) hx hb dL_law_174 (by decide) ?_
      refine cn_add hx hb dL_law_175 ?_
      refine va_sld hx hb hX hbl hbA hS (vp_in_nI (by omega) (by omega)) dL_law_176 ?_
      refine lv_aload_n hx hb dL_law_177 rfl (lv_at hl 0 rfl) ?_
      refine lv_iload_n hx hb dL_law_178 rfl (lv_at hl 3 rfl) ?_
      refine lv_iconst (v := nI 2) hx hb dL_law_179 (by decide) ?_
      refine cn_add hx hb dL_law_180 ?_
      refine va_sld hx hb hX hbl hbA hS (vp_in_nI (by omega) (by omega)) dL_law_181 ?_
      refine cd_lawI [.int _] hx hb hml hown hts hA (mt1_simplex l D a2 z2 h M (xs (nI (i + 1)).toNatClampNeg) (xs (nI (i + 2)).toNatClampNeg)) (cwV 2 hts (lw_V q165 q166 q167 q16 q168) rfl rfl rfl (by decide +kernel) ⟨Nat.le_of_ble_eq_true rfl, Nat.le_of_ble_eq_true rfl⟩) hK2 hDm hPm hPx hap2 hS (va_recv hK2 hPm (ci := 1) (q0 := 0) rfl rfl) hl.1 rfl rfl (Nat.le_of_ble_eq_true rfl) dL_law_182 ⟨Nat.le_of_ble_eq_true rfl, Nat.le_of_ble_eq_true rfl⟩ (fun H locs hPm hPx hS => ?_)
      refine lv_icmp_eq (tgt := 358) hx hb dL_law_185 (by decide) (fun cc => ?_) (fun cc => ?_)
      · exact next _ _ _ _ _ _ _ _ hcl _ _ hPx hPm hS _ hl
      · exact absurd (rfl) cc
    · refine lv_tableIn (tgt := 190) (off := 158) hx hb dL_law_32 (by decide) (by decide) (by decide) (by decide) ?_
      refine lv_aload_n hx hb dL_law_190 rfl (lv_at hl 1 rfl) ?_
      refine lv_aload_n hx hb dL_law_191 rfl (lv_at hl 0 rfl) ?_
      refine lv_iload_n hx hb dL_law_192 rfl (lv_at hl 3 rfl) ?_
      refine lv_iconst (v := nI 1) hx hb dL_law_193 (by decide) ?_
      refine cn_add hx hb dL_law_194 ?_
      refine va_sld hx hb hX hbl hbA hS (vp_in_nI (by omega) (by omega)) dL_law_195 ?_
      refine lv_aload_n hx hb dL_law_196 rfl (lv_at hl 0 rfl) ?_
      refine lv_iload_n hx hb dL_law_197 rfl (lv_at hl 3 rfl) ?_
      refine lv_iconst (v := nI 2) hx hb dL_law_198 (by decide) ?_
      refine cn_add hx hb dL_law_199 ?_
      refine va_sld hx hb hX hbl hbA hS (vp_in_nI (by omega) (by omega)) dL_law_200 ?_
      refine cd_lawI [] hx hb hml hown hts hA (mt0_boundary l D a z h R O C rk lf tk (xs (nI (i + 1)).toNatClampNeg) (xs (nI (i + 2)).toNatClampNeg)) (cwV 2 hts (lw_V q79 q80 q81 q15 q82) rfl rfl rfl (by decide +kernel) ⟨Nat.le_of_ble_eq_true rfl, Nat.le_of_ble_eq_true rfl⟩) hK hDx hPx hPm hap hS (va_recv hK hPx (ci := 0) (q0 := 0) rfl rfl) hl.1 rfl rfl (Nat.le_of_ble_eq_true rfl) dL_law_201 ⟨Nat.le_of_ble_eq_true rfl, Nat.le_of_ble_eq_true rfl⟩ (fun H locs hPx hPm hS => ?_)
      refine lv_aload_n hx hb dL_law_204 rfl (lv_at hl 2 rfl) ?_
      refine lv_aload_n hx hb dL_law_205 rfl (lv_at hl 0 rfl) ?_
      refine lv_iload_n hx hb dL_law_206 rfl (lv_at hl 3 rfl) ?_
      refine lv_iconst (v := nI 1) hx hb dL_law_207 (by decide) ?_
      refine cn_add hx hb dL_law_208 ?_
      refine va_sld hx hb hX hbl hbA hS (vp_in_nI (by omega) (by omega)) dL_law_209 ?_
      refine lv_aload_n hx hb dL_law_210 rfl (lv_at hl 0 rfl) ?_
      refine lv_iload_n hx hb dL_law_211 rfl (lv_at hl 3 rfl) ?_
      refine lv_iconst (v := nI 2) hx hb dL_law_212 (by decide) ?_
      refine cn_add hx hb dL_law_213 ?_
      refine va_sld hx hb hX hbl hbA hS (vp_in_nI (by omega) (by omega)) dL_law_214 ?_
      refine cd_lawI [.int _] hx hb hml hown hts hA (mt1_boundary l D a2 z2 h M (xs (nI (i + 1)).toNatClampNeg) (xs (nI (i + 2)).toNatClampNeg)) (cwV 2 hts (lw_V q169 q170 q171 q16 q172) rfl rfl rfl (by decide +kernel) ⟨Nat.le_of_ble_eq_true rfl, Nat.le_of_ble_eq_true rfl⟩) hK2 hDm hPm hPx hap2 hS (va_recv hK2 hPm (ci := 1) (q0 := 0) rfl rfl) hl.1 rfl rfl (Nat.le_of_ble_eq_true rfl) dL_law_215 ⟨Nat.le_of_ble_eq_true rfl, Nat.le_of_ble_eq_true rfl⟩ (fun H locs hPm hPx hS => ?_)
      refine lv_icmp_eq (tgt := 358) hx hb dL_law_218 (by decide) (fun cc => ?_) (fun cc => ?_)
      · exact next _ _ _ _ _ _ _ _ hcl _ _ hPx hPm hS _ hl
      · exact absurd (cd_eq_bnd hcl _ _) cc
    · refine lv_tableIn (tgt := 223) (off := 191) hx hb dL_law_32 (by decide) (by decide) (by decide) (by decide) ?_
      refine lv_aload_n hx hb dL_law_223 rfl (lv_at hl 1 rfl) ?_
      refine lv_aload_n hx hb dL_law_224 rfl (lv_at hl 0 rfl) ?_
      refine lv_iload_n hx hb dL_law_225 rfl (lv_at hl 3 rfl) ?_
      refine lv_iconst (v := nI 1) hx hb dL_law_226 (by decide) ?_
      refine cn_add hx hb dL_law_227 ?_
      refine va_sld hx hb hX hbl hbA hS (vp_in_nI (by omega) (by omega)) dL_law_228 ?_
      refine cd_lawJ [] hx hb hml hown hts hA (mt0_holes l D a z h R O C rk lf tk (xs (nI (i + 1)).toNatClampNeg)) (cwV 1 hts (lw_V q99 q100 q101 q15 q102) rfl rfl rfl (by decide +kernel) ⟨Nat.le_of_ble_eq_true rfl, Nat.le_of_ble_eq_true rfl⟩) hK hDx hPx hPm hap hS (va_recv hK hPx (ci := 0) (q0 := 0) rfl rfl) hl.1 rfl rfl (Nat.le_of_ble_eq_true rfl) dL_law_229 ⟨Nat.le_of_ble_eq_true rfl, Nat.le_of_ble_eq_true rfl⟩ (fun H locs w' hF hPx hPm hS => ?_)
      obtain ⟨R1, O1, C1, rk1, lf1, tk1, rfl⟩ := hF
      refine lv_aload_n hx hb dL_law_232 rfl (lv_at hl 2 rfl) ?_
      refine lv_aload_n hx hb dL_law_233 rfl (lv_at hl 0 rfl) ?_
      refine lv_iload_n hx hb dL_law_234 rfl (lv_at hl 3 rfl) ?_
      refine lv_iconst (v := nI 1) hx hb dL_law_235 (by decide) ?_
      refine cn_add hx hb dL_law_236 ?_
      refine va_sld hx hb hX hbl hbA hS (vp_in_nI (by omega) (by omega)) dL_law_237 ?_
      refine cd_lawJ [.int _] hx hb hml hown hts hA (mt1_holes l D a2 z2 h M (xs (nI (i + 1)).toNatClampNeg)) (cwV 1 hts (lw_V q191 q192 q193 q16 q194) rfl rfl rfl (by decide +kernel) ⟨Nat.le_of_ble_eq_true rfl, Nat.le_of_ble_eq_true rfl⟩) hK2 hDm hPm hPx hap2 hS (va_recv hK2 hPm (ci := 1) (q0 := 0) rfl rfl) hl.1 rfl rfl (Nat.le_of_ble_eq_true rfl) dL_law_238 ⟨Nat.le_of_ble_eq_true rfl, Nat.le_of_ble_eq_true rfl⟩ (fun H locs w' hF hPm hPx hS => ?_)
      obtain ⟨M1, rfl⟩ := hF
      refine lv_icmp_eq (tgt := 358) hx hb dL_law_241 (by decide) (fun cc => ?_) (fun cc => ?_)
      · exact next _ _ _ _ _ _ _ _ hcl _ _ hPx hPm hS _ hl
      · exact absurd (cd_eq_hol hcl _ _ _ _ _ _ _) cc
    · refine lv_tableIn (tgt := 246) (off := 214) hx hb dL_law_32 (by decide) (by decide) (by decide) (by decide) ?_
      refine lv_aload_n hx hb dL_law_246 rfl (lv_at hl 1 rfl) ?_
      refine lv_aload_n hx hb dL_law_247 rfl (lv_at hl 0 rfl) ?_
      refine lv_iload_n hx hb dL_law_248 rfl (lv_at hl 3 rfl) ?_
      refine lv_iconst (v := nI 1) hx hb dL_law_249 (by decide) ?_
      refine cn_add hx hb dL_law_250 ?_
      refine va_sld hx hb hX hbl hbA hS (vp_in_nI (by omega) (by omega)) dL_law_251 ?_
      refine lv_aload_n hx hb dL_law_252 rfl (lv_at hl 0 rfl) ?_
      refine lv_iload_n hx hb dL_law_253 rfl (lv_at hl 3 rfl) ?_
      refine lv_iconst (v := nI 2) hx hb dL_law_254 (by decide) ?_
      refine cn_add hx hb dL_law_255 ?_
      refine va_sld hx hb hX hbl hbA hS (vp_in_nI (by omega) (by omega)) dL_law_256 ?_
      refine cd_lawJ [] hx hb hml hown hts hA (mt0_filled l D a z h R O C rk lf tk (xs (nI (i + 1)).toNatClampNeg) (xs (nI (i + 2)).toNatClampNeg)) (cwV 2 hts (lw_V q118 q119 q120 q15 q121) rfl rfl rfl (by decide +kernel) ⟨Nat.le_of_ble_eq_true rfl, Nat.le_of_ble_eq_true rfl⟩) hK hDx hPx hPm hap hS (va_recv hK hPx (ci := 0) (q0 := 0) rfl rfl) hl.1 rfl rfl (Nat.le_of_ble_eq_true rfl) dL_law_257 ⟨Nat.le_of_ble_eq_true rfl, Nat.le_of_ble_eq_true rfl⟩ (fun H locs w' hF hPx hPm hS => ?_)
      obtain ⟨R1, O1, C1, rk1, lf1, tk1, rfl⟩ := hF
      refine lv_aload_n hx hb dL_law_260 rfl (lv_at hl 2 rfl) ?_
      refine lv_aload_n hx hb dL_law_261 rfl (lv_at hl 0 rfl) ?_
      refine lv_iload_n hx hb dL_law_262 rfl (lv_at hl 3 rfl) ?_
      refine lv_iconst (v := nI 1) hx hb dL_law_263 (by decide) ?_
      refine cn_add hx hb dL_law_264 ?_
      refine va_sld hx hb hX hbl hbA hS (vp_in_nI (by omega) (by omega)) dL_law_265 ?_
      refine lv_aload_n hx hb dL_law_266 rfl (lv_at hl 0 rfl) ?_
      refine lv_iload_n hx hb dL_law_267 rfl (lv_at hl 3 rfl) ?_
      refine lv_iconst (v := nI 2) hx hb dL_law_268 (by decide) ?_
      refine cn_add hx hb dL_law_269 ?_
      refine va_sld hx hb hX hbl hbA hS (vp_in_nI (by omega) (by omega)) dL_law_270 ?_
      refine cd_lawJ [.int _] hx hb hml hown hts hA (mt1_filled l D a2 z2 h M (xs (nI (i + 1)).toNatClampNeg) (xs (nI (i + 2)).toNatClampNeg)) (cwV 2 hts (lw_V q199 q200 q201 q16 q202) rfl rfl rfl (by decide +kernel) ⟨Nat.le_of_ble_eq_true rfl, Nat.le_of_ble_eq_true rfl⟩) hK2 hDm hPm hPx hap2 hS (va_recv hK2 hPm (ci := 1) (q0 := 0) rfl rfl) hl.1 rfl rfl (Nat.le_of_ble_eq_true rfl) dL_law_271 ⟨Nat.le_of_ble_eq_true rfl, Nat.le_of_ble_eq_true rfl⟩ (fun H locs w' hF hPm hPx hS => ?_)
      obtain ⟨M1, rfl⟩ := hF
      refine lv_icmp_eq (tgt := 358) hx hb dL_law_274 (by decide) (fun cc => ?_) (fun cc => ?_)
      · exact next _ _ _ _ _ _ _ _ hcl _ _ hPx hPm hS _ hl
      · exact absurd (cd_eq_fld hcl _ _ _ _ _ _ _ _) cc
    · refine lv_tableIn (tgt := 279) (off := 247) hx hb dL_law_32 (by decide) (by decide) (by decide) (by decide) ?_
      refine lv_aload_n hx hb dL_law_279 rfl (lv_at hl 1 rfl) ?_
      refine lv_aload_n hx hb dL_law_280 rfl (lv_at hl 0 rfl) ?_
      refine lv_iload_n hx hb dL_law_281 rfl (lv_at hl 3 rfl) ?_
      refine lv_iconst (v := nI 1) hx hb dL_law_282 (by decide) ?_
      refine cn_add hx hb dL_law_283 ?_
      refine va_sld hx hb hX hbl hbA hS (vp_in_nI (by omega) (by omega)) dL_law_284 ?_
      refine lv_aload_n hx hb dL_law_285 rfl (lv_at hl 0 rfl) ?_
      refine lv_iload_n hx hb dL_law_286 rfl (lv_at hl 3 rfl) ?_
      refine lv_iconst (v := nI 2) hx hb dL_law_287 (by decide) ?_
      refine cn_add hx hb dL_law_288 ?_
      refine va_sld hx hb hX hbl hbA hS (vp_in_nI (by omega) (by omega)) dL_law_289 ?_
      refine cd_lawJ [] hx hb hml hown hts hA (mt0_filling l D a z h R O C rk lf tk (xs (nI (i + 1)).toNatClampNeg) (xs (nI (i + 2)).toNatClampNeg)) (cwV 2 hts (lw_V q122 q123 q124 q15 q125) rfl rfl rfl (by decide +kernel) ⟨Nat.le_of_ble_eq_true rfl, Nat.le_of_ble_eq_true rfl⟩) hK hDx hPx hPm hap hS (va_recv hK hPx (ci := 0) (q0 := 0) rfl rfl) hl.1 rfl rfl (Nat.le_of_ble_eq_true rfl) dL_law_290 ⟨Nat.le_of_ble_eq_true rfl, Nat.le_of_ble_eq_true rfl⟩ (fun H locs w' hF hPx hPm hS => ?_)
      obtain ⟨R1, O1, C1, rk1, lf1, tk1, rfl⟩ := hF
      refine lv_aload_n hx hb dL_law_293 rfl (lv_at hl 2 rfl) ?_
      refine lv_aload_n hx hb dL_law_294 rfl (lv_at hl 0 rfl) ?_
      refine lv_iload_n hx hb dL_law_295 rfl (lv_at hl 3 rfl) ?_
      refine lv_iconst (v := nI 1) hx hb dL_law_296 (by decide) ?_
      refine cn_add hx hb dL_law_297 ?_
      refine va_sld hx hb hX hbl hbA hS (vp_in_nI (by omega) (by omega)) dL_law_298 ?_
      refine lv_aload_n hx hb dL_law_299 rfl (lv_at hl 0 rfl) ?_
      refine lv_iload_n hx hb dL_law_300 rfl (lv_at hl 3 rfl) ?_
      refine lv_iconst (v := nI 2) hx hb dL_law_301 (by decide) ?_
      refine cn_add hx hb dL_law_302 ?_
      refine va_sld hx hb hX hbl hbA hS (vp_in_nI (by omega) (by omega)) dL_law_303 ?_
      refine cd_lawJ [.int _] hx hb hml hown hts hA (mt1_filling l D a2 z2 h M (xs (nI (i + 1)).toNatClampNeg) (xs (nI (i + 2)).toNatClampNeg)) (cwV 2 hts (lw_V q203 q204 q205 q16 q206) rfl rfl rfl (by decide +kernel) ⟨Nat.le_of_ble_eq_true rfl, Nat.le_of_ble_eq_true rfl⟩) hK2 hDm hPm hPx hap2 hS (va_recv hK2 hPm (ci := 1) (q0 := 0) rfl rfl) hl.1 rfl rfl (Nat.le_of_ble_eq_true rfl) dL_law_304 ⟨Nat.le_of_ble_eq_true rfl, Nat.le_of_ble_eq_true rfl⟩ (fun H locs w' hF hPm hPx hS => ?_)
      obtain ⟨M1, rfl⟩ := hF
      refine lv_icmp_eq (tgt := 358) hx hb dL_law_307 (by decide) (fun cc => ?_) (fun cc => ?_)
      · exact next _ _ _ _ _ _ _ _ hcl _ _ hPx hPm hS _ hl
      · exact absurd (cd_eq_flg hcl _ _ _ _ _ _ _) cc
    · refine lv_tableIn (tgt := 312) (off := 280) hx hb dL_law_32 (by decide) (by decide) (by decide) (by decide) ?_
      refine lv_aload_n hx hb dL_law_312 rfl (lv_at hl 1 rfl) ?_
      refine lv_aload_n hx hb dL_law_313 rfl (lv_at hl 0 rfl) ?_
      refine lv_iload_n hx hb dL_law_314 rfl (lv_at hl 3 rfl) ?_
      refine lv_iconst (v := nI 1) hx hb dL_law_315 (by decide) ?_
      refine cn_add hx hb dL_law_316 ?_
      refine va_sld hx hb hX hbl hbA hS (vp_in_nI (by omega) (by omega)) dL_law_317 ?_
      refine lv_aload_n hx hb dL_law_318 rfl (lv_at hl 0 rfl) ?_
      refine lv_iload_n hx hb dL_law_319 rfl (lv_at hl 3 rfl) ?_
      refine lv_iconst (v := nI 2) hx hb dL_law_320 (by decide) ?_
      refine cn_add hx hb dL_law_321 ?_
      refine va_sld hx hb hX hbl hbA hS (vp_in_nI (by omega) (by omega)) dL_law_322 ?_
      refine cd_lawJ [] hx hb hml hown hts hA (mt0_least l D a z h R O C rk lf tk (xs (nI (i + 1)).toNatClampNeg) (xs (nI (i + 2)).toNatClampNeg)) (cwV 2 hts (lw_V q126 q127 q128 q15 q129) rfl rfl rfl (by decide +kernel) ⟨Nat.le_of_ble_eq_true rfl, Nat.le_of_ble_eq_true rfl⟩) hK hDx hPx hPm hap hS (va_recv hK hPx (ci := 0) (q0 := 0) rfl rfl) hl.1 rfl rfl (Nat.le_of_ble_eq_true rfl) dL_law_323 ⟨Nat.le_of_ble_eq_true rfl, Nat.le_of_ble_eq_true rfl⟩ (fun H locs w' hF hPx hPm hS => ?_)
      obtain ⟨R1, O1, C1, rk1, lf1, tk1, rfl⟩ := hF
      refine lv_aload_n hx hb dL_law_326 rfl (lv_at hl 2 rfl) ?_
      refine lv_aload_n hx hb dL_law_327 rfl (lv_at hl 0 rfl) ?_
      refine lv_iload_n hx hb dL_law_328 rfl (lv_at hl 3 rfl) ?_
      refine lv_iconst (v := nI 1) hx hb dL_law_329 (by decide) ?_
      refine cn_add hx hb dL_law_330 ?_
      refine va_sld hx hb hX hbl hbA hS (vp_in_nI (by omega) (by omega)) dL_law_331 ?_
      refine lv_aload_n hx hb dL_law_332 rfl (lv_at hl 0 rfl) ?_
      refine lv_iload_n hx hb dL_law_333 rfl (lv_at hl 3 rfl) ?_
      refine lv_iconst (v := nI 2) hx hb dL_law_334 (by decide) ?_
      refine cn_add hx hb dL_law_335 ?_
      refine va_sld hx hb hX hbl hbA hS (vp_in_nI (by omega) (by omega)) dL_law_336 ?_
      refine cd_lawJ [.int _] hx hb hml hown hts hA (mt1_least l D a2 z2 h M (xs (nI (i + 1)).toNatClampNeg) (xs (nI (i + 2)).toNatClampNeg)) (cwV 2 hts (lw_V q207 q208 q209 q16 q210) rfl rfl rfl (by decide +kernel) ⟨Nat.le_of_ble_eq_true rfl, Nat.le_of_ble_eq_true rfl⟩) hK2 hDm hPm hPx hap2 hS (va_recv hK2 hPm (ci := 1) (q0 := 0) rfl rfl) hl.1 rfl rfl (Nat.le_of_ble_eq_true rfl) dL_law_337 ⟨Nat.le_of_ble_eq_true rfl, Nat.le_of_ble_eq_true rfl⟩ (fun H locs w' hF hPm hPx hS => ?_)
      obtain ⟨M1, rfl⟩ := hF
      refine lv_icmp_eq (tgt := 358) hx hb dL_law_340 (by decide) (fun cc => ?_) (fun cc => ?_)
      · exact next _ _ _ _ _ _ _ _ hcl _ _ hPx hPm hS _ hl
      · exact absurd (cd_eq_lst hcl _ _ _ _ _ _ _ _) cc
    · refine lv_tableIn (tgt := 345) (off := 313) hx hb dL_law_32 (by decide) (by decide) (by decide) (by decide) ?_
      refine lv_aload_n hx hb dL_law_345 rfl (lv_at hl 1 rfl) ?_
      refine cd_lawI [] hx hb hml hown hts hA (mt0_alternating l D a z h R O C rk lf tk ) (cwV 0 hts (lw_V q130 q131 q132 q15 q133) rfl rfl rfl (by decide +kernel) ⟨Nat.le_of_ble_eq_true rfl, Nat.le_of_ble_eq_true rfl⟩) hK hDx hPx hPm hap hS (va_recv hK hPx (ci := 0) (q0 := 0) rfl rfl) hl.1 rfl rfl (Nat.le_of_ble_eq_true rfl) dL_law_346 ⟨Nat.le_of_ble_eq_true rfl, Nat.le_of_ble_eq_true rfl⟩ (fun H locs hPx hPm hS => ?_)
      refine lv_aload_n hx hb dL_law_349 rfl (lv_at hl 2 rfl) ?_
      refine cd_lawI [.int _] hx hb hml hown hts hA (mt1_alternating l D a2 z2 h M ) (cwV 0 hts (lw_V q211 q212 q213 q16 q214) rfl rfl rfl (by decide +kernel) ⟨Nat.le_of_ble_eq_true rfl, Nat.le_of_ble_eq_true rfl⟩) hK2 hDm hPm hPx hap2 hS (va_recv hK2 hPm (ci := 1) (q0 := 0) rfl rfl) hl.1 rfl rfl (Nat.le_of_ble_eq_true rfl) dL_law_350 ⟨Nat.le_of_ble_eq_true rfl, Nat.le_of_ble_eq_true rfl⟩ (fun H locs hPm hPx hS => ?_)
      refine lv_icmp_eq (tgt := 358) hx hb dL_law_353 (by decide) (fun cc => ?_) (fun cc => ?_)
      · exact next _ _ _ _ _ _ _ _ hcl _ _ hPx hPm hS _ hl
      · exact absurd (cd_eq_alt h) cc
    · refine lv_tableOut (tgt := 358) hx hb dL_law_32 (Or.inr (by rw [nI_toInt (by omega)]; omega)) (by decide) ?_
      exact next _ _ _ _ _ _ _ _ hcl _ _ hPx hPm hS _ hl
set_option maxHeartbeats 8000000 in
set_option maxRecDepth 100000 in
theorem whole_start {p : Program} {e : Env} {s : State} {m : MethodId} {below : List Frame} {meth : Method} {c : Code} (l : Launch) {b L : Nat} {xs : Nat → Int32} (hL : L ≤ 192) (C0 : lw_At p s m meth c b L xs) : W p l e room_1 s m #[Value.ref b] below meth c s.heap [] 0 0 (lw_Z below #[Value.ref b] s) (entryFrame m ([Value.ref b] : List Value).toArray 4) := by
  obtain ⟨hx, hb, hr, hml, hown, hts0, hX, hbl, hlocks, hgv⟩ := id C0
  have hts : ∀ w ∈ lw_all, w.before #[Value.ref b] s = true := fun w h => hts0 w (lw_all_tbl h)
  have hA : ∀ q : Nat, s.heap.size ≤ q → (fun q : Nat => s.heap.size ≤ q) q := fun _ h => h
  obtain ⟨c0_, iS0, hKn0⟩ := u_known (C := RX0) (T := TX0) (N := 7) (n := 7) hts in_X0 (hts _ q18)
  obtain ⟨c1_, iS1, hKn1⟩ := u_known (C := RX1) (T := TX1) (N := 2) (n := 2) hts in_X1 (hts _ q135)
  obtain ⟨D, hKc⟩ : ∃ D : va_G, ∀ (k : Nat) (q : vw_C), vwCl[k]? = some q → u_Kn s q.1 q.2.1 q.2.2 (D.1 k) (D.2 k) := by
    refine ⟨(fun k => if k = 0 then c0_ else c1_, fun k => if k = 0 then iS0 else iS1), ?_⟩
    intro k q hq
    match k, hq with
    | 0, hq => cases hq; exact hKn0
    | 1, hq => cases hq; exact hKn1
    | k + 2, hq => simp [vwCl] at hq
  have hS : va_S (fun q : Nat => s.heap.size ≤ q) s.heap s.heap [] := va_S.rf
  have hK : va_K D vwCl [] s := ⟨hKc, fun k q h => by simp at h⟩
  have hP : va_P D vwCl [] s.heap := fun k q h => by simp at h
  have hD : va_D (fun q : Nat => s.heap.size ≤ q) [] := ⟨fun i j p q h => by simp at h, fun k q h => by simp at h⟩
  have hl := lv_entry ([.ref b]) (n := 4) (Nat.le_of_ble_eq_true rfl)
  rw [lg_entry_eq]
  generalize (lg_sl ([.ref b]) ++ List.replicate (4 - (lg_sl ([.ref b])).length) Slot.unset).toArray = ls at hl ⊢
  have hl : lv_has ls 4 [(0, .ref b)] := hl
  refine va_new (ci := 0) (fs := [.null, .null, .null, .null, .int 0, .int 0, .int 0]) (C := RX0) (T := TX0) (N := 7) hx hb hts in_X0 tyX0 tyX0_ok hown (hts _ q17) (hts _ q18) (hts _ q15) hK hP hD hS hA rfl (fun j hj => by rcases (show j = 0 ∨ j = 1 ∨ j = 2 ∨ j = 3 ∨ j = 4 ∨ j = 5 ∨ j = 6 by omega) with rfl | rfl | rfl | rfl | rfl | rfl | rfl <;> rfl) (Nat.le_of_ble_eq_true rfl) (Nat.le_of_ble_eq_true rfl) dL_law_0 (fun x0 H hP hD hS => ?_)
  have hP : va_P D vwCl [(x0, .inr (0, [.null, .null, .null, .null, .int 0, .int 0, .int 0]))] H := hP
  have hD : va_D (fun q : Nat => s.heap.size ≤ q) [(x0, .inr (0, [.null, .null, .null, .null, .int 0, .int 0, .int 0]))] := hD
  refine W.widen (k := 1) (n := 7) (Nat.le_of_ble_eq_true rfl) (Nat.le_of_ble_eq_true rfl) ?_
  refine lv_dup hx hb dL_law_3 rfl ?_
  have hFc := va_free (wc := [(x0, .inr (0, [.null, .null, .null, .null, .int 0, .int 0, .int 0]))]) hD hS hA [0] rfl
  refine va_callv (va_runI (As := []) (rest := [.ref x0]) ⟨hx, hb, hml, hown, hts⟩ (mt0_init l D x0 H.size) (cwI 0 hts (lw_meth q21) rfl rfl rfl (hts _ q15) (hts _ q19) (hts _ q20) rfl (by decide +kernel) ⟨Nat.le_of_ble_eq_true rfl, Nat.le_of_ble_eq_true rfl⟩) ⟨fun a U g mk q => by obtain ⟨q0, q1, qP, qK, qD⟩ := q; exact ⟨q0, q1, qP, va_K.moved (u := U) (U := U.calling g mk a) (Vm.Alike.refl U.vm) qK, qD⟩, fun U hU hW => ⟨rfl, by rw [hU], by rw [hU]; exact hP, va_K.moved hW.alike hK, hD.weaken (fun _ _ _ _ => trivial)⟩⟩ rfl rfl hl.1 rfl (lv_room (Nat.le_of_ble_eq_true rfl)) dL_law_4 ⟨Nat.le_of_ble_eq_true rfl, Nat.le_of_ble_eq_true rfl⟩) hS (fun q _ h => hFc q h) hFc (fun u t H1 locs ht hvm hw1 hB hz1 hk1 hS => ?_)
  obtain ⟨a, z, ha0, hP1, hK1, hD1⟩ := hB
  subst ha0
  rw [ht] at hP1
  have hKx := va_K.moved hvm.symm hK1
  have hDx : va_D (fun q : Nat => s.heap.size ≤ q) (cd_DW a z (fun _ => false) (fun _ => 0) (fun _ => 0) (fun _ => 0) 0 0 0) := hD1.weaken (fun _ _ _ h => hFc _ h)
  refine W.widen (k := 5) (n := 69) (Nat.le_of_ble_eq_true rfl) (Nat.le_of_ble_eq_true rfl) ?_
  refine lv_astore_n (lv' := [(1, .ref (a 0)), (0, .ref b)]) hx hb dL_law_7 rfl hl (by decide) rfl (fun ls hl => ?_)
  refine va_new (ci := 1) (fs := [.null, .null]) (C := RX1) (T := TX1) (N := 2) hx hb hts in_X1 tyX1 tyX1_ok hown (hts _ q134) (hts _ q135) (hts _ q16) hKx hP1 hDx hS hA rfl (fun j hj => by rcases (show j = 0 ∨ j = 1 by omega) with rfl | rfl <;> rfl) (Nat.le_of_ble_eq_true rfl) (Nat.le_of_ble_eq_true rfl) dL_law_8 (fun x1 H hP hD hS => ?_)
  refine W.widen (k := 6) (n := 71) (Nat.le_of_ble_eq_true rfl) (Nat.le_of_ble_eq_true rfl) ?_
  refine lv_dup hx hb dL_law_11 rfl ?_
  have hPc := hP.sub (ws' := [(x1, .inr (1, [.null, .null]))]) [5] rfl
  have hDc := hD.sub (ws' := [(x1, .inr (1, [.null, .null]))]) [5] (by decide) rfl
  have hKc2 := hKx.sub (tys' := []) [] rfl
  have hFc := va_free (wc := [(x1, .inr (1, [.null, .null]))]) hD hS hA [5] rfl
  refine va_callv (va_runI (As := []) (rest := [.ref x1]) ⟨hx, hb, hml, hown, hts⟩ (mt1_init l D x1 H.size) (cwI 0 hts (lw_meth q138) rfl rfl rfl (hts _ q16) (hts _ q136) (hts _ q137) rfl (by decide +kernel) ⟨Nat.le_of_ble_eq_true rfl, Nat.le_of_ble_eq_true rfl⟩) ⟨fun a U g mk q => by obtain ⟨q0, q1, qP, qK, qD⟩ := q; exact ⟨q0, q1, qP, va_K.moved (u := U) (U := U.calling g mk a) (Vm.Alike.refl U.vm) qK, qD⟩, fun U hU hW => ⟨rfl, by rw [hU], by rw [hU]; exact hPc, va_K.moved hW.alike hKc2, hDc.weaken (fun _ _ _ _ => trivial)⟩⟩ rfl rfl hl.1 rfl (lv_room (Nat.le_of_ble_eq_true rfl)) dL_law_12 ⟨Nat.le_of_ble_eq_true rfl, Nat.le_of_ble_eq_true rfl⟩) hS (fun q _ h => hFc q h) hFc (fun u t H1 locs ht hvm hw1 hB hz1 hk1 hS => ?_)
  obtain ⟨a2, z2, ha0, hP2, hK2, hD2⟩ := hB
  subst ha0
  rw [ht] at hP2
  have hKm := va_K.moved hvm.symm hK2
  obtain ⟨hP, hD⟩ := va_join (wr := cd_DW a z (fun _ => false) (fun _ => 0) (fun _ => 0) (fun _ => 0) 0 0 0) (w1 := cd_MW a2 z2 (fun _ => false) (fun _ => false)) hP hD [5] [0, 1, 2, 3, 4] rfl rfl (by decide) (by decide) hk1 hFc hP2 hD2
  refine W.widen (k := 8) (n := 1127) (Nat.le_of_ble_eq_true rfl) (Nat.le_of_ble_eq_true rfl) ?_
  refine lv_astore_n (lv' := [(2, .ref (a2 0)), (1, .ref (a 0)), (0, .ref b)]) hx hb dL_law_15 rfl hl (by decide) rfl (fun ls hl => ?_)
  refine lv_iconst (v := nI 0) hx hb dL_law_16 (by decide) ?_
  refine lv_istore_n (lv' := [(3, .int (nI 0)), (2, .ref (a2 0)), (1, .ref (a 0)), (0, .ref b)]) hx hb dL_law_17 rfl hl (by decide) rfl (fun ls hl => ?_)
  exact law_loop hL C0 hKx hKm (cd_apart hD) (L + 1) 0 (Nat.zero_le _) (by omega) (fun _ => false) (fun _ => 0) (fun _ => 0) (fun _ => 0) 0 0 0 (fun _ => false) cd_cl0 _ _ (hP.sub [0, 1, 2, 3, 4] rfl) (hP.sub [5, 6, 7] rfl) (hD.sub [0, 1, 2, 3, 4] (by decide) rfl) (hD.sub [5, 6, 7] (by decide) rfl) hS _ (lv_sub hl [3, 2, 1, 0] rfl)
end
section
set_option maxHeartbeats 4000000 in
theorem lw_walk (l : Launch) (b : Addr) (xs : List Int32) : MetFree l x (headSpec (Jvm.Cond.code x code maxLocals ret :: tables_1) room_1) (lw_P b xs) (fun _ _ _ _ _ => True) lw_Q := by
  refine MetFree.of_bodyS (code := code) (maxLocals := maxLocals) (ret := ret) (by decide) ?_ ?_
  · intro args s m h hn
    obtain ⟨meth, c, h1, h2, h3, h4, h5, h6, -, -⟩ := Cond.code_spec hn (atoms_spec (ws := Jvm.Cond.code x code maxLocals ret :: tables_1) h _ List.mem_cons_self)
    exact ⟨meth, c, h1, h2, h3, h4, h5, h6⟩
  · intro p e s m args below meth c s₁ B hml0 hP _
    obtain ⟨rfl, hx, hbd, hgv⟩ := hP
    obtain ⟨scr, harrAt, hlist, hof, hsmall⟩ := hx
    obtain ⟨hcb, hkn, -, -⟩ := State.arrayAt?_spec harrAt
    have hown : s.vm.findClass R_law = some m.cls := findClass_of_methodNamed B.named
    have hts0 : ∀ c ∈ (Jvm.Cond.code x code maxLocals ret :: tables_1), c.before #[Value.ref b] s = true := atoms_spec (ws := Jvm.Cond.code x code maxLocals ret :: tables_1) B.pre
    have hts : ∀ w ∈ lw_tbl, w.before #[Value.ref b] s = true := k2_hts_sels lw_privs (fun w hw => hts0 w (List.mem_cons_of_mem _ hw)) lw_privs_ok
    have hml : c.maxLocals = 4 := B.maxLocals_eq (hts0 _ List.mem_cons_self)
    have X₀ : Stand p l e room_1 s m #[Value.ref b] below meth c s₁ [] 0 0 := Stand.of_body B
    have hh0 : s₁.heap = s.heap := by rw [B.state]; rfl
    have hsz : scr.slots.size = xs.length := by rw [← Array.length_toList, hlist, List.length_map]
    have hval : ∀ j : Nat, j < xs.length → scr.slots[j]? = some (.int (xs.getD j 0)) := fun j hj => by
      rw [← Array.getElem?_toList, hlist]
      simp [hj]
    have hbl : b < s.heap.size := (Array.getElem?_eq_some_iff.mp hcb).1
    have hX : va_X b xs.length (fun j => xs.getD j 0) s s.heap := ⟨scr, hcb, hof, hkn, hsz, hval⟩
    have K : W p l e room_1 s m #[Value.ref b] below meth c s₁.heap [] 0 0 (lw_Z below #[Value.ref b] s) (entryFrame m ([Value.ref b] : List Value).toArray 4) := by
      rw [hh0]
      exact whole_start l hbd ⟨B.exec, B.bytes, B.returns, hml, hown, hts, hX, hbl, B.notSynchronized, hgv⟩
    obtain ⟨t, a1, o, b1, b2, b3⟩ := K s₁ rfl X₀
    exact ⟨t, o, a1, b1, b2, b3⟩
theorem lw_pre_spec {args : Array Value} {s : State} (h : (Jvm.Cond.and given_1 narrow_1).before args s = true) (hr : rest_1_c.before args s = true) : ∃ (b : Addr) (xs : List Int32), lw_P b xs args s := by
  have hs := flat_of_before _ h
  have hq := flat_of_before _ hr
  have hc : (Cond.count 1).before args s = true := hs _ (by decide +kernel)
  have harr : (Cond.arrayOf (.arg 0) .int).before args s = true := hs _ (by decide +kernel)
  have hle : (Cond.le (.length (.arg 0)) (.int 192)).before args s = true := hs _ (by decide +kernel)
  have hlen : (Cond.isInt (.length (.arg 0))).before args s = true := hq _ (by decide +kernel)
  have hall : (Cond.all (.arg 0) (.isInt (.elem (.arg 0) (.index 0)))).before args s = true := hq _ (by decide +kernel)
  obtain ⟨b, xs, hb, hx⟩ := State.ints_of_pre rfl harr hlen hall
  have hsm : xs.length < 2 ^ 31 := hx.choose_spec.2.2.2
  have hev : (Term.length (.arg 0)).eval args s none [] s = some (.int xs.length.toInt32) := hx.length_eval hb
  have hv := Cond.le_ints hev (show (Term.int 192).eval args s none [] s = some (.int 192) from rfl)
  have hd : xs.length.toInt32 ≤ 192 := by
    simpa [Cond.before, Cond.holds, hv] using hle
  have hN : xs.length ≤ 192 := (Int32.ofNat_le_ofNat hsm (by decide)).mp (show Int32.ofNat xs.length ≤ Int32.ofNat 192 from hd)
  exact ⟨b, xs, Cond.one_arg hc (show args[0]? = some (.ref b) from hb), hx, hN, h⟩
theorem lw_comes (l : Launch) : Comes l x (Jvm.Cond.code x code maxLocals ret :: tables_1) room_1 (fun tb e args s => Calls_1 tb e args s ∧ rest_1 tb e args s ∧ Pre_1 tb e args s)
    (fun _ _ args s o t => lw_Q args s o t) := by
  intro p e ha hc hk s m args below hf hfit hheap happ hpre
  obtain ⟨b, xs, hP⟩ := lw_pre_spec hpre.2.2 hpre.2.1
  obtain ⟨k, o, h1, h2, h3, hQ⟩ := lw_walk l b xs p e ha hc hk s m args below hf ((Spec.applies_iff_loose hf).mp happ).1 hP trivial
  exact ⟨k, o, h1, h2, h3, hQ⟩
theorem lw_frame {s t : State} {o : Outcome} {args : Array Value} (h : Framed s o t [] 600000 7290000) :
    Framed s o t (fieldLocs frame_1_writes args s ++ arrayLocs frame_1_arrays args s ++ staticLocs frame_1_statics s) 600000 7290000 := h
theorem lw_limb (L : Cond) (hL : ∀ (args : Array Value) (s t : State), L.after args s (.returned (some (.int 1))) t = true) :
    ArmFor flags0 classFile x code maxLocals ret World_1 tables_1 room_1 Calls_1 rest_1 Pre_1
      (fun tb e a s o t => postC L tb e a s o t ∧ Framed s o t (fieldLocs frame_1_writes a s ++ arrayLocs frame_1_arrays a s ++ staticLocs frame_1_statics s) 600000 7290000) := by
  intro l _ _ _ p e ha hc hk s m args below hf hfit hheap happ hpre
  obtain ⟨k, o, h1, h2, h3, rfl, hF⟩ := lw_comes l p e ha hc hk s m args below hf hfit hheap happ hpre
  exact ⟨k, _, h1, h2, h3, hL args s _, lw_frame hF⟩
theorem i_vc : Claimed_1_1 ∧ Claimed_1_2 := ⟨lw_limb limb_1_1 (fun args s t => by simp [limb_1_1, Cond.after, Cond.holds, Cond.value]), lw_limb limb_1_2 (fun args s t => Cond.after_iff.mpr (by
  first | (rw [show limb_1_2 = Cond.eq .result (.int 1) from rfl, Cond.eq_ints (x := 1) (y := 1) rfl rfl]; simp; done) | (simp [limb_1_2, Cond.value, Term.eval]; done)))⟩
end
