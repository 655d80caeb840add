section
-- ===== PART A: goes FIRST, ahead of the names: the tables' words, and 'selects' of the private methods out of them =====
/-- a private method of a class that the tables say can be made, by its rows of tables_1 -/
def lw_okq (q : MethodName × Nat) : Prop := (q.1.cls ≠ "java/lang/invoke/MethodHandle" ∧ q.1.cls ≠ "java/lang/invoke/VarHandle") ∧ Cond.instantiable q.1.cls q.2 ∈ tables_1 ∧ Cond.privateMethod q.1 ∈ tables_1 ∧ Cond.instanceMethod q.1 ∈ tables_1
set_option maxRecDepth 100000
theorem lw_p0 : lw_okq (⟨"SuitDesk", "fresh", "()V"⟩, 11) := ⟨⟨by decide +kernel, by decide +kernel⟩, List.mem_of_getElem? (i := 5) rfl, List.mem_of_getElem? (i := 13) rfl, List.mem_of_getElem? (i := 14) rfl⟩
theorem lw_p1 : lw_okq (⟨"SuitDesk", "take", "([I[III)V"⟩, 11) := ⟨⟨by decide +kernel, by decide +kernel⟩, List.mem_of_getElem? (i := 5) rfl, List.mem_of_getElem? (i := 17) rfl, List.mem_of_getElem? (i := 18) rfl⟩
theorem lw_p2 : lw_okq (⟨"SuitDesk", "order", "(I)V"⟩, 11) := ⟨⟨by decide +kernel, by decide +kernel⟩, List.mem_of_getElem? (i := 5) rfl, List.mem_of_getElem? (i := 21) rfl, List.mem_of_getElem? (i := 22) rfl⟩
theorem lw_p3 : lw_okq (⟨"SuitDesk", "one", "(I)I"⟩, 11) := ⟨⟨by decide +kernel, by decide +kernel⟩, List.mem_of_getElem? (i := 5) rfl, List.mem_of_getElem? (i := 70) rfl, List.mem_of_getElem? (i := 71) rfl⟩
theorem lw_p4 : lw_okq (⟨"SuitDesk", "orders", "()I"⟩, 11) := ⟨⟨by decide +kernel, by decide +kernel⟩, List.mem_of_getElem? (i := 5) rfl, List.mem_of_getElem? (i := 74) rfl, List.mem_of_getElem? (i := 75) rfl⟩
theorem lw_p5 : lw_okq (⟨"SuitDesk", "ask", "([I[I)V"⟩, 11) := ⟨⟨by decide +kernel, by decide +kernel⟩, List.mem_of_getElem? (i := 5) rfl, List.mem_of_getElem? (i := 86) rfl, List.mem_of_getElem? (i := 87) rfl⟩
theorem lw_p6 : lw_okq (⟨"SuitDesk", "meet", "()V"⟩, 11) := ⟨⟨by decide +kernel, by decide +kernel⟩, List.mem_of_getElem? (i := 5) rfl, List.mem_of_getElem? (i := 104) rfl, List.mem_of_getElem? (i := 105) rfl⟩
theorem lw_p7 : lw_okq (⟨"SuitDesk", "number", "()I"⟩, 11) := ⟨⟨by decide +kernel, by decide +kernel⟩, List.mem_of_getElem? (i := 5) rfl, List.mem_of_getElem? (i := 108) rfl, List.mem_of_getElem? (i := 109) rfl⟩
theorem lw_p8 : lw_okq (⟨"SuitDesk", "back", "(I)V"⟩, 11) := ⟨⟨by decide +kernel, by decide +kernel⟩, List.mem_of_getElem? (i := 5) rfl, List.mem_of_getElem? (i := 112) rfl, List.mem_of_getElem? (i := 113) rfl⟩
theorem lw_p9 : lw_okq (⟨"SuitDesk", "part", "(I)Z"⟩, 11) := ⟨⟨by decide +kernel, by decide +kernel⟩, List.mem_of_getElem? (i := 5) rfl, List.mem_of_getElem? (i := 116) rfl, List.mem_of_getElem? (i := 117) rfl⟩
theorem lw_p10 : lw_okq (⟨"SuitDeskModel", "orders", "()I"⟩, 12) := ⟨⟨by decide +kernel, by decide +kernel⟩, List.mem_of_getElem? (i := 124) rfl, List.mem_of_getElem? (i := 177) rfl, List.mem_of_getElem? (i := 178) rfl⟩
theorem lw_p11 : lw_okq (⟨"SuitDeskModel", "order", "(I)V"⟩, 12) := ⟨⟨by decide +kernel, by decide +kernel⟩, List.mem_of_getElem? (i := 124) rfl, List.mem_of_getElem? (i := 181) rfl, List.mem_of_getElem? (i := 182) rfl⟩
theorem lw_p12 : lw_okq (⟨"SuitDeskModel", "reckon", "()V"⟩, 12) := ⟨⟨by decide +kernel, by decide +kernel⟩, List.mem_of_getElem? (i := 124) rfl, List.mem_of_getElem? (i := 193) rfl, List.mem_of_getElem? (i := 194) rfl⟩
theorem lw_p13 : lw_okq (⟨"SuitDeskModel", "rests", "()Z"⟩, 12) := ⟨⟨by decide +kernel, by decide +kernel⟩, List.mem_of_getElem? (i := 124) rfl, List.mem_of_getElem? (i := 197) rfl, List.mem_of_getElem? (i := 198) rfl⟩
def lw_privs_1 : List (MethodName × Nat) := [(⟨"SuitDesk", "fresh", "()V"⟩, 11), (⟨"SuitDesk", "take", "([I[III)V"⟩, 11), (⟨"SuitDesk", "order", "(I)V"⟩, 11), (⟨"SuitDesk", "one", "(I)I"⟩, 11), (⟨"SuitDesk", "orders", "()I"⟩, 11), (⟨"SuitDesk", "ask", "([I[I)V"⟩, 11), (⟨"SuitDesk", "meet", "()V"⟩, 11), (⟨"SuitDesk", "number", "()I"⟩, 11), (⟨"SuitDesk", "back", "(I)V"⟩, 11), (⟨"SuitDesk", "part", "(I)Z"⟩, 11), (⟨"SuitDeskModel", "orders", "()I"⟩, 12), (⟨"SuitDeskModel", "order", "(I)V"⟩, 12), (⟨"SuitDeskModel", "reckon", "()V"⟩, 12), (⟨"SuitDeskModel", "rests", "()Z"⟩, 12)]
theorem lw_r1 : ∀ q ∈ lw_privs_1, lw_okq q := List.forall_mem_cons.mpr ⟨lw_p0, List.forall_mem_cons.mpr ⟨lw_p1, List.forall_mem_cons.mpr ⟨lw_p2, List.forall_mem_cons.mpr ⟨lw_p3, List.forall_mem_cons.mpr ⟨lw_p4, List.forall_mem_cons.mpr ⟨lw_p5, List.forall_mem_cons.mpr ⟨lw_p6, List.forall_mem_cons.mpr ⟨lw_p7, List.forall_mem_cons.mpr ⟨lw_p8, List.forall_mem_cons.mpr ⟨lw_p9, List.forall_mem_cons.mpr ⟨lw_p10, List.forall_mem_cons.mpr ⟨lw_p11, List.forall_mem_cons.mpr ⟨lw_p12, List.forall_mem_cons.mpr ⟨lw_p13, fun _ h => absurd h List.not_mem_nil⟩⟩⟩⟩⟩⟩⟩⟩⟩⟩⟩⟩⟩⟩
def lw_privs : List (MethodName × Nat) := lw_privs_1
def lw_tbl : List Cond := k2_sels lw_privs ++ tables_1
theorem lw_privs_ok : ∀ q ∈ lw_privs, lw_okq q := lw_r1
-- ===== ONE list of words for every method: the tables' words that hold all through a run =====
def lw_all : List Cond := lw_tbl.filter goodWord
/-- a word of the tables by its place: claim/WORDS.tsv -/
theorem lw_w {w : Cond} (i : Nat) (h : lw_tbl[i]? = some w) (g : goodWord w = true) : w ∈ lw_all := List.mem_filter.mpr ⟨List.mem_of_getElem? h, g⟩
theorem lw_all_tbl {w : Cond} (h : w ∈ lw_all) : w ∈ lw_tbl := (List.mem_filter.mp h).1
theorem lw_self : GoodIn lw_all lw_all := fun w h => ⟨h, good_of_word (List.mem_filter.mp h).2⟩
/-- a class's field words, by their places -/
theorem lw_in (ws : List Cond) (ps : List Nat) (hp : ws = ps.filterMap (fun i => lw_tbl[i]?)) (hg : ws.all goodWord = true) : ∀ w ∈ ws, w ∈ lw_all := by
  intro w h
  have h1 := List.all_eq_true.mp hg w h
  rw [hp] at h
  obtain ⟨i, -, hi⟩ := List.mem_filterMap.mp h
  exact lw_w i hi h1
/-- the words of a contract for the method y with code b, L locals, answer r -/
abbrev ws_ (y : MethodName) (b : ByteArray) (L : Nat) (r : Option FieldType) : List Cond := Cond.code y b L r :: lw_all
theorem lw_meth {y : MethodName} {b : ByteArray} {L : Nat} {r : Option FieldType} (h : Cond.code y b L r ∈ lw_all) : GoodIn lw_all (ws_ y b L r) := by
  intro w hw
  rcases List.mem_cons.mp hw with e | e
  · rw [e]
    exact lw_self _ h
  · exact lw_self _ e
theorem lw_app {a c : List Cond} (ha : ∀ w ∈ a, w ∈ lw_all) (hc : GoodIn lw_all c) : GoodIn lw_all (a ++ c) := by
  intro w hw
  rcases List.mem_append.mp hw with e | e
  · exact lw_self w (ha w e)
  · exact hc w e
/-- what a call through an object asks: cwV n hts (lw_V ..) -/
theorem lw_V {own : String} {idx : Nat} {C : String} {y : MethodName} {b : ByteArray} {L : Nat} {r : Option FieldType} (h1 : Cond.methodLink own idx y ∈ lw_all) (h2 : Cond.instanceMethod y ∈ lw_all) (h3 : Cond.selects C y y ∈ lw_all) (h4 : Cond.initialized C ∈ lw_all) (h5 : Cond.code y b L r ∈ lw_all) : GoodIn lw_all (wsV own idx C y (ws_ y b L r)) := by
  refine lw_app ?_ (lw_meth h5)
  intro w hw
  simp only [List.mem_cons, List.not_mem_nil, or_false] at hw
  rcases hw with e | e | e | e
  · rw [e]; exact h1
  · rw [e]; exact h2
  · rw [e]; exact h3
  · rw [e]; exact h4
/-- what a static call asks: va_cwS n hts (lw_S ..) -/
theorem lw_S {own : String} {idx : Nat} {y : MethodName} {b : ByteArray} {L : Nat} {r : Option FieldType} (h1 : Cond.methodLink own idx y ∈ lw_all) (h2 : Cond.static y ∈ lw_all) (h3 : Cond.initialized y.cls ∈ lw_all) (h4 : Cond.code y b L r ∈ lw_all) : GoodIn lw_all (va_wsS own idx y (ws_ y b L r)) := by
  refine lw_app ?_ (lw_meth h4)
  intro w hw
  simp only [List.mem_cons, List.not_mem_nil, or_false] at hw
  rcases hw with e | e | e
  · rw [e]; exact h1
  · rw [e]; exact h2
  · rw [e]; exact h3
/-- the words of a contract for a method WITH HANDLERS (hh: its table) -/
abbrev wsW_ (y : MethodName) (b : ByteArray) (L : Nat) (r : Option FieldType) (hh : List (Nat × Nat × Nat × Nat)) : List Cond := Cond.codeWith y b L r hh :: lw_all
theorem lw_methW {y : MethodName} {b : ByteArray} {L : Nat} {r : Option FieldType} {hh : List (Nat × Nat × Nat × Nat)} (h : Cond.codeWith y b L r hh ∈ lw_all) : GoodIn lw_all (wsW_ y b L r hh) := by
  intro w hw
  rcases List.mem_cons.mp hw with e | e
  · rw [e]
    exact lw_self _ h
  · exact lw_self _ e
/-- any list of words by their places (lw_in), good -/
theorem lw_good {ws : List Cond} (h : ∀ w ∈ ws, w ∈ lw_all) : GoodIn lw_all ws := fun w hw => lw_self w (h w hw)
/-- what a call of a method with handlers asks: vx_cwVW n hts (lw_VW ..), vx_cwSW n hts (lw_SW ..) -/
theorem lw_VW {own : String} {idx : Nat} {C : String} {y : MethodName} {b : ByteArray} {L : Nat} {r : Option FieldType} {hh : List (Nat × Nat × Nat × Nat)} (h1 : Cond.methodLink own idx y ∈ lw_all) (h2 : Cond.instanceMethod y ∈ lw_all) (h3 : Cond.selects C y y ∈ lw_all) (h4 : Cond.initialized C ∈ lw_all) (h5 : Cond.codeWith y b L r hh ∈ lw_all) : GoodIn lw_all (wsV own idx C y (wsW_ y b L r hh)) := by
  refine lw_app ?_ (lw_methW h5)
  intro w hw
  simp only [List.mem_cons, List.not_mem_nil, or_false] at hw
  rcases hw with e | e | e | e
  · rw [e]; exact h1
  · rw [e]; exact h2
  · rw [e]; exact h3
  · rw [e]; exact h4
theorem lw_SW {own : String} {idx : Nat} {y : MethodName} {b : ByteArray} {L : Nat} {r : Option FieldType} {hh : List (Nat × Nat × Nat × Nat)} (h1 : Cond.methodLink own idx y ∈ lw_all) (h2 : Cond.static y ∈ lw_all) (h3 : Cond.initialized y.cls ∈ lw_all) (h4 : Cond.codeWith y b L r hh ∈ lw_all) : GoodIn lw_all (va_wsS own idx y (wsW_ y b L r hh)) := by
  refine lw_app ?_ (lw_methW h4)
  intro w hw
  simp only [List.mem_cons, List.not_mem_nil, or_false] at hw
  rcases hw with e | e | e
  · rw [e]; exact h1
  · rw [e]; exact h2
  · rw [e]; exact h3
/-- a word by its place in its run of the tables -/
theorem lw_at {r : List Cond} (hr : ∀ w ∈ r, w ∈ lw_tbl) {w : Cond} (i : Nat) (h : r[i]? = some w) : w ∈ lw_tbl := hr w (List.mem_of_getElem? h)
theorem lw_g {w : Cond} (h : w ∈ lw_tbl) (g : goodWord w = true) : w ∈ lw_all := List.mem_filter.mpr ⟨h, g⟩
theorem lw_ms : ∀ w ∈ k2_sels lw_privs, w ∈ lw_tbl := fun w h => show w ∈ k2_sels lw_privs ++ tables_1 from List.mem_append_left _ h
theorem lw_m0 : ∀ w ∈ tables_1, w ∈ lw_tbl := fun w h => show w ∈ k2_sels lw_privs ++ tables_1 from List.mem_append_right (k2_sels lw_privs) h
theorem qs0 : (Cond.selects "SuitDesk" ⟨"SuitDesk", "fresh", "()V"⟩ ⟨"SuitDesk", "fresh", "()V"⟩) ∈ lw_all := lw_g (lw_at lw_ms 0 rfl) rfl
theorem qs1 : (Cond.selects "SuitDesk" ⟨"SuitDesk", "take", "([I[III)V"⟩ ⟨"SuitDesk", "take", "([I[III)V"⟩) ∈ lw_all := lw_g (lw_at lw_ms 1 rfl) rfl
theorem qs2 : (Cond.selects "SuitDesk" ⟨"SuitDesk", "order", "(I)V"⟩ ⟨"SuitDesk", "order", "(I)V"⟩) ∈ lw_all := lw_g (lw_at lw_ms 2 rfl) rfl
theorem qs3 : (Cond.selects "SuitDesk" ⟨"SuitDesk", "one", "(I)I"⟩ ⟨"SuitDesk", "one", "(I)I"⟩) ∈ lw_all := lw_g (lw_at lw_ms 3 rfl) rfl
theorem qs4 : (Cond.selects "SuitDesk" ⟨"SuitDesk", "orders", "()I"⟩ ⟨"SuitDesk", "orders", "()I"⟩) ∈ lw_all := lw_g (lw_at lw_ms 4 rfl) rfl
theorem qs5 : (Cond.selects "SuitDesk" ⟨"SuitDesk", "ask", "([I[I)V"⟩ ⟨"SuitDesk", "ask", "([I[I)V"⟩) ∈ lw_all := lw_g (lw_at lw_ms 5 rfl) rfl
theorem qs6 : (Cond.selects "SuitDesk" ⟨"SuitDesk", "meet", "()V"⟩ ⟨"SuitDesk", "meet", "()V"⟩) ∈ lw_all := lw_g (lw_at lw_ms 6 rfl) rfl
theorem qs7 : (Cond.selects "SuitDesk" ⟨"SuitDesk", "number", "()I"⟩ ⟨"SuitDesk", "number", "()I"⟩) ∈ lw_all := lw_g (lw_at lw_ms 7 rfl) rfl
theorem qs8 : (Cond.selects "SuitDesk" ⟨"SuitDesk", "back", "(I)V"⟩ ⟨"SuitDesk", "back", "(I)V"⟩) ∈ lw_all := lw_g (lw_at lw_ms 8 rfl) rfl
theorem qs9 : (Cond.selects "SuitDesk" ⟨"SuitDesk", "part", "(I)Z"⟩ ⟨"SuitDesk", "part", "(I)Z"⟩) ∈ lw_all := lw_g (lw_at lw_ms 9 rfl) rfl
theorem qs10 : (Cond.selects "SuitDeskModel" ⟨"SuitDeskModel", "orders", "()I"⟩ ⟨"SuitDeskModel", "orders", "()I"⟩) ∈ lw_all := lw_g (lw_at lw_ms 10 rfl) rfl
theorem qs11 : (Cond.selects "SuitDeskModel" ⟨"SuitDeskModel", "order", "(I)V"⟩ ⟨"SuitDeskModel", "order", "(I)V"⟩) ∈ lw_all := lw_g (lw_at lw_ms 11 rfl) rfl
theorem qs12 : (Cond.selects "SuitDeskModel" ⟨"SuitDeskModel", "reckon", "()V"⟩ ⟨"SuitDeskModel", "reckon", "()V"⟩) ∈ lw_all := lw_g (lw_at lw_ms 12 rfl) rfl
theorem qs13 : (Cond.selects "SuitDeskModel" ⟨"SuitDeskModel", "rests", "()Z"⟩ ⟨"SuitDeskModel", "rests", "()Z"⟩) ∈ lw_all := lw_g (lw_at lw_ms 13 rfl) rfl
end
section
/-! SuitDesk -/
set_option maxRecDepth 100000
def RX0 : String := "SuitDesk"
def TX0 : u_T := fun k => match k with
  | 0 => ("SuitDesk", "n", "I", false)
  | 1 => ("SuitDesk", "left", "[I", true)
  | 2 => ("SuitDesk", "right", "[I", true)
  | 3 => ("SuitDesk", "leftPlace", "[I", true)
  | 4 => ("SuitDesk", "rightPlace", "[I", true)
  | 5 => ("SuitDesk", "row", "[I", true)
  | 6 => ("SuitDesk", "far", "[I", true)
  | 7 => ("SuitDesk", "has", "[I", true)
  | 8 => ("SuitDesk", "met", "[Z", true)
  | 9 => ("SuitDesk", "waiting", "[I", true)
  | _ => ("SuitDesk", "many", "I", false)
def tyX0 : Nat → FieldType := fun k => match k with
  | 0 => .int
  | 1 => .array .int
  | 2 => .array .int
  | 3 => .array .int
  | 4 => .array .int
  | 5 => .array .int
  | 6 => .array .int
  | 7 => .array .int
  | 8 => .array .boolean
  | 9 => .array .int
  | _ => .int
abbrev wsX00 : List Cond := u_ws RX0 TX0 11
theorem nmX0 : ∀ a, a < 11 → ∀ b, b < 11 → a ≠ b → (TX0 a).2.1 ≠ (TX0 b).2.1 := by decide +kernel
theorem tyX0_ok : ∀ k, k < 11 → parseFieldDescriptor (TX0 k).2.2.1 = some (tyX0 k) := by decide +kernel
abbrev cX0_init : ByteArray := prog_1_method_1_code
def yX0_init : MethodName := ⟨RX0, "<init>", "()V"⟩
theorem dX0_init_0 : decode cX0_init 0 = .ok (.aload_n 0, 1) := by decide +kernel
theorem dX0_init_1 : decode cX0_init 1 = .ok (.invokespecial 1, 3) := by decide +kernel
theorem dX0_init_4 : decode cX0_init 4 = .ok (.aload_n 0, 1) := by decide +kernel
theorem dX0_init_5 : decode cX0_init 5 = .ok (.iconst 3, 1) := by decide +kernel
theorem dX0_init_6 : decode cX0_init 6 = .ok (.putfield 7, 3) := by decide +kernel
theorem dX0_init_9 : decode cX0_init 9 = .ok (.aload_n 0, 1) := by decide +kernel
theorem dX0_init_10 : decode cX0_init 10 = .ok (.bipush 36, 2) := by decide +kernel
theorem dX0_init_12 : decode cX0_init 12 = .ok (.newarray .int, 2) := by decide +kernel
theorem dX0_init_14 : decode cX0_init 14 = .ok (.putfield 13, 3) := by decide +kernel
theorem dX0_init_17 : decode cX0_init 17 = .ok (.aload_n 0, 1) := by decide +kernel
theorem dX0_init_18 : decode cX0_init 18 = .ok (.bipush 36, 2) := by decide +kernel
theorem dX0_init_20 : decode cX0_init 20 = .ok (.newarray .int, 2) := by decide +kernel
theorem dX0_init_22 : decode cX0_init 22 = .ok (.putfield 17, 3) := by decide +kernel
theorem dX0_init_25 : decode cX0_init 25 = .ok (.aload_n 0, 1) := by decide +kernel
theorem dX0_init_26 : decode cX0_init 26 = .ok (.bipush 36, 2) := by decide +kernel
theorem dX0_init_28 : decode cX0_init 28 = .ok (.newarray .int, 2) := by decide +kernel
theorem dX0_init_30 : decode cX0_init 30 = .ok (.putfield 20, 3) := by decide +kernel
theorem dX0_init_33 : decode cX0_init 33 = .ok (.aload_n 0, 1) := by decide +kernel
theorem dX0_init_34 : decode cX0_init 34 = .ok (.bipush 36, 2) := by decide +kernel
theorem dX0_init_36 : decode cX0_init 36 = .ok (.newarray .int, 2) := by decide +kernel
theorem dX0_init_38 : decode cX0_init 38 = .ok (.putfield 23, 3) := by decide +kernel
theorem dX0_init_41 : decode cX0_init 41 = .ok (.aload_n 0, 1) := by decide +kernel
theorem dX0_init_42 : decode cX0_init 42 = .ok (.bipush 6, 2) := by decide +kernel
theorem dX0_init_44 : decode cX0_init 44 = .ok (.newarray .int, 2) := by decide +kernel
theorem dX0_init_46 : decode cX0_init 46 = .ok (.putfield 26, 3) := by decide +kernel
theorem dX0_init_49 : decode cX0_init 49 = .ok (.aload_n 0, 1) := by decide +kernel
theorem dX0_init_50 : decode cX0_init 50 = .ok (.bipush 6, 2) := by decide +kernel
theorem dX0_init_52 : decode cX0_init 52 = .ok (.newarray .int, 2) := by decide +kernel
theorem dX0_init_54 : decode cX0_init 54 = .ok (.putfield 29, 3) := by decide +kernel
theorem dX0_init_57 : decode cX0_init 57 = .ok (.aload_n 0, 1) := by decide +kernel
theorem dX0_init_58 : decode cX0_init 58 = .ok (.bipush 6, 2) := by decide +kernel
theorem dX0_init_60 : decode cX0_init 60 = .ok (.newarray .int, 2) := by decide +kernel
theorem dX0_init_62 : decode cX0_init 62 = .ok (.putfield 32, 3) := by decide +kernel
theorem dX0_init_65 : decode cX0_init 65 = .ok (.aload_n 0, 1) := by decide +kernel
theorem dX0_init_66 : decode cX0_init 66 = .ok (.sipush 720, 3) := by decide +kernel
theorem dX0_init_69 : decode cX0_init 69 = .ok (.newarray .boolean, 2) := by decide +kernel
theorem dX0_init_71 : decode cX0_init 71 = .ok (.putfield 35, 3) := by decide +kernel
theorem dX0_init_74 : decode cX0_init 74 = .ok (.aload_n 0, 1) := by decide +kernel
theorem dX0_init_75 : decode cX0_init 75 = .ok (.sipush 720, 3) := by decide +kernel
theorem dX0_init_78 : decode cX0_init 78 = .ok (.newarray .int, 2) := by decide +kernel
theorem dX0_init_80 : decode cX0_init 80 = .ok (.putfield 39, 3) := by decide +kernel
theorem dX0_init_83 : decode cX0_init 83 = .ok (.aload_n 0, 1) := by decide +kernel
theorem dX0_init_84 : decode cX0_init 84 = .ok (.invokevirtual 42, 3) := by decide +kernel
theorem dX0_init_87 : decode cX0_init 87 = .ok (.return_, 1) := by decide +kernel
abbrev cX0_fresh : ByteArray := prog_1_method_2_code
def yX0_fresh : MethodName := ⟨RX0, "fresh", "()V"⟩
theorem dX0_fresh_0 : decode cX0_fresh 0 = .ok (.iconst 0, 1) := by decide +kernel
theorem dX0_fresh_1 : decode cX0_fresh 1 = .ok (.istore_n 1, 1) := by decide +kernel
theorem dX0_fresh_2 : decode cX0_fresh 2 = .ok (.iload_n 1, 1) := by decide +kernel
theorem dX0_fresh_3 : decode cX0_fresh 3 = .ok (.aload_n 0, 1) := by decide +kernel
theorem dX0_fresh_4 : decode cX0_fresh 4 = .ok (.getfield 7, 3) := by decide +kernel
theorem dX0_fresh_7 : decode cX0_fresh 7 = .ok (.if_icmp .ge 37, 3) := by decide +kernel
theorem dX0_fresh_10 : decode cX0_fresh 10 = .ok (.aload_n 0, 1) := by decide +kernel
theorem dX0_fresh_11 : decode cX0_fresh 11 = .ok (.aload_n 0, 1) := by decide +kernel
theorem dX0_fresh_12 : decode cX0_fresh 12 = .ok (.getfield 13, 3) := by decide +kernel
theorem dX0_fresh_15 : decode cX0_fresh 15 = .ok (.aload_n 0, 1) := by decide +kernel
theorem dX0_fresh_16 : decode cX0_fresh 16 = .ok (.getfield 20, 3) := by decide +kernel
theorem dX0_fresh_19 : decode cX0_fresh 19 = .ok (.iload_n 1, 1) := by decide +kernel
theorem dX0_fresh_20 : decode cX0_fresh 20 = .ok (.iconst 0, 1) := by decide +kernel
theorem dX0_fresh_21 : decode cX0_fresh 21 = .ok (.invokevirtual 45, 3) := by decide +kernel
theorem dX0_fresh_24 : decode cX0_fresh 24 = .ok (.aload_n 0, 1) := by decide +kernel
theorem dX0_fresh_25 : decode cX0_fresh 25 = .ok (.aload_n 0, 1) := by decide +kernel
theorem dX0_fresh_26 : decode cX0_fresh 26 = .ok (.getfield 17, 3) := by decide +kernel
theorem dX0_fresh_29 : decode cX0_fresh 29 = .ok (.aload_n 0, 1) := by decide +kernel
theorem dX0_fresh_30 : decode cX0_fresh 30 = .ok (.getfield 23, 3) := by decide +kernel
theorem dX0_fresh_33 : decode cX0_fresh 33 = .ok (.iload_n 1, 1) := by decide +kernel
theorem dX0_fresh_34 : decode cX0_fresh 34 = .ok (.iconst 0, 1) := by decide +kernel
theorem dX0_fresh_35 : decode cX0_fresh 35 = .ok (.invokevirtual 45, 3) := by decide +kernel
theorem dX0_fresh_38 : decode cX0_fresh 38 = .ok (.iinc 1 1, 3) := by decide +kernel
theorem dX0_fresh_41 : decode cX0_fresh 41 = .ok (.goto (-39), 3) := by decide +kernel
theorem dX0_fresh_44 : decode cX0_fresh 44 = .ok (.return_, 1) := by decide +kernel
abbrev cX0_take : ByteArray := prog_1_method_5_code
def yX0_take : MethodName := ⟨RX0, "take", "([I[III)V"⟩
theorem dX0_take_0 : decode cX0_take 0 = .ok (.aload_n 0, 1) := by decide +kernel
theorem dX0_take_1 : decode cX0_take 1 = .ok (.iload 4, 2) := by decide +kernel
theorem dX0_take_3 : decode cX0_take 3 = .ok (.invokevirtual 49, 3) := by decide +kernel
theorem dX0_take_6 : decode cX0_take 6 = .ok (.iconst 0, 1) := by decide +kernel
theorem dX0_take_7 : decode cX0_take 7 = .ok (.istore 5, 2) := by decide +kernel
theorem dX0_take_9 : decode cX0_take 9 = .ok (.iload 5, 2) := by decide +kernel
theorem dX0_take_11 : decode cX0_take 11 = .ok (.aload_n 0, 1) := by decide +kernel
theorem dX0_take_12 : decode cX0_take 12 = .ok (.getfield 7, 3) := by decide +kernel
theorem dX0_take_15 : decode cX0_take 15 = .ok (.if_icmp .ge 41, 3) := by decide +kernel
theorem dX0_take_18 : decode cX0_take 18 = .ok (.aload_n 1, 1) := by decide +kernel
theorem dX0_take_19 : decode cX0_take 19 = .ok (.bipush 6, 2) := by decide +kernel
theorem dX0_take_21 : decode cX0_take 21 = .ok (.iload_n 3, 1) := by decide +kernel
theorem dX0_take_22 : decode cX0_take 22 = .ok (.imul, 1) := by decide +kernel
theorem dX0_take_23 : decode cX0_take 23 = .ok (.iload 5, 2) := by decide +kernel
theorem dX0_take_25 : decode cX0_take 25 = .ok (.iadd, 1) := by decide +kernel
theorem dX0_take_26 : decode cX0_take 26 = .ok (.aload_n 0, 1) := by decide +kernel
theorem dX0_take_27 : decode cX0_take 27 = .ok (.getfield 26, 3) := by decide +kernel
theorem dX0_take_30 : decode cX0_take 30 = .ok (.iload 5, 2) := by decide +kernel
theorem dX0_take_32 : decode cX0_take 32 = .ok (.iaload, 1) := by decide +kernel
theorem dX0_take_33 : decode cX0_take 33 = .ok (.iastore, 1) := by decide +kernel
theorem dX0_take_34 : decode cX0_take 34 = .ok (.aload_n 2, 1) := by decide +kernel
theorem dX0_take_35 : decode cX0_take 35 = .ok (.bipush 6, 2) := by decide +kernel
theorem dX0_take_37 : decode cX0_take 37 = .ok (.iload_n 3, 1) := by decide +kernel
theorem dX0_take_38 : decode cX0_take 38 = .ok (.imul, 1) := by decide +kernel
theorem dX0_take_39 : decode cX0_take 39 = .ok (.aload_n 0, 1) := by decide +kernel
theorem dX0_take_40 : decode cX0_take 40 = .ok (.getfield 26, 3) := by decide +kernel
theorem dX0_take_43 : decode cX0_take 43 = .ok (.iload 5, 2) := by decide +kernel
theorem dX0_take_45 : decode cX0_take 45 = .ok (.iaload, 1) := by decide +kernel
theorem dX0_take_46 : decode cX0_take 46 = .ok (.iadd, 1) := by decide +kernel
theorem dX0_take_47 : decode cX0_take 47 = .ok (.iload 5, 2) := by decide +kernel
theorem dX0_take_49 : decode cX0_take 49 = .ok (.iastore, 1) := by decide +kernel
theorem dX0_take_50 : decode cX0_take 50 = .ok (.iinc 5 1, 3) := by decide +kernel
theorem dX0_take_53 : decode cX0_take 53 = .ok (.goto (-44), 3) := by decide +kernel
theorem dX0_take_56 : decode cX0_take 56 = .ok (.return_, 1) := by decide +kernel
abbrev cX0_order : ByteArray := prog_1_method_4_code
def yX0_order : MethodName := ⟨RX0, "order", "(I)V"⟩
theorem dX0_order_0 : decode cX0_order 0 = .ok (.iload_n 1, 1) := by decide +kernel
theorem dX0_order_1 : decode cX0_order 1 = .ok (.istore_n 2, 1) := by decide +kernel
theorem dX0_order_2 : decode cX0_order 2 = .ok (.iconst 0, 1) := by decide +kernel
theorem dX0_order_3 : decode cX0_order 3 = .ok (.istore_n 3, 1) := by decide +kernel
theorem dX0_order_4 : decode cX0_order 4 = .ok (.iload_n 3, 1) := by decide +kernel
theorem dX0_order_5 : decode cX0_order 5 = .ok (.aload_n 0, 1) := by decide +kernel
theorem dX0_order_6 : decode cX0_order 6 = .ok (.getfield 7, 3) := by decide +kernel
theorem dX0_order_9 : decode cX0_order 9 = .ok (.if_icmp .ge 16, 3) := by decide +kernel
theorem dX0_order_12 : decode cX0_order 12 = .ok (.aload_n 0, 1) := by decide +kernel
theorem dX0_order_13 : decode cX0_order 13 = .ok (.getfield 26, 3) := by decide +kernel
theorem dX0_order_16 : decode cX0_order 16 = .ok (.iload_n 3, 1) := by decide +kernel
theorem dX0_order_17 : decode cX0_order 17 = .ok (.iload_n 3, 1) := by decide +kernel
theorem dX0_order_18 : decode cX0_order 18 = .ok (.iastore, 1) := by decide +kernel
theorem dX0_order_19 : decode cX0_order 19 = .ok (.iinc 3 1, 3) := by decide +kernel
theorem dX0_order_22 : decode cX0_order 22 = .ok (.goto (-18), 3) := by decide +kernel
theorem dX0_order_25 : decode cX0_order 25 = .ok (.iconst 0, 1) := by decide +kernel
theorem dX0_order_26 : decode cX0_order 26 = .ok (.istore_n 3, 1) := by decide +kernel
theorem dX0_order_27 : decode cX0_order 27 = .ok (.iload_n 3, 1) := by decide +kernel
theorem dX0_order_28 : decode cX0_order 28 = .ok (.aload_n 0, 1) := by decide +kernel
theorem dX0_order_29 : decode cX0_order 29 = .ok (.getfield 7, 3) := by decide +kernel
theorem dX0_order_32 : decode cX0_order 32 = .ok (.if_icmp .ge 79, 3) := by decide +kernel
theorem dX0_order_35 : decode cX0_order 35 = .ok (.iload_n 3, 1) := by decide +kernel
theorem dX0_order_36 : decode cX0_order 36 = .ok (.iload_n 2, 1) := by decide +kernel
theorem dX0_order_37 : decode cX0_order 37 = .ok (.aload_n 0, 1) := by decide +kernel
theorem dX0_order_38 : decode cX0_order 38 = .ok (.getfield 7, 3) := by decide +kernel
theorem dX0_order_41 : decode cX0_order 41 = .ok (.iload_n 3, 1) := by decide +kernel
theorem dX0_order_42 : decode cX0_order 42 = .ok (.isub, 1) := by decide +kernel
theorem dX0_order_43 : decode cX0_order 43 = .ok (.irem, 1) := by decide +kernel
theorem dX0_order_44 : decode cX0_order 44 = .ok (.iadd, 1) := by decide +kernel
theorem dX0_order_45 : decode cX0_order 45 = .ok (.istore 4, 2) := by decide +kernel
theorem dX0_order_47 : decode cX0_order 47 = .ok (.aload_n 0, 1) := by decide +kernel
theorem dX0_order_48 : decode cX0_order 48 = .ok (.getfield 26, 3) := by decide +kernel
theorem dX0_order_51 : decode cX0_order 51 = .ok (.iload 4, 2) := by decide +kernel
theorem dX0_order_53 : decode cX0_order 53 = .ok (.iaload, 1) := by decide +kernel
theorem dX0_order_54 : decode cX0_order 54 = .ok (.istore 5, 2) := by decide +kernel
theorem dX0_order_56 : decode cX0_order 56 = .ok (.iload_n 2, 1) := by decide +kernel
theorem dX0_order_57 : decode cX0_order 57 = .ok (.aload_n 0, 1) := by decide +kernel
theorem dX0_order_58 : decode cX0_order 58 = .ok (.getfield 7, 3) := by decide +kernel
theorem dX0_order_61 : decode cX0_order 61 = .ok (.iload_n 3, 1) := by decide +kernel
theorem dX0_order_62 : decode cX0_order 62 = .ok (.isub, 1) := by decide +kernel
theorem dX0_order_63 : decode cX0_order 63 = .ok (.idiv, 1) := by decide +kernel
theorem dX0_order_64 : decode cX0_order 64 = .ok (.istore_n 2, 1) := by decide +kernel
theorem dX0_order_65 : decode cX0_order 65 = .ok (.iload 4, 2) := by decide +kernel
theorem dX0_order_67 : decode cX0_order 67 = .ok (.istore 6, 2) := by decide +kernel
theorem dX0_order_69 : decode cX0_order 69 = .ok (.iload 6, 2) := by decide +kernel
theorem dX0_order_71 : decode cX0_order 71 = .ok (.iload_n 3, 1) := by decide +kernel
theorem dX0_order_72 : decode cX0_order 72 = .ok (.if_icmp .le 25, 3) := by decide +kernel
theorem dX0_order_75 : decode cX0_order 75 = .ok (.aload_n 0, 1) := by decide +kernel
theorem dX0_order_76 : decode cX0_order 76 = .ok (.getfield 26, 3) := by decide +kernel
theorem dX0_order_79 : decode cX0_order 79 = .ok (.iload 6, 2) := by decide +kernel
theorem dX0_order_81 : decode cX0_order 81 = .ok (.aload_n 0, 1) := by decide +kernel
theorem dX0_order_82 : decode cX0_order 82 = .ok (.getfield 26, 3) := by decide +kernel
theorem dX0_order_85 : decode cX0_order 85 = .ok (.iload 6, 2) := by decide +kernel
theorem dX0_order_87 : decode cX0_order 87 = .ok (.iconst 1, 1) := by decide +kernel
theorem dX0_order_88 : decode cX0_order 88 = .ok (.isub, 1) := by decide +kernel
theorem dX0_order_89 : decode cX0_order 89 = .ok (.iaload, 1) := by decide +kernel
theorem dX0_order_90 : decode cX0_order 90 = .ok (.iastore, 1) := by decide +kernel
theorem dX0_order_91 : decode cX0_order 91 = .ok (.iinc 6 (-1), 3) := by decide +kernel
theorem dX0_order_94 : decode cX0_order 94 = .ok (.goto (-25), 3) := by decide +kernel
theorem dX0_order_97 : decode cX0_order 97 = .ok (.aload_n 0, 1) := by decide +kernel
theorem dX0_order_98 : decode cX0_order 98 = .ok (.getfield 26, 3) := by decide +kernel
theorem dX0_order_101 : decode cX0_order 101 = .ok (.iload_n 3, 1) := by decide +kernel
theorem dX0_order_102 : decode cX0_order 102 = .ok (.iload 5, 2) := by decide +kernel
theorem dX0_order_104 : decode cX0_order 104 = .ok (.iastore, 1) := by decide +kernel
theorem dX0_order_105 : decode cX0_order 105 = .ok (.iinc 3 1, 3) := by decide +kernel
theorem dX0_order_108 : decode cX0_order 108 = .ok (.goto (-81), 3) := by decide +kernel
theorem dX0_order_111 : decode cX0_order 111 = .ok (.return_, 1) := by decide +kernel
abbrev cX0_size : ByteArray := prog_1_method_7_code
def yX0_size : MethodName := ⟨RX0, "size", "(I)V"⟩
theorem dX0_size_0 : decode cX0_size 0 = .ok (.aload_n 0, 1) := by decide +kernel
theorem dX0_size_1 : decode cX0_size 1 = .ok (.iconst 1, 1) := by decide +kernel
theorem dX0_size_2 : decode cX0_size 2 = .ok (.iload_n 1, 1) := by decide +kernel
theorem dX0_size_3 : decode cX0_size 3 = .ok (.ldc 55, 2) := by decide +kernel
theorem dX0_size_5 : decode cX0_size 5 = .ok (.iand, 1) := by decide +kernel
theorem dX0_size_6 : decode cX0_size 6 = .ok (.bipush 6, 2) := by decide +kernel
theorem dX0_size_8 : decode cX0_size 8 = .ok (.irem, 1) := by decide +kernel
theorem dX0_size_9 : decode cX0_size 9 = .ok (.iadd, 1) := by decide +kernel
theorem dX0_size_10 : decode cX0_size 10 = .ok (.putfield 7, 3) := by decide +kernel
theorem dX0_size_13 : decode cX0_size 13 = .ok (.aload_n 0, 1) := by decide +kernel
theorem dX0_size_14 : decode cX0_size 14 = .ok (.invokevirtual 42, 3) := by decide +kernel
theorem dX0_size_17 : decode cX0_size 17 = .ok (.return_, 1) := by decide +kernel
abbrev cX0_left : ByteArray := prog_1_method_8_code
def yX0_left : MethodName := ⟨RX0, "left", "(II)V"⟩
theorem dX0_left_0 : decode cX0_left 0 = .ok (.aload_n 0, 1) := by decide +kernel
theorem dX0_left_1 : decode cX0_left 1 = .ok (.aload_n 0, 1) := by decide +kernel
theorem dX0_left_2 : decode cX0_left 2 = .ok (.getfield 13, 3) := by decide +kernel
theorem dX0_left_5 : decode cX0_left 5 = .ok (.aload_n 0, 1) := by decide +kernel
theorem dX0_left_6 : decode cX0_left 6 = .ok (.getfield 20, 3) := by decide +kernel
theorem dX0_left_9 : decode cX0_left 9 = .ok (.aload_n 0, 1) := by decide +kernel
theorem dX0_left_10 : decode cX0_left 10 = .ok (.iload_n 1, 1) := by decide +kernel
theorem dX0_left_11 : decode cX0_left 11 = .ok (.invokevirtual 56, 3) := by decide +kernel
theorem dX0_left_14 : decode cX0_left 14 = .ok (.iload_n 2, 1) := by decide +kernel
theorem dX0_left_15 : decode cX0_left 15 = .ok (.ldc 55, 2) := by decide +kernel
theorem dX0_left_17 : decode cX0_left 17 = .ok (.iand, 1) := by decide +kernel
theorem dX0_left_18 : decode cX0_left 18 = .ok (.aload_n 0, 1) := by decide +kernel
theorem dX0_left_19 : decode cX0_left 19 = .ok (.invokevirtual 60, 3) := by decide +kernel
theorem dX0_left_22 : decode cX0_left 22 = .ok (.irem, 1) := by decide +kernel
theorem dX0_left_23 : decode cX0_left 23 = .ok (.invokevirtual 45, 3) := by decide +kernel
theorem dX0_left_26 : decode cX0_left 26 = .ok (.return_, 1) := by decide +kernel
abbrev cX0_one : ByteArray := prog_1_method_6_code
def yX0_one : MethodName := ⟨RX0, "one", "(I)I"⟩
theorem dX0_one_0 : decode cX0_one 0 = .ok (.iload_n 1, 1) := by decide +kernel
theorem dX0_one_1 : decode cX0_one 1 = .ok (.ldc 55, 2) := by decide +kernel
theorem dX0_one_3 : decode cX0_one 3 = .ok (.iand, 1) := by decide +kernel
theorem dX0_one_4 : decode cX0_one 4 = .ok (.aload_n 0, 1) := by decide +kernel
theorem dX0_one_5 : decode cX0_one 5 = .ok (.getfield 7, 3) := by decide +kernel
theorem dX0_one_8 : decode cX0_one 8 = .ok (.irem, 1) := by decide +kernel
theorem dX0_one_9 : decode cX0_one 9 = .ok (.ireturn, 1) := by decide +kernel
abbrev cX0_orders : ByteArray := prog_1_method_3_code
def yX0_orders : MethodName := ⟨RX0, "orders", "()I"⟩
theorem dX0_orders_0 : decode cX0_orders 0 = .ok (.iconst 1, 1) := by decide +kernel
theorem dX0_orders_1 : decode cX0_orders 1 = .ok (.istore_n 1, 1) := by decide +kernel
theorem dX0_orders_2 : decode cX0_orders 2 = .ok (.iconst 2, 1) := by decide +kernel
theorem dX0_orders_3 : decode cX0_orders 3 = .ok (.istore_n 2, 1) := by decide +kernel
theorem dX0_orders_4 : decode cX0_orders 4 = .ok (.iload_n 2, 1) := by decide +kernel
theorem dX0_orders_5 : decode cX0_orders 5 = .ok (.aload_n 0, 1) := by decide +kernel
theorem dX0_orders_6 : decode cX0_orders 6 = .ok (.getfield 7, 3) := by decide +kernel
theorem dX0_orders_9 : decode cX0_orders 9 = .ok (.if_icmp .gt 13, 3) := by decide +kernel
theorem dX0_orders_12 : decode cX0_orders 12 = .ok (.iload_n 1, 1) := by decide +kernel
theorem dX0_orders_13 : decode cX0_orders 13 = .ok (.iload_n 2, 1) := by decide +kernel
theorem dX0_orders_14 : decode cX0_orders 14 = .ok (.imul, 1) := by decide +kernel
theorem dX0_orders_15 : decode cX0_orders 15 = .ok (.istore_n 1, 1) := by decide +kernel
theorem dX0_orders_16 : decode cX0_orders 16 = .ok (.iinc 2 1, 3) := by decide +kernel
theorem dX0_orders_19 : decode cX0_orders 19 = .ok (.goto (-15), 3) := by decide +kernel
theorem dX0_orders_22 : decode cX0_orders 22 = .ok (.iload_n 1, 1) := by decide +kernel
theorem dX0_orders_23 : decode cX0_orders 23 = .ok (.ireturn, 1) := by decide +kernel
abbrev cX0_right : ByteArray := prog_1_method_9_code
def yX0_right : MethodName := ⟨RX0, "right", "(II)V"⟩
theorem dX0_right_0 : decode cX0_right 0 = .ok (.aload_n 0, 1) := by decide +kernel
theorem dX0_right_1 : decode cX0_right 1 = .ok (.aload_n 0, 1) := by decide +kernel
theorem dX0_right_2 : decode cX0_right 2 = .ok (.getfield 17, 3) := by decide +kernel
theorem dX0_right_5 : decode cX0_right 5 = .ok (.aload_n 0, 1) := by decide +kernel
theorem dX0_right_6 : decode cX0_right 6 = .ok (.getfield 23, 3) := by decide +kernel
theorem dX0_right_9 : decode cX0_right 9 = .ok (.aload_n 0, 1) := by decide +kernel
theorem dX0_right_10 : decode cX0_right 10 = .ok (.iload_n 1, 1) := by decide +kernel
theorem dX0_right_11 : decode cX0_right 11 = .ok (.invokevirtual 56, 3) := by decide +kernel
theorem dX0_right_14 : decode cX0_right 14 = .ok (.iload_n 2, 1) := by decide +kernel
theorem dX0_right_15 : decode cX0_right 15 = .ok (.ldc 55, 2) := by decide +kernel
theorem dX0_right_17 : decode cX0_right 17 = .ok (.iand, 1) := by decide +kernel
theorem dX0_right_18 : decode cX0_right 18 = .ok (.aload_n 0, 1) := by decide +kernel
theorem dX0_right_19 : decode cX0_right 19 = .ok (.invokevirtual 60, 3) := by decide +kernel
theorem dX0_right_22 : decode cX0_right 22 = .ok (.irem, 1) := by decide +kernel
theorem dX0_right_23 : decode cX0_right 23 = .ok (.invokevirtual 45, 3) := by decide +kernel
theorem dX0_right_26 : decode cX0_right 26 = .ok (.return_, 1) := by decide +kernel
abbrev cX0_partner : ByteArray := prog_1_method_11_code
def yX0_partner : MethodName := ⟨RX0, "partner", "(I)I"⟩
theorem dX0_partner_0 : decode cX0_partner 0 = .ok (.aload_n 0, 1) := by decide +kernel
theorem dX0_partner_1 : decode cX0_partner 1 = .ok (.aload_n 0, 1) := by decide +kernel
theorem dX0_partner_2 : decode cX0_partner 2 = .ok (.getfield 13, 3) := by decide +kernel
theorem dX0_partner_5 : decode cX0_partner 5 = .ok (.aload_n 0, 1) := by decide +kernel
theorem dX0_partner_6 : decode cX0_partner 6 = .ok (.getfield 23, 3) := by decide +kernel
theorem dX0_partner_9 : decode cX0_partner 9 = .ok (.invokevirtual 70, 3) := by decide +kernel
theorem dX0_partner_12 : decode cX0_partner 12 = .ok (.aload_n 0, 1) := by decide +kernel
theorem dX0_partner_13 : decode cX0_partner 13 = .ok (.getfield 13, 3) := by decide +kernel
theorem dX0_partner_16 : decode cX0_partner 16 = .ok (.bipush 6, 2) := by decide +kernel
theorem dX0_partner_18 : decode cX0_partner 18 = .ok (.aload_n 0, 1) := by decide +kernel
theorem dX0_partner_19 : decode cX0_partner 19 = .ok (.iload_n 1, 1) := by decide +kernel
theorem dX0_partner_20 : decode cX0_partner 20 = .ok (.invokevirtual 56, 3) := by decide +kernel
theorem dX0_partner_23 : decode cX0_partner 23 = .ok (.imul, 1) := by decide +kernel
theorem dX0_partner_24 : decode cX0_partner 24 = .ok (.aload_n 0, 1) := by decide +kernel
theorem dX0_partner_25 : decode cX0_partner 25 = .ok (.getfield 29, 3) := by decide +kernel
theorem dX0_partner_28 : decode cX0_partner 28 = .ok (.aload_n 0, 1) := by decide +kernel
theorem dX0_partner_29 : decode cX0_partner 29 = .ok (.iload_n 1, 1) := by decide +kernel
theorem dX0_partner_30 : decode cX0_partner 30 = .ok (.invokevirtual 56, 3) := by decide +kernel
theorem dX0_partner_33 : decode cX0_partner 33 = .ok (.iaload, 1) := by decide +kernel
theorem dX0_partner_34 : decode cX0_partner 34 = .ok (.iadd, 1) := by decide +kernel
theorem dX0_partner_35 : decode cX0_partner 35 = .ok (.iaload, 1) := by decide +kernel
theorem dX0_partner_36 : decode cX0_partner 36 = .ok (.ireturn, 1) := by decide +kernel
abbrev cX0_ask : ByteArray := prog_1_method_10_code
def yX0_ask : MethodName := ⟨RX0, "ask", "([I[I)V"⟩
theorem dX0_ask_0 : decode cX0_ask 0 = .ok (.aload_n 0, 1) := by decide +kernel
theorem dX0_ask_1 : decode cX0_ask 1 = .ok (.getfield 32, 3) := by decide +kernel
theorem dX0_ask_4 : decode cX0_ask 4 = .ok (.iconst (-1), 1) := by decide +kernel
theorem dX0_ask_5 : decode cX0_ask 5 = .ok (.invokestatic 64, 3) := by decide +kernel
theorem dX0_ask_8 : decode cX0_ask 8 = .ok (.iconst 0, 1) := by decide +kernel
theorem dX0_ask_9 : decode cX0_ask 9 = .ok (.istore_n 3, 1) := by decide +kernel
theorem dX0_ask_10 : decode cX0_ask 10 = .ok (.iload_n 3, 1) := by decide +kernel
theorem dX0_ask_11 : decode cX0_ask 11 = .ok (.aload_n 0, 1) := by decide +kernel
theorem dX0_ask_12 : decode cX0_ask 12 = .ok (.getfield 7, 3) := by decide +kernel
theorem dX0_ask_15 : decode cX0_ask 15 = .ok (.if_icmp .ge 111, 3) := by decide +kernel
theorem dX0_ask_18 : decode cX0_ask 18 = .ok (.iload_n 3, 1) := by decide +kernel
theorem dX0_ask_19 : decode cX0_ask 19 = .ok (.istore 4, 2) := by decide +kernel
theorem dX0_ask_21 : decode cX0_ask 21 = .ok (.aload_n 0, 1) := by decide +kernel
theorem dX0_ask_22 : decode cX0_ask 22 = .ok (.getfield 29, 3) := by decide +kernel
theorem dX0_ask_25 : decode cX0_ask 25 = .ok (.iload 4, 2) := by decide +kernel
theorem dX0_ask_27 : decode cX0_ask 27 = .ok (.iconst 0, 1) := by decide +kernel
theorem dX0_ask_28 : decode cX0_ask 28 = .ok (.iastore, 1) := by decide +kernel
theorem dX0_ask_29 : decode cX0_ask 29 = .ok (.iload 4, 2) := by decide +kernel
theorem dX0_ask_31 : decode cX0_ask 31 = .ok (.ifCond .lt 89, 3) := by decide +kernel
theorem dX0_ask_34 : decode cX0_ask 34 = .ok (.aload_n 1, 1) := by decide +kernel
theorem dX0_ask_35 : decode cX0_ask 35 = .ok (.bipush 6, 2) := by decide +kernel
theorem dX0_ask_37 : decode cX0_ask 37 = .ok (.iload 4, 2) := by decide +kernel
theorem dX0_ask_39 : decode cX0_ask 39 = .ok (.imul, 1) := by decide +kernel
theorem dX0_ask_40 : decode cX0_ask 40 = .ok (.aload_n 0, 1) := by decide +kernel
theorem dX0_ask_41 : decode cX0_ask 41 = .ok (.getfield 29, 3) := by decide +kernel
theorem dX0_ask_44 : decode cX0_ask 44 = .ok (.iload 4, 2) := by decide +kernel
theorem dX0_ask_46 : decode cX0_ask 46 = .ok (.iaload, 1) := by decide +kernel
theorem dX0_ask_47 : decode cX0_ask 47 = .ok (.iadd, 1) := by decide +kernel
theorem dX0_ask_48 : decode cX0_ask 48 = .ok (.iaload, 1) := by decide +kernel
theorem dX0_ask_49 : decode cX0_ask 49 = .ok (.istore 5, 2) := by decide +kernel
theorem dX0_ask_51 : decode cX0_ask 51 = .ok (.aload_n 0, 1) := by decide +kernel
theorem dX0_ask_52 : decode cX0_ask 52 = .ok (.getfield 32, 3) := by decide +kernel
theorem dX0_ask_55 : decode cX0_ask 55 = .ok (.iload 5, 2) := by decide +kernel
theorem dX0_ask_57 : decode cX0_ask 57 = .ok (.iaload, 1) := by decide +kernel
theorem dX0_ask_58 : decode cX0_ask 58 = .ok (.istore 6, 2) := by decide +kernel
theorem dX0_ask_60 : decode cX0_ask 60 = .ok (.iload 6, 2) := by decide +kernel
theorem dX0_ask_62 : decode cX0_ask 62 = .ok (.ifCond .lt 26, 3) := by decide +kernel
theorem dX0_ask_65 : decode cX0_ask 65 = .ok (.aload_n 2, 1) := by decide +kernel
theorem dX0_ask_66 : decode cX0_ask 66 = .ok (.bipush 6, 2) := by decide +kernel
theorem dX0_ask_68 : decode cX0_ask 68 = .ok (.iload 5, 2) := by decide +kernel
theorem dX0_ask_70 : decode cX0_ask 70 = .ok (.imul, 1) := by decide +kernel
theorem dX0_ask_71 : decode cX0_ask 71 = .ok (.iload 4, 2) := by decide +kernel
theorem dX0_ask_73 : decode cX0_ask 73 = .ok (.iadd, 1) := by decide +kernel
theorem dX0_ask_74 : decode cX0_ask 74 = .ok (.iaload, 1) := by decide +kernel
theorem dX0_ask_75 : decode cX0_ask 75 = .ok (.aload_n 2, 1) := by decide +kernel
theorem dX0_ask_76 : decode cX0_ask 76 = .ok (.bipush 6, 2) := by decide +kernel
theorem dX0_ask_78 : decode cX0_ask 78 = .ok (.iload 5, 2) := by decide +kernel
theorem dX0_ask_80 : decode cX0_ask 80 = .ok (.imul, 1) := by decide +kernel
theorem dX0_ask_81 : decode cX0_ask 81 = .ok (.iload 6, 2) := by decide +kernel
theorem dX0_ask_83 : decode cX0_ask 83 = .ok (.iadd, 1) := by decide +kernel
theorem dX0_ask_84 : decode cX0_ask 84 = .ok (.iaload, 1) := by decide +kernel
theorem dX0_ask_85 : decode cX0_ask 85 = .ok (.if_icmp .ge 16, 3) := by decide +kernel
theorem dX0_ask_88 : decode cX0_ask 88 = .ok (.aload_n 0, 1) := by decide +kernel
theorem dX0_ask_89 : decode cX0_ask 89 = .ok (.getfield 32, 3) := by decide +kernel
theorem dX0_ask_92 : decode cX0_ask 92 = .ok (.iload 5, 2) := by decide +kernel
theorem dX0_ask_94 : decode cX0_ask 94 = .ok (.iload 4, 2) := by decide +kernel
theorem dX0_ask_96 : decode cX0_ask 96 = .ok (.iastore, 1) := by decide +kernel
theorem dX0_ask_97 : decode cX0_ask 97 = .ok (.iload 6, 2) := by decide +kernel
theorem dX0_ask_99 : decode cX0_ask 99 = .ok (.istore 4, 2) := by decide +kernel
theorem dX0_ask_101 : decode cX0_ask 101 = .ok (.iload 4, 2) := by decide +kernel
theorem dX0_ask_103 : decode cX0_ask 103 = .ok (.ifCond .lt 14, 3) := by decide +kernel
theorem dX0_ask_106 : decode cX0_ask 106 = .ok (.aload_n 0, 1) := by decide +kernel
theorem dX0_ask_107 : decode cX0_ask 107 = .ok (.getfield 29, 3) := by decide +kernel
theorem dX0_ask_110 : decode cX0_ask 110 = .ok (.iload 4, 2) := by decide +kernel
theorem dX0_ask_112 : decode cX0_ask 112 = .ok (.dup2, 1) := by decide +kernel
theorem dX0_ask_113 : decode cX0_ask 113 = .ok (.iaload, 1) := by decide +kernel
theorem dX0_ask_114 : decode cX0_ask 114 = .ok (.iconst 1, 1) := by decide +kernel
theorem dX0_ask_115 : decode cX0_ask 115 = .ok (.iadd, 1) := by decide +kernel
theorem dX0_ask_116 : decode cX0_ask 116 = .ok (.iastore, 1) := by decide +kernel
theorem dX0_ask_117 : decode cX0_ask 117 = .ok (.goto (-88), 3) := by decide +kernel
theorem dX0_ask_120 : decode cX0_ask 120 = .ok (.iinc 3 1, 3) := by decide +kernel
theorem dX0_ask_123 : decode cX0_ask 123 = .ok (.goto (-113), 3) := by decide +kernel
theorem dX0_ask_126 : decode cX0_ask 126 = .ok (.return_, 1) := by decide +kernel
abbrev cX0_other : ByteArray := prog_1_method_12_code
def yX0_other : MethodName := ⟨RX0, "other", "(I)I"⟩
theorem dX0_other_0 : decode cX0_other 0 = .ok (.aload_n 0, 1) := by decide +kernel
theorem dX0_other_1 : decode cX0_other 1 = .ok (.aload_n 0, 1) := by decide +kernel
theorem dX0_other_2 : decode cX0_other 2 = .ok (.getfield 17, 3) := by decide +kernel
theorem dX0_other_5 : decode cX0_other 5 = .ok (.aload_n 0, 1) := by decide +kernel
theorem dX0_other_6 : decode cX0_other 6 = .ok (.getfield 20, 3) := by decide +kernel
theorem dX0_other_9 : decode cX0_other 9 = .ok (.invokevirtual 70, 3) := by decide +kernel
theorem dX0_other_12 : decode cX0_other 12 = .ok (.aload_n 0, 1) := by decide +kernel
theorem dX0_other_13 : decode cX0_other 13 = .ok (.getfield 17, 3) := by decide +kernel
theorem dX0_other_16 : decode cX0_other 16 = .ok (.bipush 6, 2) := by decide +kernel
theorem dX0_other_18 : decode cX0_other 18 = .ok (.aload_n 0, 1) := by decide +kernel
theorem dX0_other_19 : decode cX0_other 19 = .ok (.iload_n 1, 1) := by decide +kernel
theorem dX0_other_20 : decode cX0_other 20 = .ok (.invokevirtual 56, 3) := by decide +kernel
theorem dX0_other_23 : decode cX0_other 23 = .ok (.imul, 1) := by decide +kernel
theorem dX0_other_24 : decode cX0_other 24 = .ok (.aload_n 0, 1) := by decide +kernel
theorem dX0_other_25 : decode cX0_other 25 = .ok (.getfield 29, 3) := by decide +kernel
theorem dX0_other_28 : decode cX0_other 28 = .ok (.aload_n 0, 1) := by decide +kernel
theorem dX0_other_29 : decode cX0_other 29 = .ok (.iload_n 1, 1) := by decide +kernel
theorem dX0_other_30 : decode cX0_other 30 = .ok (.invokevirtual 56, 3) := by decide +kernel
theorem dX0_other_33 : decode cX0_other 33 = .ok (.iaload, 1) := by decide +kernel
theorem dX0_other_34 : decode cX0_other 34 = .ok (.iadd, 1) := by decide +kernel
theorem dX0_other_35 : decode cX0_other 35 = .ok (.iaload, 1) := by decide +kernel
theorem dX0_other_36 : decode cX0_other 36 = .ok (.ireturn, 1) := by decide +kernel
abbrev cX0_steadyOnes : ByteArray := prog_1_method_17_code
def yX0_steadyOnes : MethodName := ⟨RX0, "steadyOnes", "()I"⟩
theorem dX0_steadyOnes_0 : decode cX0_steadyOnes 0 = .ok (.aload_n 0, 1) := by decide +kernel
theorem dX0_steadyOnes_1 : decode cX0_steadyOnes 1 = .ok (.getfield 35, 3) := by decide +kernel
theorem dX0_steadyOnes_4 : decode cX0_steadyOnes 4 = .ok (.iconst 0, 1) := by decide +kernel
theorem dX0_steadyOnes_5 : decode cX0_steadyOnes 5 = .ok (.invokestatic 80, 3) := by decide +kernel
theorem dX0_steadyOnes_8 : decode cX0_steadyOnes 8 = .ok (.aload_n 0, 1) := by decide +kernel
theorem dX0_steadyOnes_9 : decode cX0_steadyOnes 9 = .ok (.iconst 0, 1) := by decide +kernel
theorem dX0_steadyOnes_10 : decode cX0_steadyOnes 10 = .ok (.putfield 77, 3) := by decide +kernel
theorem dX0_steadyOnes_13 : decode cX0_steadyOnes 13 = .ok (.aload_n 0, 1) := by decide +kernel
theorem dX0_steadyOnes_14 : decode cX0_steadyOnes 14 = .ok (.aload_n 0, 1) := by decide +kernel
theorem dX0_steadyOnes_15 : decode cX0_steadyOnes 15 = .ok (.getfield 13, 3) := by decide +kernel
theorem dX0_steadyOnes_18 : decode cX0_steadyOnes 18 = .ok (.aload_n 0, 1) := by decide +kernel
theorem dX0_steadyOnes_19 : decode cX0_steadyOnes 19 = .ok (.getfield 23, 3) := by decide +kernel
theorem dX0_steadyOnes_22 : decode cX0_steadyOnes 22 = .ok (.invokevirtual 70, 3) := by decide +kernel
theorem dX0_steadyOnes_25 : decode cX0_steadyOnes 25 = .ok (.aload_n 0, 1) := by decide +kernel
theorem dX0_steadyOnes_26 : decode cX0_steadyOnes 26 = .ok (.invokevirtual 83, 3) := by decide +kernel
theorem dX0_steadyOnes_29 : decode cX0_steadyOnes 29 = .ok (.iconst 0, 1) := by decide +kernel
theorem dX0_steadyOnes_30 : decode cX0_steadyOnes 30 = .ok (.istore_n 1, 1) := by decide +kernel
theorem dX0_steadyOnes_31 : decode cX0_steadyOnes 31 = .ok (.iload_n 1, 1) := by decide +kernel
theorem dX0_steadyOnes_32 : decode cX0_steadyOnes 32 = .ok (.aload_n 0, 1) := by decide +kernel
theorem dX0_steadyOnes_33 : decode cX0_steadyOnes 33 = .ok (.getfield 77, 3) := by decide +kernel
theorem dX0_steadyOnes_36 : decode cX0_steadyOnes 36 = .ok (.if_icmp .ge 47, 3) := by decide +kernel
theorem dX0_steadyOnes_39 : decode cX0_steadyOnes 39 = .ok (.iconst 0, 1) := by decide +kernel
theorem dX0_steadyOnes_40 : decode cX0_steadyOnes 40 = .ok (.istore_n 2, 1) := by decide +kernel
theorem dX0_steadyOnes_41 : decode cX0_steadyOnes 41 = .ok (.iload_n 2, 1) := by decide +kernel
theorem dX0_steadyOnes_42 : decode cX0_steadyOnes 42 = .ok (.aload_n 0, 1) := by decide +kernel
theorem dX0_steadyOnes_43 : decode cX0_steadyOnes 43 = .ok (.getfield 7, 3) := by decide +kernel
theorem dX0_steadyOnes_46 : decode cX0_steadyOnes 46 = .ok (.if_icmp .ge 31, 3) := by decide +kernel
theorem dX0_steadyOnes_49 : decode cX0_steadyOnes 49 = .ok (.aload_n 0, 1) := by decide +kernel
theorem dX0_steadyOnes_50 : decode cX0_steadyOnes 50 = .ok (.aload_n 0, 1) := by decide +kernel
theorem dX0_steadyOnes_51 : decode cX0_steadyOnes 51 = .ok (.getfield 39, 3) := by decide +kernel
theorem dX0_steadyOnes_54 : decode cX0_steadyOnes 54 = .ok (.iload_n 1, 1) := by decide +kernel
theorem dX0_steadyOnes_55 : decode cX0_steadyOnes 55 = .ok (.iaload, 1) := by decide +kernel
theorem dX0_steadyOnes_56 : decode cX0_steadyOnes 56 = .ok (.invokevirtual 86, 3) := by decide +kernel
theorem dX0_steadyOnes_59 : decode cX0_steadyOnes 59 = .ok (.aload_n 0, 1) := by decide +kernel
theorem dX0_steadyOnes_60 : decode cX0_steadyOnes 60 = .ok (.iload_n 2, 1) := by decide +kernel
theorem dX0_steadyOnes_61 : decode cX0_steadyOnes 61 = .ok (.invokevirtual 89, 3) := by decide +kernel
theorem dX0_steadyOnes_64 : decode cX0_steadyOnes 64 = .ok (.ifCond .eq 7, 3) := by decide +kernel
theorem dX0_steadyOnes_67 : decode cX0_steadyOnes 67 = .ok (.aload_n 0, 1) := by decide +kernel
theorem dX0_steadyOnes_68 : decode cX0_steadyOnes 68 = .ok (.invokevirtual 83, 3) := by decide +kernel
theorem dX0_steadyOnes_71 : decode cX0_steadyOnes 71 = .ok (.iinc 2 1, 3) := by decide +kernel
theorem dX0_steadyOnes_74 : decode cX0_steadyOnes 74 = .ok (.goto (-33), 3) := by decide +kernel
theorem dX0_steadyOnes_77 : decode cX0_steadyOnes 77 = .ok (.iinc 1 1, 3) := by decide +kernel
theorem dX0_steadyOnes_80 : decode cX0_steadyOnes 80 = .ok (.goto (-49), 3) := by decide +kernel
theorem dX0_steadyOnes_83 : decode cX0_steadyOnes 83 = .ok (.aload_n 0, 1) := by decide +kernel
theorem dX0_steadyOnes_84 : decode cX0_steadyOnes 84 = .ok (.getfield 77, 3) := by decide +kernel
theorem dX0_steadyOnes_87 : decode cX0_steadyOnes 87 = .ok (.ireturn, 1) := by decide +kernel
abbrev cX0_meet : ByteArray := prog_1_method_14_code
def yX0_meet : MethodName := ⟨RX0, "meet", "()V"⟩
theorem dX0_meet_0 : decode cX0_meet 0 = .ok (.aload_n 0, 1) := by decide +kernel
theorem dX0_meet_1 : decode cX0_meet 1 = .ok (.invokevirtual 74, 3) := by decide +kernel
theorem dX0_meet_4 : decode cX0_meet 4 = .ok (.istore_n 1, 1) := by decide +kernel
theorem dX0_meet_5 : decode cX0_meet 5 = .ok (.aload_n 0, 1) := by decide +kernel
theorem dX0_meet_6 : decode cX0_meet 6 = .ok (.getfield 35, 3) := by decide +kernel
theorem dX0_meet_9 : decode cX0_meet 9 = .ok (.iload_n 1, 1) := by decide +kernel
theorem dX0_meet_10 : decode cX0_meet 10 = .ok (.baload, 1) := by decide +kernel
theorem dX0_meet_11 : decode cX0_meet 11 = .ok (.ifCond .eq 4, 3) := by decide +kernel
theorem dX0_meet_14 : decode cX0_meet 14 = .ok (.return_, 1) := by decide +kernel
theorem dX0_meet_15 : decode cX0_meet 15 = .ok (.aload_n 0, 1) := by decide +kernel
theorem dX0_meet_16 : decode cX0_meet 16 = .ok (.getfield 35, 3) := by decide +kernel
theorem dX0_meet_19 : decode cX0_meet 19 = .ok (.iload_n 1, 1) := by decide +kernel
theorem dX0_meet_20 : decode cX0_meet 20 = .ok (.iconst 1, 1) := by decide +kernel
theorem dX0_meet_21 : decode cX0_meet 21 = .ok (.bastore, 1) := by decide +kernel
theorem dX0_meet_22 : decode cX0_meet 22 = .ok (.aload_n 0, 1) := by decide +kernel
theorem dX0_meet_23 : decode cX0_meet 23 = .ok (.getfield 39, 3) := by decide +kernel
theorem dX0_meet_26 : decode cX0_meet 26 = .ok (.aload_n 0, 1) := by decide +kernel
theorem dX0_meet_27 : decode cX0_meet 27 = .ok (.getfield 77, 3) := by decide +kernel
theorem dX0_meet_30 : decode cX0_meet 30 = .ok (.iload_n 1, 1) := by decide +kernel
theorem dX0_meet_31 : decode cX0_meet 31 = .ok (.iastore, 1) := by decide +kernel
theorem dX0_meet_32 : decode cX0_meet 32 = .ok (.aload_n 0, 1) := by decide +kernel
theorem dX0_meet_33 : decode cX0_meet 33 = .ok (.dup, 1) := by decide +kernel
theorem dX0_meet_34 : decode cX0_meet 34 = .ok (.getfield 77, 3) := by decide +kernel
theorem dX0_meet_37 : decode cX0_meet 37 = .ok (.iconst 1, 1) := by decide +kernel
theorem dX0_meet_38 : decode cX0_meet 38 = .ok (.iadd, 1) := by decide +kernel
theorem dX0_meet_39 : decode cX0_meet 39 = .ok (.putfield 77, 3) := by decide +kernel
theorem dX0_meet_42 : decode cX0_meet 42 = .ok (.return_, 1) := by decide +kernel
abbrev cX0_number : ByteArray := prog_1_method_13_code
def yX0_number : MethodName := ⟨RX0, "number", "()I"⟩
theorem dX0_number_0 : decode cX0_number 0 = .ok (.iconst 0, 1) := by decide +kernel
theorem dX0_number_1 : decode cX0_number 1 = .ok (.istore_n 1, 1) := by decide +kernel
theorem dX0_number_2 : decode cX0_number 2 = .ok (.iconst 1, 1) := by decide +kernel
theorem dX0_number_3 : decode cX0_number 3 = .ok (.istore_n 2, 1) := by decide +kernel
theorem dX0_number_4 : decode cX0_number 4 = .ok (.iconst 0, 1) := by decide +kernel
theorem dX0_number_5 : decode cX0_number 5 = .ok (.istore_n 3, 1) := by decide +kernel
theorem dX0_number_6 : decode cX0_number 6 = .ok (.iconst 0, 1) := by decide +kernel
theorem dX0_number_7 : decode cX0_number 7 = .ok (.istore 4, 2) := by decide +kernel
theorem dX0_number_9 : decode cX0_number 9 = .ok (.iload 4, 2) := by decide +kernel
theorem dX0_number_11 : decode cX0_number 11 = .ok (.aload_n 0, 1) := by decide +kernel
theorem dX0_number_12 : decode cX0_number 12 = .ok (.getfield 7, 3) := by decide +kernel
theorem dX0_number_15 : decode cX0_number 15 = .ok (.if_icmp .ge 84, 3) := by decide +kernel
theorem dX0_number_18 : decode cX0_number 18 = .ok (.aload_n 0, 1) := by decide +kernel
theorem dX0_number_19 : decode cX0_number 19 = .ok (.getfield 13, 3) := by decide +kernel
theorem dX0_number_22 : decode cX0_number 22 = .ok (.bipush 6, 2) := by decide +kernel
theorem dX0_number_24 : decode cX0_number 24 = .ok (.iload 4, 2) := by decide +kernel
theorem dX0_number_26 : decode cX0_number 26 = .ok (.imul, 1) := by decide +kernel
theorem dX0_number_27 : decode cX0_number 27 = .ok (.aload_n 0, 1) := by decide +kernel
theorem dX0_number_28 : decode cX0_number 28 = .ok (.getfield 29, 3) := by decide +kernel
theorem dX0_number_31 : decode cX0_number 31 = .ok (.iload 4, 2) := by decide +kernel
theorem dX0_number_33 : decode cX0_number 33 = .ok (.iaload, 1) := by decide +kernel
theorem dX0_number_34 : decode cX0_number 34 = .ok (.iadd, 1) := by decide +kernel
theorem dX0_number_35 : decode cX0_number 35 = .ok (.iaload, 1) := by decide +kernel
theorem dX0_number_36 : decode cX0_number 36 = .ok (.istore 5, 2) := by decide +kernel
theorem dX0_number_38 : decode cX0_number 38 = .ok (.iconst 0, 1) := by decide +kernel
theorem dX0_number_39 : decode cX0_number 39 = .ok (.istore 6, 2) := by decide +kernel
theorem dX0_number_41 : decode cX0_number 41 = .ok (.iconst 0, 1) := by decide +kernel
theorem dX0_number_42 : decode cX0_number 42 = .ok (.istore 7, 2) := by decide +kernel
theorem dX0_number_44 : decode cX0_number 44 = .ok (.iload 7, 2) := by decide +kernel
theorem dX0_number_46 : decode cX0_number 46 = .ok (.iload 5, 2) := by decide +kernel
theorem dX0_number_48 : decode cX0_number 48 = .ok (.if_icmp .ge 21, 3) := by decide +kernel
theorem dX0_number_51 : decode cX0_number 51 = .ok (.iload_n 3, 1) := by decide +kernel
theorem dX0_number_52 : decode cX0_number 52 = .ok (.iload 7, 2) := by decide +kernel
theorem dX0_number_54 : decode cX0_number 54 = .ok (.ishr, 1) := by decide +kernel
theorem dX0_number_55 : decode cX0_number 55 = .ok (.iconst 1, 1) := by decide +kernel
theorem dX0_number_56 : decode cX0_number 56 = .ok (.iand, 1) := by decide +kernel
theorem dX0_number_57 : decode cX0_number 57 = .ok (.ifCond .ne 6, 3) := by decide +kernel
theorem dX0_number_60 : decode cX0_number 60 = .ok (.iinc 6 1, 3) := by decide +kernel
theorem dX0_number_63 : decode cX0_number 63 = .ok (.iinc 7 1, 3) := by decide +kernel
theorem dX0_number_66 : decode cX0_number 66 = .ok (.goto (-22), 3) := by decide +kernel
theorem dX0_number_69 : decode cX0_number 69 = .ok (.iload_n 3, 1) := by decide +kernel
theorem dX0_number_70 : decode cX0_number 70 = .ok (.iconst 1, 1) := by decide +kernel
theorem dX0_number_71 : decode cX0_number 71 = .ok (.iload 5, 2) := by decide +kernel
theorem dX0_number_73 : decode cX0_number 73 = .ok (.ishl, 1) := by decide +kernel
theorem dX0_number_74 : decode cX0_number 74 = .ok (.ior, 1) := by decide +kernel
theorem dX0_number_75 : decode cX0_number 75 = .ok (.istore_n 3, 1) := by decide +kernel
theorem dX0_number_76 : decode cX0_number 76 = .ok (.iload_n 1, 1) := by decide +kernel
theorem dX0_number_77 : decode cX0_number 77 = .ok (.iload 6, 2) := by decide +kernel
theorem dX0_number_79 : decode cX0_number 79 = .ok (.iload_n 2, 1) := by decide +kernel
theorem dX0_number_80 : decode cX0_number 80 = .ok (.imul, 1) := by decide +kernel
theorem dX0_number_81 : decode cX0_number 81 = .ok (.iadd, 1) := by decide +kernel
theorem dX0_number_82 : decode cX0_number 82 = .ok (.istore_n 1, 1) := by decide +kernel
theorem dX0_number_83 : decode cX0_number 83 = .ok (.iload_n 2, 1) := by decide +kernel
theorem dX0_number_84 : decode cX0_number 84 = .ok (.aload_n 0, 1) := by decide +kernel
theorem dX0_number_85 : decode cX0_number 85 = .ok (.getfield 7, 3) := by decide +kernel
theorem dX0_number_88 : decode cX0_number 88 = .ok (.iload 4, 2) := by decide +kernel
theorem dX0_number_90 : decode cX0_number 90 = .ok (.isub, 1) := by decide +kernel
theorem dX0_number_91 : decode cX0_number 91 = .ok (.imul, 1) := by decide +kernel
theorem dX0_number_92 : decode cX0_number 92 = .ok (.istore_n 2, 1) := by decide +kernel
theorem dX0_number_93 : decode cX0_number 93 = .ok (.iinc 4 1, 3) := by decide +kernel
theorem dX0_number_96 : decode cX0_number 96 = .ok (.goto (-87), 3) := by decide +kernel
theorem dX0_number_99 : decode cX0_number 99 = .ok (.iload_n 1, 1) := by decide +kernel
theorem dX0_number_100 : decode cX0_number 100 = .ok (.ireturn, 1) := by decide +kernel
abbrev cX0_back : ByteArray := prog_1_method_15_code
def yX0_back : MethodName := ⟨RX0, "back", "(I)V"⟩
theorem dX0_back_0 : decode cX0_back 0 = .ok (.aload_n 0, 1) := by decide +kernel
theorem dX0_back_1 : decode cX0_back 1 = .ok (.iload_n 1, 1) := by decide +kernel
theorem dX0_back_2 : decode cX0_back 2 = .ok (.invokevirtual 49, 3) := by decide +kernel
theorem dX0_back_5 : decode cX0_back 5 = .ok (.iconst 0, 1) := by decide +kernel
theorem dX0_back_6 : decode cX0_back 6 = .ok (.istore_n 2, 1) := by decide +kernel
theorem dX0_back_7 : decode cX0_back 7 = .ok (.iload_n 2, 1) := by decide +kernel
theorem dX0_back_8 : decode cX0_back 8 = .ok (.aload_n 0, 1) := by decide +kernel
theorem dX0_back_9 : decode cX0_back 9 = .ok (.getfield 7, 3) := by decide +kernel
theorem dX0_back_12 : decode cX0_back 12 = .ok (.if_icmp .ge 43, 3) := by decide +kernel
theorem dX0_back_15 : decode cX0_back 15 = .ok (.aload_n 0, 1) := by decide +kernel
theorem dX0_back_16 : decode cX0_back 16 = .ok (.getfield 29, 3) := by decide +kernel
theorem dX0_back_19 : decode cX0_back 19 = .ok (.iload_n 2, 1) := by decide +kernel
theorem dX0_back_20 : decode cX0_back 20 = .ok (.aload_n 0, 1) := by decide +kernel
theorem dX0_back_21 : decode cX0_back 21 = .ok (.getfield 20, 3) := by decide +kernel
theorem dX0_back_24 : decode cX0_back 24 = .ok (.bipush 6, 2) := by decide +kernel
theorem dX0_back_26 : decode cX0_back 26 = .ok (.iload_n 2, 1) := by decide +kernel
theorem dX0_back_27 : decode cX0_back 27 = .ok (.imul, 1) := by decide +kernel
theorem dX0_back_28 : decode cX0_back 28 = .ok (.aload_n 0, 1) := by decide +kernel
theorem dX0_back_29 : decode cX0_back 29 = .ok (.getfield 26, 3) := by decide +kernel
theorem dX0_back_32 : decode cX0_back 32 = .ok (.iload_n 2, 1) := by decide +kernel
theorem dX0_back_33 : decode cX0_back 33 = .ok (.iaload, 1) := by decide +kernel
theorem dX0_back_34 : decode cX0_back 34 = .ok (.iadd, 1) := by decide +kernel
theorem dX0_back_35 : decode cX0_back 35 = .ok (.iaload, 1) := by decide +kernel
theorem dX0_back_36 : decode cX0_back 36 = .ok (.iastore, 1) := by decide +kernel
theorem dX0_back_37 : decode cX0_back 37 = .ok (.aload_n 0, 1) := by decide +kernel
theorem dX0_back_38 : decode cX0_back 38 = .ok (.getfield 32, 3) := by decide +kernel
theorem dX0_back_41 : decode cX0_back 41 = .ok (.aload_n 0, 1) := by decide +kernel
theorem dX0_back_42 : decode cX0_back 42 = .ok (.getfield 26, 3) := by decide +kernel
theorem dX0_back_45 : decode cX0_back 45 = .ok (.iload_n 2, 1) := by decide +kernel
theorem dX0_back_46 : decode cX0_back 46 = .ok (.iaload, 1) := by decide +kernel
theorem dX0_back_47 : decode cX0_back 47 = .ok (.iload_n 2, 1) := by decide +kernel
theorem dX0_back_48 : decode cX0_back 48 = .ok (.iastore, 1) := by decide +kernel
theorem dX0_back_49 : decode cX0_back 49 = .ok (.iinc 2 1, 3) := by decide +kernel
theorem dX0_back_52 : decode cX0_back 52 = .ok (.goto (-45), 3) := by decide +kernel
theorem dX0_back_55 : decode cX0_back 55 = .ok (.return_, 1) := by decide +kernel
abbrev cX0_part : ByteArray := prog_1_method_16_code
def yX0_part : MethodName := ⟨RX0, "part", "(I)Z"⟩
theorem dX0_part_0 : decode cX0_part 0 = .ok (.aload_n 0, 1) := by decide +kernel
theorem dX0_part_1 : decode cX0_part 1 = .ok (.getfield 13, 3) := by decide +kernel
theorem dX0_part_4 : decode cX0_part 4 = .ok (.bipush 6, 2) := by decide +kernel
theorem dX0_part_6 : decode cX0_part 6 = .ok (.iload_n 1, 1) := by decide +kernel
theorem dX0_part_7 : decode cX0_part 7 = .ok (.imul, 1) := by decide +kernel
theorem dX0_part_8 : decode cX0_part 8 = .ok (.aload_n 0, 1) := by decide +kernel
theorem dX0_part_9 : decode cX0_part 9 = .ok (.getfield 29, 3) := by decide +kernel
theorem dX0_part_12 : decode cX0_part 12 = .ok (.iload_n 1, 1) := by decide +kernel
theorem dX0_part_13 : decode cX0_part 13 = .ok (.iaload, 1) := by decide +kernel
theorem dX0_part_14 : decode cX0_part 14 = .ok (.iadd, 1) := by decide +kernel
theorem dX0_part_15 : decode cX0_part 15 = .ok (.iaload, 1) := by decide +kernel
theorem dX0_part_16 : decode cX0_part 16 = .ok (.istore_n 2, 1) := by decide +kernel
theorem dX0_part_17 : decode cX0_part 17 = .ok (.iload_n 1, 1) := by decide +kernel
theorem dX0_part_18 : decode cX0_part 18 = .ok (.istore_n 3, 1) := by decide +kernel
theorem dX0_part_19 : decode cX0_part 19 = .ok (.aload_n 0, 1) := by decide +kernel
theorem dX0_part_20 : decode cX0_part 20 = .ok (.getfield 29, 3) := by decide +kernel
theorem dX0_part_23 : decode cX0_part 23 = .ok (.iload_n 3, 1) := by decide +kernel
theorem dX0_part_24 : decode cX0_part 24 = .ok (.dup2, 1) := by decide +kernel
theorem dX0_part_25 : decode cX0_part 25 = .ok (.iaload, 1) := by decide +kernel
theorem dX0_part_26 : decode cX0_part 26 = .ok (.iconst 1, 1) := by decide +kernel
theorem dX0_part_27 : decode cX0_part 27 = .ok (.iadd, 1) := by decide +kernel
theorem dX0_part_28 : decode cX0_part 28 = .ok (.iastore, 1) := by decide +kernel
theorem dX0_part_29 : decode cX0_part 29 = .ok (.aload_n 0, 1) := by decide +kernel
theorem dX0_part_30 : decode cX0_part 30 = .ok (.getfield 29, 3) := by decide +kernel
theorem dX0_part_33 : decode cX0_part 33 = .ok (.iload_n 3, 1) := by decide +kernel
theorem dX0_part_34 : decode cX0_part 34 = .ok (.iaload, 1) := by decide +kernel
theorem dX0_part_35 : decode cX0_part 35 = .ok (.aload_n 0, 1) := by decide +kernel
theorem dX0_part_36 : decode cX0_part 36 = .ok (.getfield 7, 3) := by decide +kernel
theorem dX0_part_39 : decode cX0_part 39 = .ok (.if_icmp .ne 5, 3) := by decide +kernel
theorem dX0_part_42 : decode cX0_part 42 = .ok (.iconst 0, 1) := by decide +kernel
theorem dX0_part_43 : decode cX0_part 43 = .ok (.ireturn, 1) := by decide +kernel
theorem dX0_part_44 : decode cX0_part 44 = .ok (.aload_n 0, 1) := by decide +kernel
theorem dX0_part_45 : decode cX0_part 45 = .ok (.getfield 13, 3) := by decide +kernel
theorem dX0_part_48 : decode cX0_part 48 = .ok (.bipush 6, 2) := by decide +kernel
theorem dX0_part_50 : decode cX0_part 50 = .ok (.iload_n 3, 1) := by decide +kernel
theorem dX0_part_51 : decode cX0_part 51 = .ok (.imul, 1) := by decide +kernel
theorem dX0_part_52 : decode cX0_part 52 = .ok (.aload_n 0, 1) := by decide +kernel
theorem dX0_part_53 : decode cX0_part 53 = .ok (.getfield 29, 3) := by decide +kernel
theorem dX0_part_56 : decode cX0_part 56 = .ok (.iload_n 3, 1) := by decide +kernel
theorem dX0_part_57 : decode cX0_part 57 = .ok (.iaload, 1) := by decide +kernel
theorem dX0_part_58 : decode cX0_part 58 = .ok (.iadd, 1) := by decide +kernel
theorem dX0_part_59 : decode cX0_part 59 = .ok (.iaload, 1) := by decide +kernel
theorem dX0_part_60 : decode cX0_part 60 = .ok (.istore 4, 2) := by decide +kernel
theorem dX0_part_62 : decode cX0_part 62 = .ok (.aload_n 0, 1) := by decide +kernel
theorem dX0_part_63 : decode cX0_part 63 = .ok (.getfield 32, 3) := by decide +kernel
theorem dX0_part_66 : decode cX0_part 66 = .ok (.iload 4, 2) := by decide +kernel
theorem dX0_part_68 : decode cX0_part 68 = .ok (.iaload, 1) := by decide +kernel
theorem dX0_part_69 : decode cX0_part 69 = .ok (.istore 5, 2) := by decide +kernel
theorem dX0_part_71 : decode cX0_part 71 = .ok (.aload_n 0, 1) := by decide +kernel
theorem dX0_part_72 : decode cX0_part 72 = .ok (.getfield 23, 3) := by decide +kernel
theorem dX0_part_75 : decode cX0_part 75 = .ok (.bipush 6, 2) := by decide +kernel
theorem dX0_part_77 : decode cX0_part 77 = .ok (.iload 4, 2) := by decide +kernel
theorem dX0_part_79 : decode cX0_part 79 = .ok (.imul, 1) := by decide +kernel
theorem dX0_part_80 : decode cX0_part 80 = .ok (.iload_n 3, 1) := by decide +kernel
theorem dX0_part_81 : decode cX0_part 81 = .ok (.iadd, 1) := by decide +kernel
theorem dX0_part_82 : decode cX0_part 82 = .ok (.iaload, 1) := by decide +kernel
theorem dX0_part_83 : decode cX0_part 83 = .ok (.aload_n 0, 1) := by decide +kernel
theorem dX0_part_84 : decode cX0_part 84 = .ok (.getfield 23, 3) := by decide +kernel
theorem dX0_part_87 : decode cX0_part 87 = .ok (.bipush 6, 2) := by decide +kernel
theorem dX0_part_89 : decode cX0_part 89 = .ok (.iload 4, 2) := by decide +kernel
theorem dX0_part_91 : decode cX0_part 91 = .ok (.imul, 1) := by decide +kernel
theorem dX0_part_92 : decode cX0_part 92 = .ok (.iload 5, 2) := by decide +kernel
theorem dX0_part_94 : decode cX0_part 94 = .ok (.iadd, 1) := by decide +kernel
theorem dX0_part_95 : decode cX0_part 95 = .ok (.iaload, 1) := by decide +kernel
theorem dX0_part_96 : decode cX0_part 96 = .ok (.if_icmp .le 6, 3) := by decide +kernel
theorem dX0_part_99 : decode cX0_part 99 = .ok (.goto (-80), 3) := by decide +kernel
theorem dX0_part_102 : decode cX0_part 102 = .ok (.aload_n 0, 1) := by decide +kernel
theorem dX0_part_103 : decode cX0_part 103 = .ok (.getfield 32, 3) := by decide +kernel
theorem dX0_part_106 : decode cX0_part 106 = .ok (.iload 4, 2) := by decide +kernel
theorem dX0_part_108 : decode cX0_part 108 = .ok (.iload_n 3, 1) := by decide +kernel
theorem dX0_part_109 : decode cX0_part 109 = .ok (.iastore, 1) := by decide +kernel
theorem dX0_part_110 : decode cX0_part 110 = .ok (.iload 4, 2) := by decide +kernel
theorem dX0_part_112 : decode cX0_part 112 = .ok (.iload_n 2, 1) := by decide +kernel
theorem dX0_part_113 : decode cX0_part 113 = .ok (.if_icmp .ne 5, 3) := by decide +kernel
theorem dX0_part_116 : decode cX0_part 116 = .ok (.iconst 1, 1) := by decide +kernel
theorem dX0_part_117 : decode cX0_part 117 = .ok (.ireturn, 1) := by decide +kernel
theorem dX0_part_118 : decode cX0_part 118 = .ok (.iload 5, 2) := by decide +kernel
theorem dX0_part_120 : decode cX0_part 120 = .ok (.istore_n 3, 1) := by decide +kernel
theorem dX0_part_121 : decode cX0_part 121 = .ok (.goto (-102), 3) := by decide +kernel
abbrev cX0_steady : ByteArray := prog_1_method_18_code
def yX0_steady : MethodName := ⟨RX0, "steady", "(I)Z"⟩
theorem dX0_steady_0 : decode cX0_steady 0 = .ok (.aload_n 0, 1) := by decide +kernel
theorem dX0_steady_1 : decode cX0_steady 1 = .ok (.iload_n 1, 1) := by decide +kernel
theorem dX0_steady_2 : decode cX0_steady 2 = .ok (.ldc 55, 2) := by decide +kernel
theorem dX0_steady_4 : decode cX0_steady 4 = .ok (.iand, 1) := by decide +kernel
theorem dX0_steady_5 : decode cX0_steady 5 = .ok (.aload_n 0, 1) := by decide +kernel
theorem dX0_steady_6 : decode cX0_steady 6 = .ok (.invokevirtual 60, 3) := by decide +kernel
theorem dX0_steady_9 : decode cX0_steady 9 = .ok (.irem, 1) := by decide +kernel
theorem dX0_steady_10 : decode cX0_steady 10 = .ok (.invokevirtual 86, 3) := by decide +kernel
theorem dX0_steady_13 : decode cX0_steady 13 = .ok (.iconst 0, 1) := by decide +kernel
theorem dX0_steady_14 : decode cX0_steady 14 = .ok (.istore_n 2, 1) := by decide +kernel
theorem dX0_steady_15 : decode cX0_steady 15 = .ok (.iload_n 2, 1) := by decide +kernel
theorem dX0_steady_16 : decode cX0_steady 16 = .ok (.aload_n 0, 1) := by decide +kernel
theorem dX0_steady_17 : decode cX0_steady 17 = .ok (.getfield 7, 3) := by decide +kernel
theorem dX0_steady_20 : decode cX0_steady 20 = .ok (.if_icmp .ge 75, 3) := by decide +kernel
theorem dX0_steady_23 : decode cX0_steady 23 = .ok (.iconst 0, 1) := by decide +kernel
theorem dX0_steady_24 : decode cX0_steady 24 = .ok (.istore_n 3, 1) := by decide +kernel
theorem dX0_steady_25 : decode cX0_steady 25 = .ok (.iload_n 3, 1) := by decide +kernel
theorem dX0_steady_26 : decode cX0_steady 26 = .ok (.aload_n 0, 1) := by decide +kernel
theorem dX0_steady_27 : decode cX0_steady 27 = .ok (.getfield 29, 3) := by decide +kernel
theorem dX0_steady_30 : decode cX0_steady 30 = .ok (.iload_n 2, 1) := by decide +kernel
theorem dX0_steady_31 : decode cX0_steady 31 = .ok (.iaload, 1) := by decide +kernel
theorem dX0_steady_32 : decode cX0_steady 32 = .ok (.if_icmp .ge 57, 3) := by decide +kernel
theorem dX0_steady_35 : decode cX0_steady 35 = .ok (.aload_n 0, 1) := by decide +kernel
theorem dX0_steady_36 : decode cX0_steady 36 = .ok (.getfield 13, 3) := by decide +kernel
theorem dX0_steady_39 : decode cX0_steady 39 = .ok (.bipush 6, 2) := by decide +kernel
theorem dX0_steady_41 : decode cX0_steady 41 = .ok (.iload_n 2, 1) := by decide +kernel
theorem dX0_steady_42 : decode cX0_steady 42 = .ok (.imul, 1) := by decide +kernel
theorem dX0_steady_43 : decode cX0_steady 43 = .ok (.iload_n 3, 1) := by decide +kernel
theorem dX0_steady_44 : decode cX0_steady 44 = .ok (.iadd, 1) := by decide +kernel
theorem dX0_steady_45 : decode cX0_steady 45 = .ok (.iaload, 1) := by decide +kernel
theorem dX0_steady_46 : decode cX0_steady 46 = .ok (.istore 4, 2) := by decide +kernel
theorem dX0_steady_48 : decode cX0_steady 48 = .ok (.aload_n 0, 1) := by decide +kernel
theorem dX0_steady_49 : decode cX0_steady 49 = .ok (.getfield 23, 3) := by decide +kernel
theorem dX0_steady_52 : decode cX0_steady 52 = .ok (.bipush 6, 2) := by decide +kernel
theorem dX0_steady_54 : decode cX0_steady 54 = .ok (.iload 4, 2) := by decide +kernel
theorem dX0_steady_56 : decode cX0_steady 56 = .ok (.imul, 1) := by decide +kernel
theorem dX0_steady_57 : decode cX0_steady 57 = .ok (.iload_n 2, 1) := by decide +kernel
theorem dX0_steady_58 : decode cX0_steady 58 = .ok (.iadd, 1) := by decide +kernel
theorem dX0_steady_59 : decode cX0_steady 59 = .ok (.iaload, 1) := by decide +kernel
theorem dX0_steady_60 : decode cX0_steady 60 = .ok (.aload_n 0, 1) := by decide +kernel
theorem dX0_steady_61 : decode cX0_steady 61 = .ok (.getfield 23, 3) := by decide +kernel
theorem dX0_steady_64 : decode cX0_steady 64 = .ok (.bipush 6, 2) := by decide +kernel
theorem dX0_steady_66 : decode cX0_steady 66 = .ok (.iload 4, 2) := by decide +kernel
theorem dX0_steady_68 : decode cX0_steady 68 = .ok (.imul, 1) := by decide +kernel
theorem dX0_steady_69 : decode cX0_steady 69 = .ok (.aload_n 0, 1) := by decide +kernel
theorem dX0_steady_70 : decode cX0_steady 70 = .ok (.getfield 32, 3) := by decide +kernel
theorem dX0_steady_73 : decode cX0_steady 73 = .ok (.iload 4, 2) := by decide +kernel
theorem dX0_steady_75 : decode cX0_steady 75 = .ok (.iaload, 1) := by decide +kernel
theorem dX0_steady_76 : decode cX0_steady 76 = .ok (.iadd, 1) := by decide +kernel
theorem dX0_steady_77 : decode cX0_steady 77 = .ok (.iaload, 1) := by decide +kernel
theorem dX0_steady_78 : decode cX0_steady 78 = .ok (.if_icmp .ge 5, 3) := by decide +kernel
theorem dX0_steady_81 : decode cX0_steady 81 = .ok (.iconst 0, 1) := by decide +kernel
theorem dX0_steady_82 : decode cX0_steady 82 = .ok (.ireturn, 1) := by decide +kernel
theorem dX0_steady_83 : decode cX0_steady 83 = .ok (.iinc 3 1, 3) := by decide +kernel
theorem dX0_steady_86 : decode cX0_steady 86 = .ok (.goto (-61), 3) := by decide +kernel
theorem dX0_steady_89 : decode cX0_steady 89 = .ok (.iinc 2 1, 3) := by decide +kernel
theorem dX0_steady_92 : decode cX0_steady 92 = .ok (.goto (-77), 3) := by decide +kernel
theorem dX0_steady_95 : decode cX0_steady 95 = .ok (.iconst 1, 1) := by decide +kernel
theorem dX0_steady_96 : decode cX0_steady 96 = .ok (.ireturn, 1) := by decide +kernel
theorem q15 : (Jvm.Cond.initialized "SuitDesk") ∈ lw_all := lw_g (lw_at lw_m0 1 rfl) rfl
theorem q19 : (Jvm.Cond.instantiable "SuitDesk" (11 : Nat)) ∈ lw_all := lw_g (lw_at lw_m0 5 rfl) rfl
theorem q21 : (Jvm.Cond.instanceMethod ({ cls := "SuitDesk", name := "<init>", desc := "()V" } : Jvm.MethodName)) ∈ lw_all := lw_g (lw_at lw_m0 7 rfl) rfl
theorem q22 : (Jvm.Cond.code ({ cls := "SuitDesk", name := "<init>", desc := "()V" } : Jvm.MethodName) prog_1_method_1_code (1 : Nat) (Option.none : Option Jvm.ClassFile.FieldType)) ∈ lw_all := lw_g (lw_at lw_m0 8 rfl) rfl
theorem q23 : (Jvm.Cond.methodLink "SuitDesk" (1 : Nat) ({ cls := "java/lang/Object", name := "<init>", desc := "()V" } : Jvm.MethodName)) ∈ lw_all := lw_g (lw_at lw_m0 9 rfl) rfl
theorem q26 : (Jvm.Cond.methodLink "SuitDesk" (42 : Nat) ({ cls := "SuitDesk", name := "fresh", desc := "()V" } : Jvm.MethodName)) ∈ lw_all := lw_g (lw_at lw_m0 12 rfl) rfl
theorem q27 : (Jvm.Cond.privateMethod ({ cls := "SuitDesk", name := "fresh", desc := "()V" } : Jvm.MethodName)) ∈ lw_tbl := lw_at lw_m0 13 rfl
theorem q28 : (Jvm.Cond.instanceMethod ({ cls := "SuitDesk", name := "fresh", desc := "()V" } : Jvm.MethodName)) ∈ lw_all := lw_g (lw_at lw_m0 14 rfl) rfl
theorem q29 : (Jvm.Cond.code ({ cls := "SuitDesk", name := "fresh", desc := "()V" } : Jvm.MethodName) prog_1_method_2_code (2 : Nat) (Option.none : Option Jvm.ClassFile.FieldType)) ∈ lw_all := lw_g (lw_at lw_m0 15 rfl) rfl
theorem q30 : (Jvm.Cond.methodLink "SuitDesk" (45 : Nat) ({ cls := "SuitDesk", name := "take", desc := "([I[III)V" } : Jvm.MethodName)) ∈ lw_all := lw_g (lw_at lw_m0 16 rfl) rfl
theorem q31 : (Jvm.Cond.privateMethod ({ cls := "SuitDesk", name := "take", desc := "([I[III)V" } : Jvm.MethodName)) ∈ lw_tbl := lw_at lw_m0 17 rfl
theorem q32 : (Jvm.Cond.instanceMethod ({ cls := "SuitDesk", name := "take", desc := "([I[III)V" } : Jvm.MethodName)) ∈ lw_all := lw_g (lw_at lw_m0 18 rfl) rfl
theorem q33 : (Jvm.Cond.code ({ cls := "SuitDesk", name := "take", desc := "([I[III)V" } : Jvm.MethodName) prog_1_method_5_code (6 : Nat) (Option.none : Option Jvm.ClassFile.FieldType)) ∈ lw_all := lw_g (lw_at lw_m0 19 rfl) rfl
theorem q34 : (Jvm.Cond.methodLink "SuitDesk" (49 : Nat) ({ cls := "SuitDesk", name := "order", desc := "(I)V" } : Jvm.MethodName)) ∈ lw_all := lw_g (lw_at lw_m0 20 rfl) rfl
theorem q35 : (Jvm.Cond.privateMethod ({ cls := "SuitDesk", name := "order", desc := "(I)V" } : Jvm.MethodName)) ∈ lw_tbl := lw_at lw_m0 21 rfl
theorem q36 : (Jvm.Cond.instanceMethod ({ cls := "SuitDesk", name := "order", desc := "(I)V" } : Jvm.MethodName)) ∈ lw_all := lw_g (lw_at lw_m0 22 rfl) rfl
theorem q37 : (Jvm.Cond.code ({ cls := "SuitDesk", name := "order", desc := "(I)V" } : Jvm.MethodName) prog_1_method_4_code (7 : Nat) (Option.none : Option Jvm.ClassFile.FieldType)) ∈ lw_all := lw_g (lw_at lw_m0 23 rfl) rfl
theorem q38 : (Jvm.Cond.fieldLink "SuitDesk" (7 : Nat) "SuitDesk" "n" "I") ∈ lw_all := lw_g (lw_at lw_m0 24 rfl) rfl
theorem q39 : (Jvm.Cond.fieldLink "SuitDesk" (13 : Nat) "SuitDesk" "left" "[I") ∈ lw_all := lw_g (lw_at lw_m0 25 rfl) rfl
theorem q40 : (Jvm.Cond.fieldLink "SuitDesk" (17 : Nat) "SuitDesk" "right" "[I") ∈ lw_all := lw_g (lw_at lw_m0 26 rfl) rfl
theorem q41 : (Jvm.Cond.fieldLink "SuitDesk" (20 : Nat) "SuitDesk" "leftPlace" "[I") ∈ lw_all := lw_g (lw_at lw_m0 27 rfl) rfl
theorem q42 : (Jvm.Cond.fieldLink "SuitDesk" (23 : Nat) "SuitDesk" "rightPlace" "[I") ∈ lw_all := lw_g (lw_at lw_m0 28 rfl) rfl
theorem q43 : (Jvm.Cond.fieldLink "SuitDesk" (26 : Nat) "SuitDesk" "row" "[I") ∈ lw_all := lw_g (lw_at lw_m0 29 rfl) rfl
theorem q44 : (Jvm.Cond.fieldLink "SuitDesk" (29 : Nat) "SuitDesk" "far" "[I") ∈ lw_all := lw_g (lw_at lw_m0 30 rfl) rfl
theorem q45 : (Jvm.Cond.fieldLink "SuitDesk" (32 : Nat) "SuitDesk" "has" "[I") ∈ lw_all := lw_g (lw_at lw_m0 31 rfl) rfl
theorem q46 : (Jvm.Cond.fieldLink "SuitDesk" (35 : Nat) "SuitDesk" "met" "[Z") ∈ lw_all := lw_g (lw_at lw_m0 32 rfl) rfl
theorem q47 : (Jvm.Cond.fieldLink "SuitDesk" (39 : Nat) "SuitDesk" "waiting" "[I") ∈ lw_all := lw_g (lw_at lw_m0 33 rfl) rfl
theorem q48 : (Jvm.Cond.fieldLink "SuitDesk" (77 : Nat) "SuitDesk" "many" "I") ∈ lw_all := lw_g (lw_at lw_m0 34 rfl) rfl
theorem q49 : (Jvm.Cond.lays "SuitDesk" "SuitDesk" "n" "I") ∈ lw_all := lw_g (lw_at lw_m0 35 rfl) rfl
theorem q50 : (Jvm.Cond.soleField "SuitDesk" "n") ∈ lw_all := lw_g (lw_at lw_m0 36 rfl) rfl
theorem q51 : (Jvm.Cond.laysFinal "SuitDesk" "SuitDesk" "left" "[I") ∈ lw_all := lw_g (lw_at lw_m0 37 rfl) rfl
theorem q52 : (Jvm.Cond.soleField "SuitDesk" "left") ∈ lw_all := lw_g (lw_at lw_m0 38 rfl) rfl
theorem q53 : (Jvm.Cond.laysFinal "SuitDesk" "SuitDesk" "right" "[I") ∈ lw_all := lw_g (lw_at lw_m0 39 rfl) rfl
theorem q54 : (Jvm.Cond.soleField "SuitDesk" "right") ∈ lw_all := lw_g (lw_at lw_m0 40 rfl) rfl
theorem q55 : (Jvm.Cond.laysFinal "SuitDesk" "SuitDesk" "leftPlace" "[I") ∈ lw_all := lw_g (lw_at lw_m0 41 rfl) rfl
theorem q56 : (Jvm.Cond.soleField "SuitDesk" "leftPlace") ∈ lw_all := lw_g (lw_at lw_m0 42 rfl) rfl
theorem q57 : (Jvm.Cond.laysFinal "SuitDesk" "SuitDesk" "rightPlace" "[I") ∈ lw_all := lw_g (lw_at lw_m0 43 rfl) rfl
theorem q58 : (Jvm.Cond.soleField "SuitDesk" "rightPlace") ∈ lw_all := lw_g (lw_at lw_m0 44 rfl) rfl
theorem q59 : (Jvm.Cond.laysFinal "SuitDesk" "SuitDesk" "row" "[I") ∈ lw_all := lw_g (lw_at lw_m0 45 rfl) rfl
theorem q60 : (Jvm.Cond.soleField "SuitDesk" "row") ∈ lw_all := lw_g (lw_at lw_m0 46 rfl) rfl
theorem q61 : (Jvm.Cond.laysFinal "SuitDesk" "SuitDesk" "far" "[I") ∈ lw_all := lw_g (lw_at lw_m0 47 rfl) rfl
theorem q62 : (Jvm.Cond.soleField "SuitDesk" "far") ∈ lw_all := lw_g (lw_at lw_m0 48 rfl) rfl
theorem q63 : (Jvm.Cond.laysFinal "SuitDesk" "SuitDesk" "has" "[I") ∈ lw_all := lw_g (lw_at lw_m0 49 rfl) rfl
theorem q64 : (Jvm.Cond.soleField "SuitDesk" "has") ∈ lw_all := lw_g (lw_at lw_m0 50 rfl) rfl
theorem q65 : (Jvm.Cond.laysFinal "SuitDesk" "SuitDesk" "met" "[Z") ∈ lw_all := lw_g (lw_at lw_m0 51 rfl) rfl
theorem q66 : (Jvm.Cond.soleField "SuitDesk" "met") ∈ lw_all := lw_g (lw_at lw_m0 52 rfl) rfl
theorem q67 : (Jvm.Cond.laysFinal "SuitDesk" "SuitDesk" "waiting" "[I") ∈ lw_all := lw_g (lw_at lw_m0 53 rfl) rfl
theorem q68 : (Jvm.Cond.soleField "SuitDesk" "waiting") ∈ lw_all := lw_g (lw_at lw_m0 54 rfl) rfl
theorem q69 : (Jvm.Cond.lays "SuitDesk" "SuitDesk" "many" "I") ∈ lw_all := lw_g (lw_at lw_m0 55 rfl) rfl
theorem q70 : (Jvm.Cond.soleField "SuitDesk" "many") ∈ lw_all := lw_g (lw_at lw_m0 56 rfl) rfl
theorem q71 : (Jvm.Cond.superclass "SuitDesk" "java/lang/Object") ∈ lw_all := lw_g (lw_at lw_m0 57 rfl) rfl
theorem q75 : (Jvm.Cond.instanceMethod ({ cls := "SuitDesk", name := "size", desc := "(I)V" } : Jvm.MethodName)) ∈ lw_all := lw_g (lw_at lw_m0 61 rfl) rfl
theorem q76 : (Jvm.Cond.selects "SuitDesk" ({ cls := "SuitDesk", name := "size", desc := "(I)V" } : Jvm.MethodName) ({ cls := "SuitDesk", name := "size", desc := "(I)V" } : Jvm.MethodName)) ∈ lw_all := lw_g (lw_at lw_m0 62 rfl) rfl
theorem q77 : (Jvm.Cond.code ({ cls := "SuitDesk", name := "size", desc := "(I)V" } : Jvm.MethodName) prog_1_method_7_code (2 : Nat) (Option.none : Option Jvm.ClassFile.FieldType)) ∈ lw_all := lw_g (lw_at lw_m0 63 rfl) rfl
theorem q78 : (Jvm.Cond.constant "SuitDesk" (55 : Nat) (2147483647 : Int32)) ∈ lw_all := lw_g (lw_at lw_m0 64 rfl) rfl
theorem q80 : (Jvm.Cond.instanceMethod ({ cls := "SuitDesk", name := "left", desc := "(II)V" } : Jvm.MethodName)) ∈ lw_all := lw_g (lw_at lw_m0 66 rfl) rfl
theorem q81 : (Jvm.Cond.selects "SuitDesk" ({ cls := "SuitDesk", name := "left", desc := "(II)V" } : Jvm.MethodName) ({ cls := "SuitDesk", name := "left", desc := "(II)V" } : Jvm.MethodName)) ∈ lw_all := lw_g (lw_at lw_m0 67 rfl) rfl
theorem q82 : (Jvm.Cond.code ({ cls := "SuitDesk", name := "left", desc := "(II)V" } : Jvm.MethodName) prog_1_method_8_code (3 : Nat) (Option.none : Option Jvm.ClassFile.FieldType)) ∈ lw_all := lw_g (lw_at lw_m0 68 rfl) rfl
theorem q83 : (Jvm.Cond.methodLink "SuitDesk" (56 : Nat) ({ cls := "SuitDesk", name := "one", desc := "(I)I" } : Jvm.MethodName)) ∈ lw_all := lw_g (lw_at lw_m0 69 rfl) rfl
theorem q84 : (Jvm.Cond.privateMethod ({ cls := "SuitDesk", name := "one", desc := "(I)I" } : Jvm.MethodName)) ∈ lw_tbl := lw_at lw_m0 70 rfl
theorem q85 : (Jvm.Cond.instanceMethod ({ cls := "SuitDesk", name := "one", desc := "(I)I" } : Jvm.MethodName)) ∈ lw_all := lw_g (lw_at lw_m0 71 rfl) rfl
theorem q86 : (Jvm.Cond.code ({ cls := "SuitDesk", name := "one", desc := "(I)I" } : Jvm.MethodName) prog_1_method_6_code (2 : Nat) (Option.some Jvm.ClassFile.FieldType.int)) ∈ lw_all := lw_g (lw_at lw_m0 72 rfl) rfl
theorem q87 : (Jvm.Cond.methodLink "SuitDesk" (60 : Nat) ({ cls := "SuitDesk", name := "orders", desc := "()I" } : Jvm.MethodName)) ∈ lw_all := lw_g (lw_at lw_m0 73 rfl) rfl
theorem q88 : (Jvm.Cond.privateMethod ({ cls := "SuitDesk", name := "orders", desc := "()I" } : Jvm.MethodName)) ∈ lw_tbl := lw_at lw_m0 74 rfl
theorem q89 : (Jvm.Cond.instanceMethod ({ cls := "SuitDesk", name := "orders", desc := "()I" } : Jvm.MethodName)) ∈ lw_all := lw_g (lw_at lw_m0 75 rfl) rfl
theorem q90 : (Jvm.Cond.code ({ cls := "SuitDesk", name := "orders", desc := "()I" } : Jvm.MethodName) prog_1_method_3_code (3 : Nat) (Option.some Jvm.ClassFile.FieldType.int)) ∈ lw_all := lw_g (lw_at lw_m0 76 rfl) rfl
theorem q92 : (Jvm.Cond.instanceMethod ({ cls := "SuitDesk", name := "right", desc := "(II)V" } : Jvm.MethodName)) ∈ lw_all := lw_g (lw_at lw_m0 78 rfl) rfl
theorem q93 : (Jvm.Cond.selects "SuitDesk" ({ cls := "SuitDesk", name := "right", desc := "(II)V" } : Jvm.MethodName) ({ cls := "SuitDesk", name := "right", desc := "(II)V" } : Jvm.MethodName)) ∈ lw_all := lw_g (lw_at lw_m0 79 rfl) rfl
theorem q94 : (Jvm.Cond.code ({ cls := "SuitDesk", name := "right", desc := "(II)V" } : Jvm.MethodName) prog_1_method_9_code (3 : Nat) (Option.none : Option Jvm.ClassFile.FieldType)) ∈ lw_all := lw_g (lw_at lw_m0 80 rfl) rfl
theorem q96 : (Jvm.Cond.instanceMethod ({ cls := "SuitDesk", name := "partner", desc := "(I)I" } : Jvm.MethodName)) ∈ lw_all := lw_g (lw_at lw_m0 82 rfl) rfl
theorem q97 : (Jvm.Cond.selects "SuitDesk" ({ cls := "SuitDesk", name := "partner", desc := "(I)I" } : Jvm.MethodName) ({ cls := "SuitDesk", name := "partner", desc := "(I)I" } : Jvm.MethodName)) ∈ lw_all := lw_g (lw_at lw_m0 83 rfl) rfl
theorem q98 : (Jvm.Cond.code ({ cls := "SuitDesk", name := "partner", desc := "(I)I" } : Jvm.MethodName) prog_1_method_11_code (2 : Nat) (Option.some Jvm.ClassFile.FieldType.int)) ∈ lw_all := lw_g (lw_at lw_m0 84 rfl) rfl
theorem q99 : (Jvm.Cond.methodLink "SuitDesk" (70 : Nat) ({ cls := "SuitDesk", name := "ask", desc := "([I[I)V" } : Jvm.MethodName)) ∈ lw_all := lw_g (lw_at lw_m0 85 rfl) rfl
theorem q100 : (Jvm.Cond.privateMethod ({ cls := "SuitDesk", name := "ask", desc := "([I[I)V" } : Jvm.MethodName)) ∈ lw_tbl := lw_at lw_m0 86 rfl
theorem q101 : (Jvm.Cond.instanceMethod ({ cls := "SuitDesk", name := "ask", desc := "([I[I)V" } : Jvm.MethodName)) ∈ lw_all := lw_g (lw_at lw_m0 87 rfl) rfl
theorem q102 : (Jvm.Cond.code ({ cls := "SuitDesk", name := "ask", desc := "([I[I)V" } : Jvm.MethodName) prog_1_method_10_code (7 : Nat) (Option.none : Option Jvm.ClassFile.FieldType)) ∈ lw_all := lw_g (lw_at lw_m0 88 rfl) rfl
theorem q103 : (Jvm.Cond.methodLink "SuitDesk" (64 : Nat) ({ cls := "java/util/Arrays", name := "fill", desc := "([II)V" } : Jvm.MethodName)) ∈ lw_all := lw_g (lw_at lw_m0 89 rfl) rfl
theorem q107 : (Jvm.Cond.instanceMethod ({ cls := "SuitDesk", name := "other", desc := "(I)I" } : Jvm.MethodName)) ∈ lw_all := lw_g (lw_at lw_m0 93 rfl) rfl
theorem q108 : (Jvm.Cond.selects "SuitDesk" ({ cls := "SuitDesk", name := "other", desc := "(I)I" } : Jvm.MethodName) ({ cls := "SuitDesk", name := "other", desc := "(I)I" } : Jvm.MethodName)) ∈ lw_all := lw_g (lw_at lw_m0 94 rfl) rfl
theorem q109 : (Jvm.Cond.code ({ cls := "SuitDesk", name := "other", desc := "(I)I" } : Jvm.MethodName) prog_1_method_12_code (2 : Nat) (Option.some Jvm.ClassFile.FieldType.int)) ∈ lw_all := lw_g (lw_at lw_m0 95 rfl) rfl
theorem q111 : (Jvm.Cond.instanceMethod ({ cls := "SuitDesk", name := "steadyOnes", desc := "()I" } : Jvm.MethodName)) ∈ lw_all := lw_g (lw_at lw_m0 97 rfl) rfl
theorem q112 : (Jvm.Cond.selects "SuitDesk" ({ cls := "SuitDesk", name := "steadyOnes", desc := "()I" } : Jvm.MethodName) ({ cls := "SuitDesk", name := "steadyOnes", desc := "()I" } : Jvm.MethodName)) ∈ lw_all := lw_g (lw_at lw_m0 98 rfl) rfl
theorem q113 : (Jvm.Cond.code ({ cls := "SuitDesk", name := "steadyOnes", desc := "()I" } : Jvm.MethodName) prog_1_method_17_code (3 : Nat) (Option.some Jvm.ClassFile.FieldType.int)) ∈ lw_all := lw_g (lw_at lw_m0 99 rfl) rfl
theorem q114 : (Jvm.Cond.methodLink "SuitDesk" (80 : Nat) ({ cls := "java/util/Arrays", name := "fill", desc := "([ZZ)V" } : Jvm.MethodName)) ∈ lw_all := lw_g (lw_at lw_m0 100 rfl) rfl
theorem q117 : (Jvm.Cond.methodLink "SuitDesk" (83 : Nat) ({ cls := "SuitDesk", name := "meet", desc := "()V" } : Jvm.MethodName)) ∈ lw_all := lw_g (lw_at lw_m0 103 rfl) rfl
theorem q118 : (Jvm.Cond.privateMethod ({ cls := "SuitDesk", name := "meet", desc := "()V" } : Jvm.MethodName)) ∈ lw_tbl := lw_at lw_m0 104 rfl
theorem q119 : (Jvm.Cond.instanceMethod ({ cls := "SuitDesk", name := "meet", desc := "()V" } : Jvm.MethodName)) ∈ lw_all := lw_g (lw_at lw_m0 105 rfl) rfl
theorem q120 : (Jvm.Cond.code ({ cls := "SuitDesk", name := "meet", desc := "()V" } : Jvm.MethodName) prog_1_method_14_code (2 : Nat) (Option.none : Option Jvm.ClassFile.FieldType)) ∈ lw_all := lw_g (lw_at lw_m0 106 rfl) rfl
theorem q121 : (Jvm.Cond.methodLink "SuitDesk" (74 : Nat) ({ cls := "SuitDesk", name := "number", desc := "()I" } : Jvm.MethodName)) ∈ lw_all := lw_g (lw_at lw_m0 107 rfl) rfl
theorem q122 : (Jvm.Cond.privateMethod ({ cls := "SuitDesk", name := "number", desc := "()I" } : Jvm.MethodName)) ∈ lw_tbl := lw_at lw_m0 108 rfl
theorem q123 : (Jvm.Cond.instanceMethod ({ cls := "SuitDesk", name := "number", desc := "()I" } : Jvm.MethodName)) ∈ lw_all := lw_g (lw_at lw_m0 109 rfl) rfl
theorem q124 : (Jvm.Cond.code ({ cls := "SuitDesk", name := "number", desc := "()I" } : Jvm.MethodName) prog_1_method_13_code (8 : Nat) (Option.some Jvm.ClassFile.FieldType.int)) ∈ lw_all := lw_g (lw_at lw_m0 110 rfl) rfl
theorem q125 : (Jvm.Cond.methodLink "SuitDesk" (86 : Nat) ({ cls := "SuitDesk", name := "back", desc := "(I)V" } : Jvm.MethodName)) ∈ lw_all := lw_g (lw_at lw_m0 111 rfl) rfl
theorem q126 : (Jvm.Cond.privateMethod ({ cls := "SuitDesk", name := "back", desc := "(I)V" } : Jvm.MethodName)) ∈ lw_tbl := lw_at lw_m0 112 rfl
theorem q127 : (Jvm.Cond.instanceMethod ({ cls := "SuitDesk", name := "back", desc := "(I)V" } : Jvm.MethodName)) ∈ lw_all := lw_g (lw_at lw_m0 113 rfl) rfl
theorem q128 : (Jvm.Cond.code ({ cls := "SuitDesk", name := "back", desc := "(I)V" } : Jvm.MethodName) prog_1_method_15_code (3 : Nat) (Option.none : Option Jvm.ClassFile.FieldType)) ∈ lw_all := lw_g (lw_at lw_m0 114 rfl) rfl
theorem q129 : (Jvm.Cond.methodLink "SuitDesk" (89 : Nat) ({ cls := "SuitDesk", name := "part", desc := "(I)Z" } : Jvm.MethodName)) ∈ lw_all := lw_g (lw_at lw_m0 115 rfl) rfl
theorem q130 : (Jvm.Cond.privateMethod ({ cls := "SuitDesk", name := "part", desc := "(I)Z" } : Jvm.MethodName)) ∈ lw_tbl := lw_at lw_m0 116 rfl
theorem q131 : (Jvm.Cond.instanceMethod ({ cls := "SuitDesk", name := "part", desc := "(I)Z" } : Jvm.MethodName)) ∈ lw_all := lw_g (lw_at lw_m0 117 rfl) rfl
theorem q132 : (Jvm.Cond.code ({ cls := "SuitDesk", name := "part", desc := "(I)Z" } : Jvm.MethodName) prog_1_method_16_code (6 : Nat) (Option.some Jvm.ClassFile.FieldType.boolean)) ∈ lw_all := lw_g (lw_at lw_m0 118 rfl) rfl
theorem q134 : (Jvm.Cond.instanceMethod ({ cls := "SuitDesk", name := "steady", desc := "(I)Z" } : Jvm.MethodName)) ∈ lw_all := lw_g (lw_at lw_m0 120 rfl) rfl
theorem q135 : (Jvm.Cond.selects "SuitDesk" ({ cls := "SuitDesk", name := "steady", desc := "(I)Z" } : Jvm.MethodName) ({ cls := "SuitDesk", name := "steady", desc := "(I)Z" } : Jvm.MethodName)) ∈ lw_all := lw_g (lw_at lw_m0 121 rfl) rfl
theorem q136 : (Jvm.Cond.code ({ cls := "SuitDesk", name := "steady", desc := "(I)Z" } : Jvm.MethodName) prog_1_method_18_code (5 : Nat) (Option.some Jvm.ClassFile.FieldType.boolean)) ∈ lw_all := lw_g (lw_at lw_m0 122 rfl) rfl
theorem in_X0 : ∀ w ∈ wsX00, w ∈ lw_all := lw_in wsX00 [49, 51, 53, 55, 57, 59, 61, 63, 65, 67, 69] (by decide +kernel) (by decide +kernel)
end
section
/-! SuitDeskModel -/
set_option maxRecDepth 100000
def RX1 : String := "SuitDeskModel"
def TX1 : u_T := fun k => match k with
  | 0 => ("SuitDeskModel", "likes", "[I", true)
  | 1 => ("SuitDeskModel", "liked", "[I", true)
  | 2 => ("SuitDeskModel", "place", "[I", true)
  | 3 => ("SuitDeskModel", "placed", "[I", true)
  | 4 => ("SuitDeskModel", "n", "I", false)
  | 5 => ("SuitDeskModel", "known", "Z", false)
  | 6 => ("SuitDeskModel", "p", "[I", true)
  | 7 => ("SuitDeskModel", "mate", "[I", true)
  | 8 => ("SuitDeskModel", "left", "[I", true)
  | 9 => ("SuitDeskModel", "best", "[I", true)
  | 10 => ("SuitDeskModel", "good", "[I", true)
  | _ => ("SuitDeskModel", "resting", "I", false)
def tyX1 : Nat → FieldType := fun k => match k with
  | 0 => .array .int
  | 1 => .array .int
  | 2 => .array .int
  | 3 => .array .int
  | 4 => .int
  | 5 => .boolean
  | 6 => .array .int
  | 7 => .array .int
  | 8 => .array .int
  | 9 => .array .int
  | 10 => .array .int
  | _ => .int
abbrev wsX10 : List Cond := u_ws RX1 TX1 12
theorem nmX1 : ∀ a, a < 12 → ∀ b, b < 12 → a ≠ b → (TX1 a).2.1 ≠ (TX1 b).2.1 := by decide +kernel
theorem tyX1_ok : ∀ k, k < 12 → parseFieldDescriptor (TX1 k).2.2.1 = some (tyX1 k) := by decide +kernel
abbrev cX1_init : ByteArray := prog_3_method_1_code
def yX1_init : MethodName := ⟨RX1, "<init>", "()V"⟩
theorem dX1_init_0 : decode cX1_init 0 = .ok (.aload_n 0, 1) := by decide +kernel
theorem dX1_init_1 : decode cX1_init 1 = .ok (.invokespecial 1, 3) := by decide +kernel
theorem dX1_init_4 : decode cX1_init 4 = .ok (.aload_n 0, 1) := by decide +kernel
theorem dX1_init_5 : decode cX1_init 5 = .ok (.bipush 36, 2) := by decide +kernel
theorem dX1_init_7 : decode cX1_init 7 = .ok (.newarray .int, 2) := by decide +kernel
theorem dX1_init_9 : decode cX1_init 9 = .ok (.putfield 7, 3) := by decide +kernel
theorem dX1_init_12 : decode cX1_init 12 = .ok (.aload_n 0, 1) := by decide +kernel
theorem dX1_init_13 : decode cX1_init 13 = .ok (.bipush 36, 2) := by decide +kernel
theorem dX1_init_15 : decode cX1_init 15 = .ok (.newarray .int, 2) := by decide +kernel
theorem dX1_init_17 : decode cX1_init 17 = .ok (.putfield 13, 3) := by decide +kernel
theorem dX1_init_20 : decode cX1_init 20 = .ok (.aload_n 0, 1) := by decide +kernel
theorem dX1_init_21 : decode cX1_init 21 = .ok (.bipush 36, 2) := by decide +kernel
theorem dX1_init_23 : decode cX1_init 23 = .ok (.newarray .int, 2) := by decide +kernel
theorem dX1_init_25 : decode cX1_init 25 = .ok (.putfield 16, 3) := by decide +kernel
theorem dX1_init_28 : decode cX1_init 28 = .ok (.aload_n 0, 1) := by decide +kernel
theorem dX1_init_29 : decode cX1_init 29 = .ok (.bipush 36, 2) := by decide +kernel
theorem dX1_init_31 : decode cX1_init 31 = .ok (.newarray .int, 2) := by decide +kernel
theorem dX1_init_33 : decode cX1_init 33 = .ok (.putfield 19, 3) := by decide +kernel
theorem dX1_init_36 : decode cX1_init 36 = .ok (.aload_n 0, 1) := by decide +kernel
theorem dX1_init_37 : decode cX1_init 37 = .ok (.iconst 3, 1) := by decide +kernel
theorem dX1_init_38 : decode cX1_init 38 = .ok (.putfield 22, 3) := by decide +kernel
theorem dX1_init_41 : decode cX1_init 41 = .ok (.aload_n 0, 1) := by decide +kernel
theorem dX1_init_42 : decode cX1_init 42 = .ok (.bipush 6, 2) := by decide +kernel
theorem dX1_init_44 : decode cX1_init 44 = .ok (.newarray .int, 2) := by decide +kernel
theorem dX1_init_46 : decode cX1_init 46 = .ok (.putfield 26, 3) := by decide +kernel
theorem dX1_init_49 : decode cX1_init 49 = .ok (.aload_n 0, 1) := by decide +kernel
theorem dX1_init_50 : decode cX1_init 50 = .ok (.bipush 6, 2) := by decide +kernel
theorem dX1_init_52 : decode cX1_init 52 = .ok (.newarray .int, 2) := by decide +kernel
theorem dX1_init_54 : decode cX1_init 54 = .ok (.putfield 29, 3) := by decide +kernel
theorem dX1_init_57 : decode cX1_init 57 = .ok (.aload_n 0, 1) := by decide +kernel
theorem dX1_init_58 : decode cX1_init 58 = .ok (.bipush 6, 2) := by decide +kernel
theorem dX1_init_60 : decode cX1_init 60 = .ok (.newarray .int, 2) := by decide +kernel
theorem dX1_init_62 : decode cX1_init 62 = .ok (.putfield 32, 3) := by decide +kernel
theorem dX1_init_65 : decode cX1_init 65 = .ok (.aload_n 0, 1) := by decide +kernel
theorem dX1_init_66 : decode cX1_init 66 = .ok (.bipush 6, 2) := by decide +kernel
theorem dX1_init_68 : decode cX1_init 68 = .ok (.newarray .int, 2) := by decide +kernel
theorem dX1_init_70 : decode cX1_init 70 = .ok (.putfield 35, 3) := by decide +kernel
theorem dX1_init_73 : decode cX1_init 73 = .ok (.aload_n 0, 1) := by decide +kernel
theorem dX1_init_74 : decode cX1_init 74 = .ok (.bipush 6, 2) := by decide +kernel
theorem dX1_init_76 : decode cX1_init 76 = .ok (.newarray .int, 2) := by decide +kernel
theorem dX1_init_78 : decode cX1_init 78 = .ok (.putfield 38, 3) := by decide +kernel
theorem dX1_init_81 : decode cX1_init 81 = .ok (.aload_n 0, 1) := by decide +kernel
theorem dX1_init_82 : decode cX1_init 82 = .ok (.iconst 2, 1) := by decide +kernel
theorem dX1_init_83 : decode cX1_init 83 = .ok (.invokevirtual 41, 3) := by decide +kernel
theorem dX1_init_86 : decode cX1_init 86 = .ok (.return_, 1) := by decide +kernel
abbrev cX1_size : ByteArray := prog_3_method_2_code
def yX1_size : MethodName := ⟨RX1, "size", "(I)V"⟩
theorem dX1_size_0 : decode cX1_size 0 = .ok (.aload_n 0, 1) := by decide +kernel
theorem dX1_size_1 : decode cX1_size 1 = .ok (.iconst 1, 1) := by decide +kernel
theorem dX1_size_2 : decode cX1_size 2 = .ok (.iload_n 1, 1) := by decide +kernel
theorem dX1_size_3 : decode cX1_size 3 = .ok (.ldc 45, 2) := by decide +kernel
theorem dX1_size_5 : decode cX1_size 5 = .ok (.iand, 1) := by decide +kernel
theorem dX1_size_6 : decode cX1_size 6 = .ok (.bipush 6, 2) := by decide +kernel
theorem dX1_size_8 : decode cX1_size 8 = .ok (.irem, 1) := by decide +kernel
theorem dX1_size_9 : decode cX1_size 9 = .ok (.iadd, 1) := by decide +kernel
theorem dX1_size_10 : decode cX1_size 10 = .ok (.putfield 22, 3) := by decide +kernel
theorem dX1_size_13 : decode cX1_size 13 = .ok (.iconst 0, 1) := by decide +kernel
theorem dX1_size_14 : decode cX1_size 14 = .ok (.istore_n 2, 1) := by decide +kernel
theorem dX1_size_15 : decode cX1_size 15 = .ok (.iload_n 2, 1) := by decide +kernel
theorem dX1_size_16 : decode cX1_size 16 = .ok (.bipush 36, 2) := by decide +kernel
theorem dX1_size_18 : decode cX1_size 18 = .ok (.if_icmp .ge 49, 3) := by decide +kernel
theorem dX1_size_21 : decode cX1_size 21 = .ok (.aload_n 0, 1) := by decide +kernel
theorem dX1_size_22 : decode cX1_size 22 = .ok (.getfield 7, 3) := by decide +kernel
theorem dX1_size_25 : decode cX1_size 25 = .ok (.iload_n 2, 1) := by decide +kernel
theorem dX1_size_26 : decode cX1_size 26 = .ok (.iload_n 2, 1) := by decide +kernel
theorem dX1_size_27 : decode cX1_size 27 = .ok (.bipush 6, 2) := by decide +kernel
theorem dX1_size_29 : decode cX1_size 29 = .ok (.irem, 1) := by decide +kernel
theorem dX1_size_30 : decode cX1_size 30 = .ok (.iastore, 1) := by decide +kernel
theorem dX1_size_31 : decode cX1_size 31 = .ok (.aload_n 0, 1) := by decide +kernel
theorem dX1_size_32 : decode cX1_size 32 = .ok (.getfield 13, 3) := by decide +kernel
theorem dX1_size_35 : decode cX1_size 35 = .ok (.iload_n 2, 1) := by decide +kernel
theorem dX1_size_36 : decode cX1_size 36 = .ok (.iload_n 2, 1) := by decide +kernel
theorem dX1_size_37 : decode cX1_size 37 = .ok (.bipush 6, 2) := by decide +kernel
theorem dX1_size_39 : decode cX1_size 39 = .ok (.irem, 1) := by decide +kernel
theorem dX1_size_40 : decode cX1_size 40 = .ok (.iastore, 1) := by decide +kernel
theorem dX1_size_41 : decode cX1_size 41 = .ok (.aload_n 0, 1) := by decide +kernel
theorem dX1_size_42 : decode cX1_size 42 = .ok (.getfield 16, 3) := by decide +kernel
theorem dX1_size_45 : decode cX1_size 45 = .ok (.iload_n 2, 1) := by decide +kernel
theorem dX1_size_46 : decode cX1_size 46 = .ok (.iload_n 2, 1) := by decide +kernel
theorem dX1_size_47 : decode cX1_size 47 = .ok (.bipush 6, 2) := by decide +kernel
theorem dX1_size_49 : decode cX1_size 49 = .ok (.irem, 1) := by decide +kernel
theorem dX1_size_50 : decode cX1_size 50 = .ok (.iastore, 1) := by decide +kernel
theorem dX1_size_51 : decode cX1_size 51 = .ok (.aload_n 0, 1) := by decide +kernel
theorem dX1_size_52 : decode cX1_size 52 = .ok (.getfield 19, 3) := by decide +kernel
theorem dX1_size_55 : decode cX1_size 55 = .ok (.iload_n 2, 1) := by decide +kernel
theorem dX1_size_56 : decode cX1_size 56 = .ok (.iload_n 2, 1) := by decide +kernel
theorem dX1_size_57 : decode cX1_size 57 = .ok (.bipush 6, 2) := by decide +kernel
theorem dX1_size_59 : decode cX1_size 59 = .ok (.irem, 1) := by decide +kernel
theorem dX1_size_60 : decode cX1_size 60 = .ok (.iastore, 1) := by decide +kernel
theorem dX1_size_61 : decode cX1_size 61 = .ok (.iinc 2 1, 3) := by decide +kernel
theorem dX1_size_64 : decode cX1_size 64 = .ok (.goto (-49), 3) := by decide +kernel
theorem dX1_size_67 : decode cX1_size 67 = .ok (.aload_n 0, 1) := by decide +kernel
theorem dX1_size_68 : decode cX1_size 68 = .ok (.iconst 0, 1) := by decide +kernel
theorem dX1_size_69 : decode cX1_size 69 = .ok (.putfield 46, 3) := by decide +kernel
theorem dX1_size_72 : decode cX1_size 72 = .ok (.return_, 1) := by decide +kernel
abbrev cX1_left : ByteArray := prog_3_method_5_code
def yX1_left : MethodName := ⟨RX1, "left", "(II)V"⟩
theorem dX1_left_0 : decode cX1_left 0 = .ok (.aload_n 0, 1) := by decide +kernel
theorem dX1_left_1 : decode cX1_left 1 = .ok (.iload_n 2, 1) := by decide +kernel
theorem dX1_left_2 : decode cX1_left 2 = .ok (.ldc 45, 2) := by decide +kernel
theorem dX1_left_4 : decode cX1_left 4 = .ok (.iand, 1) := by decide +kernel
theorem dX1_left_5 : decode cX1_left 5 = .ok (.aload_n 0, 1) := by decide +kernel
theorem dX1_left_6 : decode cX1_left 6 = .ok (.invokevirtual 50, 3) := by decide +kernel
theorem dX1_left_9 : decode cX1_left 9 = .ok (.irem, 1) := by decide +kernel
theorem dX1_left_10 : decode cX1_left 10 = .ok (.invokevirtual 54, 3) := by decide +kernel
theorem dX1_left_13 : decode cX1_left 13 = .ok (.iload_n 1, 1) := by decide +kernel
theorem dX1_left_14 : decode cX1_left 14 = .ok (.ldc 45, 2) := by decide +kernel
theorem dX1_left_16 : decode cX1_left 16 = .ok (.iand, 1) := by decide +kernel
theorem dX1_left_17 : decode cX1_left 17 = .ok (.aload_n 0, 1) := by decide +kernel
theorem dX1_left_18 : decode cX1_left 18 = .ok (.getfield 22, 3) := by decide +kernel
theorem dX1_left_21 : decode cX1_left 21 = .ok (.irem, 1) := by decide +kernel
theorem dX1_left_22 : decode cX1_left 22 = .ok (.istore_n 3, 1) := by decide +kernel
theorem dX1_left_23 : decode cX1_left 23 = .ok (.iconst 0, 1) := by decide +kernel
theorem dX1_left_24 : decode cX1_left 24 = .ok (.istore 4, 2) := by decide +kernel
theorem dX1_left_26 : decode cX1_left 26 = .ok (.iload 4, 2) := by decide +kernel
theorem dX1_left_28 : decode cX1_left 28 = .ok (.aload_n 0, 1) := by decide +kernel
theorem dX1_left_29 : decode cX1_left 29 = .ok (.getfield 22, 3) := by decide +kernel
theorem dX1_left_32 : decode cX1_left 32 = .ok (.if_icmp .ge 47, 3) := by decide +kernel
theorem dX1_left_35 : decode cX1_left 35 = .ok (.aload_n 0, 1) := by decide +kernel
theorem dX1_left_36 : decode cX1_left 36 = .ok (.getfield 7, 3) := by decide +kernel
theorem dX1_left_39 : decode cX1_left 39 = .ok (.bipush 6, 2) := by decide +kernel
theorem dX1_left_41 : decode cX1_left 41 = .ok (.iload_n 3, 1) := by decide +kernel
theorem dX1_left_42 : decode cX1_left 42 = .ok (.imul, 1) := by decide +kernel
theorem dX1_left_43 : decode cX1_left 43 = .ok (.iload 4, 2) := by decide +kernel
theorem dX1_left_45 : decode cX1_left 45 = .ok (.iadd, 1) := by decide +kernel
theorem dX1_left_46 : decode cX1_left 46 = .ok (.aload_n 0, 1) := by decide +kernel
theorem dX1_left_47 : decode cX1_left 47 = .ok (.getfield 26, 3) := by decide +kernel
theorem dX1_left_50 : decode cX1_left 50 = .ok (.iload 4, 2) := by decide +kernel
theorem dX1_left_52 : decode cX1_left 52 = .ok (.iaload, 1) := by decide +kernel
theorem dX1_left_53 : decode cX1_left 53 = .ok (.iastore, 1) := by decide +kernel
theorem dX1_left_54 : decode cX1_left 54 = .ok (.aload_n 0, 1) := by decide +kernel
theorem dX1_left_55 : decode cX1_left 55 = .ok (.getfield 16, 3) := by decide +kernel
theorem dX1_left_58 : decode cX1_left 58 = .ok (.bipush 6, 2) := by decide +kernel
theorem dX1_left_60 : decode cX1_left 60 = .ok (.iload_n 3, 1) := by decide +kernel
theorem dX1_left_61 : decode cX1_left 61 = .ok (.imul, 1) := by decide +kernel
theorem dX1_left_62 : decode cX1_left 62 = .ok (.aload_n 0, 1) := by decide +kernel
theorem dX1_left_63 : decode cX1_left 63 = .ok (.getfield 26, 3) := by decide +kernel
theorem dX1_left_66 : decode cX1_left 66 = .ok (.iload 4, 2) := by decide +kernel
theorem dX1_left_68 : decode cX1_left 68 = .ok (.iaload, 1) := by decide +kernel
theorem dX1_left_69 : decode cX1_left 69 = .ok (.iadd, 1) := by decide +kernel
theorem dX1_left_70 : decode cX1_left 70 = .ok (.iload 4, 2) := by decide +kernel
theorem dX1_left_72 : decode cX1_left 72 = .ok (.iastore, 1) := by decide +kernel
theorem dX1_left_73 : decode cX1_left 73 = .ok (.iinc 4 1, 3) := by decide +kernel
theorem dX1_left_76 : decode cX1_left 76 = .ok (.goto (-50), 3) := by decide +kernel
theorem dX1_left_79 : decode cX1_left 79 = .ok (.aload_n 0, 1) := by decide +kernel
theorem dX1_left_80 : decode cX1_left 80 = .ok (.iconst 0, 1) := by decide +kernel
theorem dX1_left_81 : decode cX1_left 81 = .ok (.putfield 46, 3) := by decide +kernel
theorem dX1_left_84 : decode cX1_left 84 = .ok (.return_, 1) := by decide +kernel
abbrev cX1_orders : ByteArray := prog_3_method_4_code
def yX1_orders : MethodName := ⟨RX1, "orders", "()I"⟩
theorem dX1_orders_0 : decode cX1_orders 0 = .ok (.iconst 1, 1) := by decide +kernel
theorem dX1_orders_1 : decode cX1_orders 1 = .ok (.istore_n 1, 1) := by decide +kernel
theorem dX1_orders_2 : decode cX1_orders 2 = .ok (.iconst 2, 1) := by decide +kernel
theorem dX1_orders_3 : decode cX1_orders 3 = .ok (.istore_n 2, 1) := by decide +kernel
theorem dX1_orders_4 : decode cX1_orders 4 = .ok (.iload_n 2, 1) := by decide +kernel
theorem dX1_orders_5 : decode cX1_orders 5 = .ok (.aload_n 0, 1) := by decide +kernel
theorem dX1_orders_6 : decode cX1_orders 6 = .ok (.getfield 22, 3) := by decide +kernel
theorem dX1_orders_9 : decode cX1_orders 9 = .ok (.if_icmp .gt 13, 3) := by decide +kernel
theorem dX1_orders_12 : decode cX1_orders 12 = .ok (.iload_n 1, 1) := by decide +kernel
theorem dX1_orders_13 : decode cX1_orders 13 = .ok (.iload_n 2, 1) := by decide +kernel
theorem dX1_orders_14 : decode cX1_orders 14 = .ok (.imul, 1) := by decide +kernel
theorem dX1_orders_15 : decode cX1_orders 15 = .ok (.istore_n 1, 1) := by decide +kernel
theorem dX1_orders_16 : decode cX1_orders 16 = .ok (.iinc 2 1, 3) := by decide +kernel
theorem dX1_orders_19 : decode cX1_orders 19 = .ok (.goto (-15), 3) := by decide +kernel
theorem dX1_orders_22 : decode cX1_orders 22 = .ok (.iload_n 1, 1) := by decide +kernel
theorem dX1_orders_23 : decode cX1_orders 23 = .ok (.ireturn, 1) := by decide +kernel
abbrev cX1_order : ByteArray := prog_3_method_3_code
def yX1_order : MethodName := ⟨RX1, "order", "(I)V"⟩
theorem dX1_order_0 : decode cX1_order 0 = .ok (.iload_n 1, 1) := by decide +kernel
theorem dX1_order_1 : decode cX1_order 1 = .ok (.istore_n 2, 1) := by decide +kernel
theorem dX1_order_2 : decode cX1_order 2 = .ok (.iconst 0, 1) := by decide +kernel
theorem dX1_order_3 : decode cX1_order 3 = .ok (.istore_n 3, 1) := by decide +kernel
theorem dX1_order_4 : decode cX1_order 4 = .ok (.iload_n 3, 1) := by decide +kernel
theorem dX1_order_5 : decode cX1_order 5 = .ok (.aload_n 0, 1) := by decide +kernel
theorem dX1_order_6 : decode cX1_order 6 = .ok (.getfield 22, 3) := by decide +kernel
theorem dX1_order_9 : decode cX1_order 9 = .ok (.if_icmp .ge 16, 3) := by decide +kernel
theorem dX1_order_12 : decode cX1_order 12 = .ok (.aload_n 0, 1) := by decide +kernel
theorem dX1_order_13 : decode cX1_order 13 = .ok (.getfield 32, 3) := by decide +kernel
theorem dX1_order_16 : decode cX1_order 16 = .ok (.iload_n 3, 1) := by decide +kernel
theorem dX1_order_17 : decode cX1_order 17 = .ok (.iload_n 3, 1) := by decide +kernel
theorem dX1_order_18 : decode cX1_order 18 = .ok (.iastore, 1) := by decide +kernel
theorem dX1_order_19 : decode cX1_order 19 = .ok (.iinc 3 1, 3) := by decide +kernel
theorem dX1_order_22 : decode cX1_order 22 = .ok (.goto (-18), 3) := by decide +kernel
theorem dX1_order_25 : decode cX1_order 25 = .ok (.iconst 0, 1) := by decide +kernel
theorem dX1_order_26 : decode cX1_order 26 = .ok (.istore_n 3, 1) := by decide +kernel
theorem dX1_order_27 : decode cX1_order 27 = .ok (.iload_n 3, 1) := by decide +kernel
theorem dX1_order_28 : decode cX1_order 28 = .ok (.aload_n 0, 1) := by decide +kernel
theorem dX1_order_29 : decode cX1_order 29 = .ok (.getfield 22, 3) := by decide +kernel
theorem dX1_order_32 : decode cX1_order 32 = .ok (.if_icmp .ge 76, 3) := by decide +kernel
theorem dX1_order_35 : decode cX1_order 35 = .ok (.aload_n 0, 1) := by decide +kernel
theorem dX1_order_36 : decode cX1_order 36 = .ok (.getfield 22, 3) := by decide +kernel
theorem dX1_order_39 : decode cX1_order 39 = .ok (.iload_n 3, 1) := by decide +kernel
theorem dX1_order_40 : decode cX1_order 40 = .ok (.isub, 1) := by decide +kernel
theorem dX1_order_41 : decode cX1_order 41 = .ok (.istore 4, 2) := by decide +kernel
theorem dX1_order_43 : decode cX1_order 43 = .ok (.iload_n 2, 1) := by decide +kernel
theorem dX1_order_44 : decode cX1_order 44 = .ok (.iload 4, 2) := by decide +kernel
theorem dX1_order_46 : decode cX1_order 46 = .ok (.irem, 1) := by decide +kernel
theorem dX1_order_47 : decode cX1_order 47 = .ok (.istore 5, 2) := by decide +kernel
theorem dX1_order_49 : decode cX1_order 49 = .ok (.iload_n 2, 1) := by decide +kernel
theorem dX1_order_50 : decode cX1_order 50 = .ok (.iload 4, 2) := by decide +kernel
theorem dX1_order_52 : decode cX1_order 52 = .ok (.idiv, 1) := by decide +kernel
theorem dX1_order_53 : decode cX1_order 53 = .ok (.istore_n 2, 1) := by decide +kernel
theorem dX1_order_54 : decode cX1_order 54 = .ok (.aload_n 0, 1) := by decide +kernel
theorem dX1_order_55 : decode cX1_order 55 = .ok (.getfield 26, 3) := by decide +kernel
theorem dX1_order_58 : decode cX1_order 58 = .ok (.iload_n 3, 1) := by decide +kernel
theorem dX1_order_59 : decode cX1_order 59 = .ok (.aload_n 0, 1) := by decide +kernel
theorem dX1_order_60 : decode cX1_order 60 = .ok (.getfield 32, 3) := by decide +kernel
theorem dX1_order_63 : decode cX1_order 63 = .ok (.iload 5, 2) := by decide +kernel
theorem dX1_order_65 : decode cX1_order 65 = .ok (.iaload, 1) := by decide +kernel
theorem dX1_order_66 : decode cX1_order 66 = .ok (.iastore, 1) := by decide +kernel
theorem dX1_order_67 : decode cX1_order 67 = .ok (.iload 5, 2) := by decide +kernel
theorem dX1_order_69 : decode cX1_order 69 = .ok (.istore 6, 2) := by decide +kernel
theorem dX1_order_71 : decode cX1_order 71 = .ok (.iload 6, 2) := by decide +kernel
theorem dX1_order_73 : decode cX1_order 73 = .ok (.iconst 1, 1) := by decide +kernel
theorem dX1_order_74 : decode cX1_order 74 = .ok (.iadd, 1) := by decide +kernel
theorem dX1_order_75 : decode cX1_order 75 = .ok (.iload 4, 2) := by decide +kernel
theorem dX1_order_77 : decode cX1_order 77 = .ok (.if_icmp .ge 25, 3) := by decide +kernel
theorem dX1_order_80 : decode cX1_order 80 = .ok (.aload_n 0, 1) := by decide +kernel
theorem dX1_order_81 : decode cX1_order 81 = .ok (.getfield 32, 3) := by decide +kernel
theorem dX1_order_84 : decode cX1_order 84 = .ok (.iload 6, 2) := by decide +kernel
theorem dX1_order_86 : decode cX1_order 86 = .ok (.aload_n 0, 1) := by decide +kernel
theorem dX1_order_87 : decode cX1_order 87 = .ok (.getfield 32, 3) := by decide +kernel
theorem dX1_order_90 : decode cX1_order 90 = .ok (.iload 6, 2) := by decide +kernel
theorem dX1_order_92 : decode cX1_order 92 = .ok (.iconst 1, 1) := by decide +kernel
theorem dX1_order_93 : decode cX1_order 93 = .ok (.iadd, 1) := by decide +kernel
theorem dX1_order_94 : decode cX1_order 94 = .ok (.iaload, 1) := by decide +kernel
theorem dX1_order_95 : decode cX1_order 95 = .ok (.iastore, 1) := by decide +kernel
theorem dX1_order_96 : decode cX1_order 96 = .ok (.iinc 6 1, 3) := by decide +kernel
theorem dX1_order_99 : decode cX1_order 99 = .ok (.goto (-28), 3) := by decide +kernel
theorem dX1_order_102 : decode cX1_order 102 = .ok (.iinc 3 1, 3) := by decide +kernel
theorem dX1_order_105 : decode cX1_order 105 = .ok (.goto (-78), 3) := by decide +kernel
theorem dX1_order_108 : decode cX1_order 108 = .ok (.return_, 1) := by decide +kernel
abbrev cX1_right : ByteArray := prog_3_method_6_code
def yX1_right : MethodName := ⟨RX1, "right", "(II)V"⟩
theorem dX1_right_0 : decode cX1_right 0 = .ok (.aload_n 0, 1) := by decide +kernel
theorem dX1_right_1 : decode cX1_right 1 = .ok (.iload_n 2, 1) := by decide +kernel
theorem dX1_right_2 : decode cX1_right 2 = .ok (.ldc 45, 2) := by decide +kernel
theorem dX1_right_4 : decode cX1_right 4 = .ok (.iand, 1) := by decide +kernel
theorem dX1_right_5 : decode cX1_right 5 = .ok (.aload_n 0, 1) := by decide +kernel
theorem dX1_right_6 : decode cX1_right 6 = .ok (.invokevirtual 50, 3) := by decide +kernel
theorem dX1_right_9 : decode cX1_right 9 = .ok (.irem, 1) := by decide +kernel
theorem dX1_right_10 : decode cX1_right 10 = .ok (.invokevirtual 54, 3) := by decide +kernel
theorem dX1_right_13 : decode cX1_right 13 = .ok (.iload_n 1, 1) := by decide +kernel
theorem dX1_right_14 : decode cX1_right 14 = .ok (.ldc 45, 2) := by decide +kernel
theorem dX1_right_16 : decode cX1_right 16 = .ok (.iand, 1) := by decide +kernel
theorem dX1_right_17 : decode cX1_right 17 = .ok (.aload_n 0, 1) := by decide +kernel
theorem dX1_right_18 : decode cX1_right 18 = .ok (.getfield 22, 3) := by decide +kernel
theorem dX1_right_21 : decode cX1_right 21 = .ok (.irem, 1) := by decide +kernel
theorem dX1_right_22 : decode cX1_right 22 = .ok (.istore_n 3, 1) := by decide +kernel
theorem dX1_right_23 : decode cX1_right 23 = .ok (.iconst 0, 1) := by decide +kernel
theorem dX1_right_24 : decode cX1_right 24 = .ok (.istore 4, 2) := by decide +kernel
theorem dX1_right_26 : decode cX1_right 26 = .ok (.iload 4, 2) := by decide +kernel
theorem dX1_right_28 : decode cX1_right 28 = .ok (.aload_n 0, 1) := by decide +kernel
theorem dX1_right_29 : decode cX1_right 29 = .ok (.getfield 22, 3) := by decide +kernel
theorem dX1_right_32 : decode cX1_right 32 = .ok (.if_icmp .ge 47, 3) := by decide +kernel
theorem dX1_right_35 : decode cX1_right 35 = .ok (.aload_n 0, 1) := by decide +kernel
theorem dX1_right_36 : decode cX1_right 36 = .ok (.getfield 13, 3) := by decide +kernel
theorem dX1_right_39 : decode cX1_right 39 = .ok (.bipush 6, 2) := by decide +kernel
theorem dX1_right_41 : decode cX1_right 41 = .ok (.iload_n 3, 1) := by decide +kernel
theorem dX1_right_42 : decode cX1_right 42 = .ok (.imul, 1) := by decide +kernel
theorem dX1_right_43 : decode cX1_right 43 = .ok (.iload 4, 2) := by decide +kernel
theorem dX1_right_45 : decode cX1_right 45 = .ok (.iadd, 1) := by decide +kernel
theorem dX1_right_46 : decode cX1_right 46 = .ok (.aload_n 0, 1) := by decide +kernel
theorem dX1_right_47 : decode cX1_right 47 = .ok (.getfield 26, 3) := by decide +kernel
theorem dX1_right_50 : decode cX1_right 50 = .ok (.iload 4, 2) := by decide +kernel
theorem dX1_right_52 : decode cX1_right 52 = .ok (.iaload, 1) := by decide +kernel
theorem dX1_right_53 : decode cX1_right 53 = .ok (.iastore, 1) := by decide +kernel
theorem dX1_right_54 : decode cX1_right 54 = .ok (.aload_n 0, 1) := by decide +kernel
theorem dX1_right_55 : decode cX1_right 55 = .ok (.getfield 19, 3) := by decide +kernel
theorem dX1_right_58 : decode cX1_right 58 = .ok (.bipush 6, 2) := by decide +kernel
theorem dX1_right_60 : decode cX1_right 60 = .ok (.iload_n 3, 1) := by decide +kernel
theorem dX1_right_61 : decode cX1_right 61 = .ok (.imul, 1) := by decide +kernel
theorem dX1_right_62 : decode cX1_right 62 = .ok (.aload_n 0, 1) := by decide +kernel
theorem dX1_right_63 : decode cX1_right 63 = .ok (.getfield 26, 3) := by decide +kernel
theorem dX1_right_66 : decode cX1_right 66 = .ok (.iload 4, 2) := by decide +kernel
theorem dX1_right_68 : decode cX1_right 68 = .ok (.iaload, 1) := by decide +kernel
theorem dX1_right_69 : decode cX1_right 69 = .ok (.iadd, 1) := by decide +kernel
theorem dX1_right_70 : decode cX1_right 70 = .ok (.iload 4, 2) := by decide +kernel
theorem dX1_right_72 : decode cX1_right 72 = .ok (.iastore, 1) := by decide +kernel
theorem dX1_right_73 : decode cX1_right 73 = .ok (.iinc 4 1, 3) := by decide +kernel
theorem dX1_right_76 : decode cX1_right 76 = .ok (.goto (-50), 3) := by decide +kernel
theorem dX1_right_79 : decode cX1_right 79 = .ok (.aload_n 0, 1) := by decide +kernel
theorem dX1_right_80 : decode cX1_right 80 = .ok (.iconst 0, 1) := by decide +kernel
theorem dX1_right_81 : decode cX1_right 81 = .ok (.putfield 46, 3) := by decide +kernel
theorem dX1_right_84 : decode cX1_right 84 = .ok (.return_, 1) := by decide +kernel
abbrev cX1_steadyOnes : ByteArray := prog_3_method_9_code
def yX1_steadyOnes : MethodName := ⟨RX1, "steadyOnes", "()I"⟩
theorem dX1_steadyOnes_0 : decode cX1_steadyOnes 0 = .ok (.aload_n 0, 1) := by decide +kernel
theorem dX1_steadyOnes_1 : decode cX1_steadyOnes 1 = .ok (.invokevirtual 64, 3) := by decide +kernel
theorem dX1_steadyOnes_4 : decode cX1_steadyOnes 4 = .ok (.aload_n 0, 1) := by decide +kernel
theorem dX1_steadyOnes_5 : decode cX1_steadyOnes 5 = .ok (.getfield 57, 3) := by decide +kernel
theorem dX1_steadyOnes_8 : decode cX1_steadyOnes 8 = .ok (.ireturn, 1) := by decide +kernel
abbrev cX1_reckon : ByteArray := prog_3_method_8_code
def yX1_reckon : MethodName := ⟨RX1, "reckon", "()V"⟩
theorem dX1_reckon_0 : decode cX1_reckon 0 = .ok (.aload_n 0, 1) := by decide +kernel
theorem dX1_reckon_1 : decode cX1_reckon 1 = .ok (.getfield 46, 3) := by decide +kernel
theorem dX1_reckon_4 : decode cX1_reckon 4 = .ok (.ifCond .eq 4, 3) := by decide +kernel
theorem dX1_reckon_7 : decode cX1_reckon 7 = .ok (.return_, 1) := by decide +kernel
theorem dX1_reckon_8 : decode cX1_reckon 8 = .ok (.aload_n 0, 1) := by decide +kernel
theorem dX1_reckon_9 : decode cX1_reckon 9 = .ok (.iconst 1, 1) := by decide +kernel
theorem dX1_reckon_10 : decode cX1_reckon 10 = .ok (.putfield 46, 3) := by decide +kernel
theorem dX1_reckon_13 : decode cX1_reckon 13 = .ok (.aload_n 0, 1) := by decide +kernel
theorem dX1_reckon_14 : decode cX1_reckon 14 = .ok (.iconst 0, 1) := by decide +kernel
theorem dX1_reckon_15 : decode cX1_reckon 15 = .ok (.putfield 57, 3) := by decide +kernel
theorem dX1_reckon_18 : decode cX1_reckon 18 = .ok (.iconst 0, 1) := by decide +kernel
theorem dX1_reckon_19 : decode cX1_reckon 19 = .ok (.istore_n 1, 1) := by decide +kernel
theorem dX1_reckon_20 : decode cX1_reckon 20 = .ok (.iload_n 1, 1) := by decide +kernel
theorem dX1_reckon_21 : decode cX1_reckon 21 = .ok (.bipush 6, 2) := by decide +kernel
theorem dX1_reckon_23 : decode cX1_reckon 23 = .ok (.if_icmp .ge 29, 3) := by decide +kernel
theorem dX1_reckon_26 : decode cX1_reckon 26 = .ok (.aload_n 0, 1) := by decide +kernel
theorem dX1_reckon_27 : decode cX1_reckon 27 = .ok (.getfield 35, 3) := by decide +kernel
theorem dX1_reckon_30 : decode cX1_reckon 30 = .ok (.iload_n 1, 1) := by decide +kernel
theorem dX1_reckon_31 : decode cX1_reckon 31 = .ok (.aload_n 0, 1) := by decide +kernel
theorem dX1_reckon_32 : decode cX1_reckon 32 = .ok (.getfield 22, 3) := by decide +kernel
theorem dX1_reckon_35 : decode cX1_reckon 35 = .ok (.iastore, 1) := by decide +kernel
theorem dX1_reckon_36 : decode cX1_reckon 36 = .ok (.aload_n 0, 1) := by decide +kernel
theorem dX1_reckon_37 : decode cX1_reckon 37 = .ok (.getfield 38, 3) := by decide +kernel
theorem dX1_reckon_40 : decode cX1_reckon 40 = .ok (.iload_n 1, 1) := by decide +kernel
theorem dX1_reckon_41 : decode cX1_reckon 41 = .ok (.aload_n 0, 1) := by decide +kernel
theorem dX1_reckon_42 : decode cX1_reckon 42 = .ok (.getfield 22, 3) := by decide +kernel
theorem dX1_reckon_45 : decode cX1_reckon 45 = .ok (.iastore, 1) := by decide +kernel
theorem dX1_reckon_46 : decode cX1_reckon 46 = .ok (.iinc 1 1, 3) := by decide +kernel
theorem dX1_reckon_49 : decode cX1_reckon 49 = .ok (.goto (-29), 3) := by decide +kernel
theorem dX1_reckon_52 : decode cX1_reckon 52 = .ok (.aload_n 0, 1) := by decide +kernel
theorem dX1_reckon_53 : decode cX1_reckon 53 = .ok (.invokevirtual 50, 3) := by decide +kernel
theorem dX1_reckon_56 : decode cX1_reckon 56 = .ok (.istore_n 1, 1) := by decide +kernel
theorem dX1_reckon_57 : decode cX1_reckon 57 = .ok (.iconst 0, 1) := by decide +kernel
theorem dX1_reckon_58 : decode cX1_reckon 58 = .ok (.istore_n 2, 1) := by decide +kernel
theorem dX1_reckon_59 : decode cX1_reckon 59 = .ok (.iload_n 2, 1) := by decide +kernel
theorem dX1_reckon_60 : decode cX1_reckon 60 = .ok (.iload_n 1, 1) := by decide +kernel
theorem dX1_reckon_61 : decode cX1_reckon 61 = .ok (.if_icmp .ge 141, 3) := by decide +kernel
theorem dX1_reckon_64 : decode cX1_reckon 64 = .ok (.aload_n 0, 1) := by decide +kernel
theorem dX1_reckon_65 : decode cX1_reckon 65 = .ok (.iload_n 2, 1) := by decide +kernel
theorem dX1_reckon_66 : decode cX1_reckon 66 = .ok (.invokevirtual 54, 3) := by decide +kernel
theorem dX1_reckon_69 : decode cX1_reckon 69 = .ok (.aload_n 0, 1) := by decide +kernel
theorem dX1_reckon_70 : decode cX1_reckon 70 = .ok (.invokevirtual 60, 3) := by decide +kernel
theorem dX1_reckon_73 : decode cX1_reckon 73 = .ok (.ifCond .eq 123, 3) := by decide +kernel
theorem dX1_reckon_76 : decode cX1_reckon 76 = .ok (.aload_n 0, 1) := by decide +kernel
theorem dX1_reckon_77 : decode cX1_reckon 77 = .ok (.aload_n 0, 1) := by decide +kernel
theorem dX1_reckon_78 : decode cX1_reckon 78 = .ok (.getfield 57, 3) := by decide +kernel
theorem dX1_reckon_81 : decode cX1_reckon 81 = .ok (.iconst 1, 1) := by decide +kernel
theorem dX1_reckon_82 : decode cX1_reckon 82 = .ok (.iadd, 1) := by decide +kernel
theorem dX1_reckon_83 : decode cX1_reckon 83 = .ok (.putfield 57, 3) := by decide +kernel
theorem dX1_reckon_86 : decode cX1_reckon 86 = .ok (.iconst 0, 1) := by decide +kernel
theorem dX1_reckon_87 : decode cX1_reckon 87 = .ok (.istore_n 3, 1) := by decide +kernel
theorem dX1_reckon_88 : decode cX1_reckon 88 = .ok (.iload_n 3, 1) := by decide +kernel
theorem dX1_reckon_89 : decode cX1_reckon 89 = .ok (.aload_n 0, 1) := by decide +kernel
theorem dX1_reckon_90 : decode cX1_reckon 90 = .ok (.getfield 22, 3) := by decide +kernel
theorem dX1_reckon_93 : decode cX1_reckon 93 = .ok (.if_icmp .ge 103, 3) := by decide +kernel
theorem dX1_reckon_96 : decode cX1_reckon 96 = .ok (.aload_n 0, 1) := by decide +kernel
theorem dX1_reckon_97 : decode cX1_reckon 97 = .ok (.getfield 16, 3) := by decide +kernel
theorem dX1_reckon_100 : decode cX1_reckon 100 = .ok (.bipush 6, 2) := by decide +kernel
theorem dX1_reckon_102 : decode cX1_reckon 102 = .ok (.iload_n 3, 1) := by decide +kernel
theorem dX1_reckon_103 : decode cX1_reckon 103 = .ok (.imul, 1) := by decide +kernel
theorem dX1_reckon_104 : decode cX1_reckon 104 = .ok (.aload_n 0, 1) := by decide +kernel
theorem dX1_reckon_105 : decode cX1_reckon 105 = .ok (.getfield 26, 3) := by decide +kernel
theorem dX1_reckon_108 : decode cX1_reckon 108 = .ok (.iload_n 3, 1) := by decide +kernel
theorem dX1_reckon_109 : decode cX1_reckon 109 = .ok (.iaload, 1) := by decide +kernel
theorem dX1_reckon_110 : decode cX1_reckon 110 = .ok (.iadd, 1) := by decide +kernel
theorem dX1_reckon_111 : decode cX1_reckon 111 = .ok (.iaload, 1) := by decide +kernel
theorem dX1_reckon_112 : decode cX1_reckon 112 = .ok (.aload_n 0, 1) := by decide +kernel
theorem dX1_reckon_113 : decode cX1_reckon 113 = .ok (.getfield 35, 3) := by decide +kernel
theorem dX1_reckon_116 : decode cX1_reckon 116 = .ok (.iload_n 3, 1) := by decide +kernel
theorem dX1_reckon_117 : decode cX1_reckon 117 = .ok (.iaload, 1) := by decide +kernel
theorem dX1_reckon_118 : decode cX1_reckon 118 = .ok (.if_icmp .ge 25, 3) := by decide +kernel
theorem dX1_reckon_121 : decode cX1_reckon 121 = .ok (.aload_n 0, 1) := by decide +kernel
theorem dX1_reckon_122 : decode cX1_reckon 122 = .ok (.getfield 35, 3) := by decide +kernel
theorem dX1_reckon_125 : decode cX1_reckon 125 = .ok (.iload_n 3, 1) := by decide +kernel
theorem dX1_reckon_126 : decode cX1_reckon 126 = .ok (.aload_n 0, 1) := by decide +kernel
theorem dX1_reckon_127 : decode cX1_reckon 127 = .ok (.getfield 16, 3) := by decide +kernel
theorem dX1_reckon_130 : decode cX1_reckon 130 = .ok (.bipush 6, 2) := by decide +kernel
theorem dX1_reckon_132 : decode cX1_reckon 132 = .ok (.iload_n 3, 1) := by decide +kernel
theorem dX1_reckon_133 : decode cX1_reckon 133 = .ok (.imul, 1) := by decide +kernel
theorem dX1_reckon_134 : decode cX1_reckon 134 = .ok (.aload_n 0, 1) := by decide +kernel
theorem dX1_reckon_135 : decode cX1_reckon 135 = .ok (.getfield 26, 3) := by decide +kernel
theorem dX1_reckon_138 : decode cX1_reckon 138 = .ok (.iload_n 3, 1) := by decide +kernel
theorem dX1_reckon_139 : decode cX1_reckon 139 = .ok (.iaload, 1) := by decide +kernel
theorem dX1_reckon_140 : decode cX1_reckon 140 = .ok (.iadd, 1) := by decide +kernel
theorem dX1_reckon_141 : decode cX1_reckon 141 = .ok (.iaload, 1) := by decide +kernel
theorem dX1_reckon_142 : decode cX1_reckon 142 = .ok (.iastore, 1) := by decide +kernel
theorem dX1_reckon_143 : decode cX1_reckon 143 = .ok (.aload_n 0, 1) := by decide +kernel
theorem dX1_reckon_144 : decode cX1_reckon 144 = .ok (.getfield 19, 3) := by decide +kernel
theorem dX1_reckon_147 : decode cX1_reckon 147 = .ok (.bipush 6, 2) := by decide +kernel
theorem dX1_reckon_149 : decode cX1_reckon 149 = .ok (.iload_n 3, 1) := by decide +kernel
theorem dX1_reckon_150 : decode cX1_reckon 150 = .ok (.imul, 1) := by decide +kernel
theorem dX1_reckon_151 : decode cX1_reckon 151 = .ok (.aload_n 0, 1) := by decide +kernel
theorem dX1_reckon_152 : decode cX1_reckon 152 = .ok (.getfield 29, 3) := by decide +kernel
theorem dX1_reckon_155 : decode cX1_reckon 155 = .ok (.iload_n 3, 1) := by decide +kernel
theorem dX1_reckon_156 : decode cX1_reckon 156 = .ok (.iaload, 1) := by decide +kernel
theorem dX1_reckon_157 : decode cX1_reckon 157 = .ok (.iadd, 1) := by decide +kernel
theorem dX1_reckon_158 : decode cX1_reckon 158 = .ok (.iaload, 1) := by decide +kernel
theorem dX1_reckon_159 : decode cX1_reckon 159 = .ok (.aload_n 0, 1) := by decide +kernel
theorem dX1_reckon_160 : decode cX1_reckon 160 = .ok (.getfield 38, 3) := by decide +kernel
theorem dX1_reckon_163 : decode cX1_reckon 163 = .ok (.iload_n 3, 1) := by decide +kernel
theorem dX1_reckon_164 : decode cX1_reckon 164 = .ok (.iaload, 1) := by decide +kernel
theorem dX1_reckon_165 : decode cX1_reckon 165 = .ok (.if_icmp .ge 25, 3) := by decide +kernel
theorem dX1_reckon_168 : decode cX1_reckon 168 = .ok (.aload_n 0, 1) := by decide +kernel
theorem dX1_reckon_169 : decode cX1_reckon 169 = .ok (.getfield 38, 3) := by decide +kernel
theorem dX1_reckon_172 : decode cX1_reckon 172 = .ok (.iload_n 3, 1) := by decide +kernel
theorem dX1_reckon_173 : decode cX1_reckon 173 = .ok (.aload_n 0, 1) := by decide +kernel
theorem dX1_reckon_174 : decode cX1_reckon 174 = .ok (.getfield 19, 3) := by decide +kernel
theorem dX1_reckon_177 : decode cX1_reckon 177 = .ok (.bipush 6, 2) := by decide +kernel
theorem dX1_reckon_179 : decode cX1_reckon 179 = .ok (.iload_n 3, 1) := by decide +kernel
theorem dX1_reckon_180 : decode cX1_reckon 180 = .ok (.imul, 1) := by decide +kernel
theorem dX1_reckon_181 : decode cX1_reckon 181 = .ok (.aload_n 0, 1) := by decide +kernel
theorem dX1_reckon_182 : decode cX1_reckon 182 = .ok (.getfield 29, 3) := by decide +kernel
theorem dX1_reckon_185 : decode cX1_reckon 185 = .ok (.iload_n 3, 1) := by decide +kernel
theorem dX1_reckon_186 : decode cX1_reckon 186 = .ok (.iaload, 1) := by decide +kernel
theorem dX1_reckon_187 : decode cX1_reckon 187 = .ok (.iadd, 1) := by decide +kernel
theorem dX1_reckon_188 : decode cX1_reckon 188 = .ok (.iaload, 1) := by decide +kernel
theorem dX1_reckon_189 : decode cX1_reckon 189 = .ok (.iastore, 1) := by decide +kernel
theorem dX1_reckon_190 : decode cX1_reckon 190 = .ok (.iinc 3 1, 3) := by decide +kernel
theorem dX1_reckon_193 : decode cX1_reckon 193 = .ok (.goto (-105), 3) := by decide +kernel
theorem dX1_reckon_196 : decode cX1_reckon 196 = .ok (.iinc 2 1, 3) := by decide +kernel
theorem dX1_reckon_199 : decode cX1_reckon 199 = .ok (.goto (-140), 3) := by decide +kernel
theorem dX1_reckon_202 : decode cX1_reckon 202 = .ok (.return_, 1) := by decide +kernel
abbrev cX1_rests : ByteArray := prog_3_method_7_code
def yX1_rests : MethodName := ⟨RX1, "rests", "()Z"⟩
theorem dX1_rests_0 : decode cX1_rests 0 = .ok (.iconst 0, 1) := by decide +kernel
theorem dX1_rests_1 : decode cX1_rests 1 = .ok (.istore_n 1, 1) := by decide +kernel
theorem dX1_rests_2 : decode cX1_rests 2 = .ok (.iload_n 1, 1) := by decide +kernel
theorem dX1_rests_3 : decode cX1_rests 3 = .ok (.aload_n 0, 1) := by decide +kernel
theorem dX1_rests_4 : decode cX1_rests 4 = .ok (.getfield 22, 3) := by decide +kernel
theorem dX1_rests_7 : decode cX1_rests 7 = .ok (.if_icmp .ge 21, 3) := by decide +kernel
theorem dX1_rests_10 : decode cX1_rests 10 = .ok (.aload_n 0, 1) := by decide +kernel
theorem dX1_rests_11 : decode cX1_rests 11 = .ok (.getfield 29, 3) := by decide +kernel
theorem dX1_rests_14 : decode cX1_rests 14 = .ok (.aload_n 0, 1) := by decide +kernel
theorem dX1_rests_15 : decode cX1_rests 15 = .ok (.getfield 26, 3) := by decide +kernel
theorem dX1_rests_18 : decode cX1_rests 18 = .ok (.iload_n 1, 1) := by decide +kernel
theorem dX1_rests_19 : decode cX1_rests 19 = .ok (.iaload, 1) := by decide +kernel
theorem dX1_rests_20 : decode cX1_rests 20 = .ok (.iload_n 1, 1) := by decide +kernel
theorem dX1_rests_21 : decode cX1_rests 21 = .ok (.iastore, 1) := by decide +kernel
theorem dX1_rests_22 : decode cX1_rests 22 = .ok (.iinc 1 1, 3) := by decide +kernel
theorem dX1_rests_25 : decode cX1_rests 25 = .ok (.goto (-23), 3) := by decide +kernel
theorem dX1_rests_28 : decode cX1_rests 28 = .ok (.iconst 0, 1) := by decide +kernel
theorem dX1_rests_29 : decode cX1_rests 29 = .ok (.istore_n 1, 1) := by decide +kernel
theorem dX1_rests_30 : decode cX1_rests 30 = .ok (.iload_n 1, 1) := by decide +kernel
theorem dX1_rests_31 : decode cX1_rests 31 = .ok (.aload_n 0, 1) := by decide +kernel
theorem dX1_rests_32 : decode cX1_rests 32 = .ok (.getfield 22, 3) := by decide +kernel
theorem dX1_rests_35 : decode cX1_rests 35 = .ok (.if_icmp .ge 87, 3) := by decide +kernel
theorem dX1_rests_38 : decode cX1_rests 38 = .ok (.iconst 0, 1) := by decide +kernel
theorem dX1_rests_39 : decode cX1_rests 39 = .ok (.istore_n 2, 1) := by decide +kernel
theorem dX1_rests_40 : decode cX1_rests 40 = .ok (.iload_n 2, 1) := by decide +kernel
theorem dX1_rests_41 : decode cX1_rests 41 = .ok (.aload_n 0, 1) := by decide +kernel
theorem dX1_rests_42 : decode cX1_rests 42 = .ok (.getfield 22, 3) := by decide +kernel
theorem dX1_rests_45 : decode cX1_rests 45 = .ok (.if_icmp .ge 71, 3) := by decide +kernel
theorem dX1_rests_48 : decode cX1_rests 48 = .ok (.aload_n 0, 1) := by decide +kernel
theorem dX1_rests_49 : decode cX1_rests 49 = .ok (.getfield 16, 3) := by decide +kernel
theorem dX1_rests_52 : decode cX1_rests 52 = .ok (.bipush 6, 2) := by decide +kernel
theorem dX1_rests_54 : decode cX1_rests 54 = .ok (.iload_n 1, 1) := by decide +kernel
theorem dX1_rests_55 : decode cX1_rests 55 = .ok (.imul, 1) := by decide +kernel
theorem dX1_rests_56 : decode cX1_rests 56 = .ok (.iload_n 2, 1) := by decide +kernel
theorem dX1_rests_57 : decode cX1_rests 57 = .ok (.iadd, 1) := by decide +kernel
theorem dX1_rests_58 : decode cX1_rests 58 = .ok (.iaload, 1) := by decide +kernel
theorem dX1_rests_59 : decode cX1_rests 59 = .ok (.aload_n 0, 1) := by decide +kernel
theorem dX1_rests_60 : decode cX1_rests 60 = .ok (.getfield 16, 3) := by decide +kernel
theorem dX1_rests_63 : decode cX1_rests 63 = .ok (.bipush 6, 2) := by decide +kernel
theorem dX1_rests_65 : decode cX1_rests 65 = .ok (.iload_n 1, 1) := by decide +kernel
theorem dX1_rests_66 : decode cX1_rests 66 = .ok (.imul, 1) := by decide +kernel
theorem dX1_rests_67 : decode cX1_rests 67 = .ok (.aload_n 0, 1) := by decide +kernel
theorem dX1_rests_68 : decode cX1_rests 68 = .ok (.getfield 26, 3) := by decide +kernel
theorem dX1_rests_71 : decode cX1_rests 71 = .ok (.iload_n 1, 1) := by decide +kernel
theorem dX1_rests_72 : decode cX1_rests 72 = .ok (.iaload, 1) := by decide +kernel
theorem dX1_rests_73 : decode cX1_rests 73 = .ok (.iadd, 1) := by decide +kernel
theorem dX1_rests_74 : decode cX1_rests 74 = .ok (.iaload, 1) := by decide +kernel
theorem dX1_rests_75 : decode cX1_rests 75 = .ok (.if_icmp .ge 35, 3) := by decide +kernel
theorem dX1_rests_78 : decode cX1_rests 78 = .ok (.aload_n 0, 1) := by decide +kernel
theorem dX1_rests_79 : decode cX1_rests 79 = .ok (.getfield 19, 3) := by decide +kernel
theorem dX1_rests_82 : decode cX1_rests 82 = .ok (.bipush 6, 2) := by decide +kernel
theorem dX1_rests_84 : decode cX1_rests 84 = .ok (.iload_n 2, 1) := by decide +kernel
theorem dX1_rests_85 : decode cX1_rests 85 = .ok (.imul, 1) := by decide +kernel
theorem dX1_rests_86 : decode cX1_rests 86 = .ok (.iload_n 1, 1) := by decide +kernel
theorem dX1_rests_87 : decode cX1_rests 87 = .ok (.iadd, 1) := by decide +kernel
theorem dX1_rests_88 : decode cX1_rests 88 = .ok (.iaload, 1) := by decide +kernel
theorem dX1_rests_89 : decode cX1_rests 89 = .ok (.aload_n 0, 1) := by decide +kernel
theorem dX1_rests_90 : decode cX1_rests 90 = .ok (.getfield 19, 3) := by decide +kernel
theorem dX1_rests_93 : decode cX1_rests 93 = .ok (.bipush 6, 2) := by decide +kernel
theorem dX1_rests_95 : decode cX1_rests 95 = .ok (.iload_n 2, 1) := by decide +kernel
theorem dX1_rests_96 : decode cX1_rests 96 = .ok (.imul, 1) := by decide +kernel
theorem dX1_rests_97 : decode cX1_rests 97 = .ok (.aload_n 0, 1) := by decide +kernel
theorem dX1_rests_98 : decode cX1_rests 98 = .ok (.getfield 29, 3) := by decide +kernel
theorem dX1_rests_101 : decode cX1_rests 101 = .ok (.iload_n 2, 1) := by decide +kernel
theorem dX1_rests_102 : decode cX1_rests 102 = .ok (.iaload, 1) := by decide +kernel
theorem dX1_rests_103 : decode cX1_rests 103 = .ok (.iadd, 1) := by decide +kernel
theorem dX1_rests_104 : decode cX1_rests 104 = .ok (.iaload, 1) := by decide +kernel
theorem dX1_rests_105 : decode cX1_rests 105 = .ok (.if_icmp .ge 5, 3) := by decide +kernel
theorem dX1_rests_108 : decode cX1_rests 108 = .ok (.iconst 0, 1) := by decide +kernel
theorem dX1_rests_109 : decode cX1_rests 109 = .ok (.ireturn, 1) := by decide +kernel
theorem dX1_rests_110 : decode cX1_rests 110 = .ok (.iinc 2 1, 3) := by decide +kernel
theorem dX1_rests_113 : decode cX1_rests 113 = .ok (.goto (-73), 3) := by decide +kernel
theorem dX1_rests_116 : decode cX1_rests 116 = .ok (.iinc 1 1, 3) := by decide +kernel
theorem dX1_rests_119 : decode cX1_rests 119 = .ok (.goto (-89), 3) := by decide +kernel
theorem dX1_rests_122 : decode cX1_rests 122 = .ok (.iconst 1, 1) := by decide +kernel
theorem dX1_rests_123 : decode cX1_rests 123 = .ok (.ireturn, 1) := by decide +kernel
abbrev cX1_partner : ByteArray := prog_3_method_10_code
def yX1_partner : MethodName := ⟨RX1, "partner", "(I)I"⟩
theorem dX1_partner_0 : decode cX1_partner 0 = .ok (.aload_n 0, 1) := by decide +kernel
theorem dX1_partner_1 : decode cX1_partner 1 = .ok (.invokevirtual 64, 3) := by decide +kernel
theorem dX1_partner_4 : decode cX1_partner 4 = .ok (.iload_n 1, 1) := by decide +kernel
theorem dX1_partner_5 : decode cX1_partner 5 = .ok (.ldc 45, 2) := by decide +kernel
theorem dX1_partner_7 : decode cX1_partner 7 = .ok (.iand, 1) := by decide +kernel
theorem dX1_partner_8 : decode cX1_partner 8 = .ok (.aload_n 0, 1) := by decide +kernel
theorem dX1_partner_9 : decode cX1_partner 9 = .ok (.getfield 22, 3) := by decide +kernel
theorem dX1_partner_12 : decode cX1_partner 12 = .ok (.irem, 1) := by decide +kernel
theorem dX1_partner_13 : decode cX1_partner 13 = .ok (.istore_n 2, 1) := by decide +kernel
theorem dX1_partner_14 : decode cX1_partner 14 = .ok (.aload_n 0, 1) := by decide +kernel
theorem dX1_partner_15 : decode cX1_partner 15 = .ok (.getfield 7, 3) := by decide +kernel
theorem dX1_partner_18 : decode cX1_partner 18 = .ok (.bipush 6, 2) := by decide +kernel
theorem dX1_partner_20 : decode cX1_partner 20 = .ok (.iload_n 2, 1) := by decide +kernel
theorem dX1_partner_21 : decode cX1_partner 21 = .ok (.imul, 1) := by decide +kernel
theorem dX1_partner_22 : decode cX1_partner 22 = .ok (.aload_n 0, 1) := by decide +kernel
theorem dX1_partner_23 : decode cX1_partner 23 = .ok (.getfield 35, 3) := by decide +kernel
theorem dX1_partner_26 : decode cX1_partner 26 = .ok (.iload_n 2, 1) := by decide +kernel
theorem dX1_partner_27 : decode cX1_partner 27 = .ok (.iaload, 1) := by decide +kernel
theorem dX1_partner_28 : decode cX1_partner 28 = .ok (.iadd, 1) := by decide +kernel
theorem dX1_partner_29 : decode cX1_partner 29 = .ok (.iaload, 1) := by decide +kernel
theorem dX1_partner_30 : decode cX1_partner 30 = .ok (.ireturn, 1) := by decide +kernel
abbrev cX1_other : ByteArray := prog_3_method_11_code
def yX1_other : MethodName := ⟨RX1, "other", "(I)I"⟩
theorem dX1_other_0 : decode cX1_other 0 = .ok (.aload_n 0, 1) := by decide +kernel
theorem dX1_other_1 : decode cX1_other 1 = .ok (.invokevirtual 64, 3) := by decide +kernel
theorem dX1_other_4 : decode cX1_other 4 = .ok (.iload_n 1, 1) := by decide +kernel
theorem dX1_other_5 : decode cX1_other 5 = .ok (.ldc 45, 2) := by decide +kernel
theorem dX1_other_7 : decode cX1_other 7 = .ok (.iand, 1) := by decide +kernel
theorem dX1_other_8 : decode cX1_other 8 = .ok (.aload_n 0, 1) := by decide +kernel
theorem dX1_other_9 : decode cX1_other 9 = .ok (.getfield 22, 3) := by decide +kernel
theorem dX1_other_12 : decode cX1_other 12 = .ok (.irem, 1) := by decide +kernel
theorem dX1_other_13 : decode cX1_other 13 = .ok (.istore_n 2, 1) := by decide +kernel
theorem dX1_other_14 : decode cX1_other 14 = .ok (.aload_n 0, 1) := by decide +kernel
theorem dX1_other_15 : decode cX1_other 15 = .ok (.getfield 13, 3) := by decide +kernel
theorem dX1_other_18 : decode cX1_other 18 = .ok (.bipush 6, 2) := by decide +kernel
theorem dX1_other_20 : decode cX1_other 20 = .ok (.iload_n 2, 1) := by decide +kernel
theorem dX1_other_21 : decode cX1_other 21 = .ok (.imul, 1) := by decide +kernel
theorem dX1_other_22 : decode cX1_other 22 = .ok (.aload_n 0, 1) := by decide +kernel
theorem dX1_other_23 : decode cX1_other 23 = .ok (.getfield 38, 3) := by decide +kernel
theorem dX1_other_26 : decode cX1_other 26 = .ok (.iload_n 2, 1) := by decide +kernel
theorem dX1_other_27 : decode cX1_other 27 = .ok (.iaload, 1) := by decide +kernel
theorem dX1_other_28 : decode cX1_other 28 = .ok (.iadd, 1) := by decide +kernel
theorem dX1_other_29 : decode cX1_other 29 = .ok (.iaload, 1) := by decide +kernel
theorem dX1_other_30 : decode cX1_other 30 = .ok (.ireturn, 1) := by decide +kernel
abbrev cX1_steady : ByteArray := prog_3_method_12_code
def yX1_steady : MethodName := ⟨RX1, "steady", "(I)Z"⟩
theorem dX1_steady_0 : decode cX1_steady 0 = .ok (.aload_n 0, 1) := by decide +kernel
theorem dX1_steady_1 : decode cX1_steady 1 = .ok (.iload_n 1, 1) := by decide +kernel
theorem dX1_steady_2 : decode cX1_steady 2 = .ok (.ldc 45, 2) := by decide +kernel
theorem dX1_steady_4 : decode cX1_steady 4 = .ok (.iand, 1) := by decide +kernel
theorem dX1_steady_5 : decode cX1_steady 5 = .ok (.aload_n 0, 1) := by decide +kernel
theorem dX1_steady_6 : decode cX1_steady 6 = .ok (.invokevirtual 50, 3) := by decide +kernel
theorem dX1_steady_9 : decode cX1_steady 9 = .ok (.irem, 1) := by decide +kernel
theorem dX1_steady_10 : decode cX1_steady 10 = .ok (.invokevirtual 54, 3) := by decide +kernel
theorem dX1_steady_13 : decode cX1_steady 13 = .ok (.aload_n 0, 1) := by decide +kernel
theorem dX1_steady_14 : decode cX1_steady 14 = .ok (.invokevirtual 60, 3) := by decide +kernel
theorem dX1_steady_17 : decode cX1_steady 17 = .ok (.ireturn, 1) := by decide +kernel
theorem q16 : (Jvm.Cond.initialized "SuitDeskModel") ∈ lw_all := lw_g (lw_at lw_m0 2 rfl) rfl
theorem q138 : (Jvm.Cond.instantiable "SuitDeskModel" (12 : Nat)) ∈ lw_all := lw_g (lw_at lw_m0 124 rfl) rfl
theorem q140 : (Jvm.Cond.instanceMethod ({ cls := "SuitDeskModel", name := "<init>", desc := "()V" } : Jvm.MethodName)) ∈ lw_all := lw_g (lw_at lw_m0 126 rfl) rfl
theorem q141 : (Jvm.Cond.code ({ cls := "SuitDeskModel", name := "<init>", desc := "()V" } : Jvm.MethodName) prog_3_method_1_code (1 : Nat) (Option.none : Option Jvm.ClassFile.FieldType)) ∈ lw_all := lw_g (lw_at lw_m0 127 rfl) rfl
theorem q142 : (Jvm.Cond.methodLink "SuitDeskModel" (1 : Nat) ({ cls := "java/lang/Object", name := "<init>", desc := "()V" } : Jvm.MethodName)) ∈ lw_all := lw_g (lw_at lw_m0 128 rfl) rfl
theorem q143 : (Jvm.Cond.methodLink "SuitDeskModel" (41 : Nat) ({ cls := "SuitDeskModel", name := "size", desc := "(I)V" } : Jvm.MethodName)) ∈ lw_all := lw_g (lw_at lw_m0 129 rfl) rfl
theorem q144 : (Jvm.Cond.instanceMethod ({ cls := "SuitDeskModel", name := "size", desc := "(I)V" } : Jvm.MethodName)) ∈ lw_all := lw_g (lw_at lw_m0 130 rfl) rfl
theorem q145 : (Jvm.Cond.selects "SuitDeskModel" ({ cls := "SuitDeskModel", name := "size", desc := "(I)V" } : Jvm.MethodName) ({ cls := "SuitDeskModel", name := "size", desc := "(I)V" } : Jvm.MethodName)) ∈ lw_all := lw_g (lw_at lw_m0 131 rfl) rfl
theorem q146 : (Jvm.Cond.code ({ cls := "SuitDeskModel", name := "size", desc := "(I)V" } : Jvm.MethodName) prog_3_method_2_code (3 : Nat) (Option.none : Option Jvm.ClassFile.FieldType)) ∈ lw_all := lw_g (lw_at lw_m0 132 rfl) rfl
theorem q147 : (Jvm.Cond.constant "SuitDeskModel" (45 : Nat) (2147483647 : Int32)) ∈ lw_all := lw_g (lw_at lw_m0 133 rfl) rfl
theorem q148 : (Jvm.Cond.fieldLink "SuitDeskModel" (7 : Nat) "SuitDeskModel" "likes" "[I") ∈ lw_all := lw_g (lw_at lw_m0 134 rfl) rfl
theorem q149 : (Jvm.Cond.fieldLink "SuitDeskModel" (13 : Nat) "SuitDeskModel" "liked" "[I") ∈ lw_all := lw_g (lw_at lw_m0 135 rfl) rfl
theorem q150 : (Jvm.Cond.fieldLink "SuitDeskModel" (16 : Nat) "SuitDeskModel" "place" "[I") ∈ lw_all := lw_g (lw_at lw_m0 136 rfl) rfl
theorem q151 : (Jvm.Cond.fieldLink "SuitDeskModel" (19 : Nat) "SuitDeskModel" "placed" "[I") ∈ lw_all := lw_g (lw_at lw_m0 137 rfl) rfl
theorem q152 : (Jvm.Cond.fieldLink "SuitDeskModel" (22 : Nat) "SuitDeskModel" "n" "I") ∈ lw_all := lw_g (lw_at lw_m0 138 rfl) rfl
theorem q153 : (Jvm.Cond.fieldLink "SuitDeskModel" (46 : Nat) "SuitDeskModel" "known" "Z") ∈ lw_all := lw_g (lw_at lw_m0 139 rfl) rfl
theorem q154 : (Jvm.Cond.fieldLink "SuitDeskModel" (26 : Nat) "SuitDeskModel" "p" "[I") ∈ lw_all := lw_g (lw_at lw_m0 140 rfl) rfl
theorem q155 : (Jvm.Cond.fieldLink "SuitDeskModel" (29 : Nat) "SuitDeskModel" "mate" "[I") ∈ lw_all := lw_g (lw_at lw_m0 141 rfl) rfl
theorem q156 : (Jvm.Cond.fieldLink "SuitDeskModel" (32 : Nat) "SuitDeskModel" "left" "[I") ∈ lw_all := lw_g (lw_at lw_m0 142 rfl) rfl
theorem q157 : (Jvm.Cond.fieldLink "SuitDeskModel" (35 : Nat) "SuitDeskModel" "best" "[I") ∈ lw_all := lw_g (lw_at lw_m0 143 rfl) rfl
theorem q158 : (Jvm.Cond.fieldLink "SuitDeskModel" (38 : Nat) "SuitDeskModel" "good" "[I") ∈ lw_all := lw_g (lw_at lw_m0 144 rfl) rfl
theorem q159 : (Jvm.Cond.fieldLink "SuitDeskModel" (57 : Nat) "SuitDeskModel" "resting" "I") ∈ lw_all := lw_g (lw_at lw_m0 145 rfl) rfl
theorem q160 : (Jvm.Cond.laysFinal "SuitDeskModel" "SuitDeskModel" "likes" "[I") ∈ lw_all := lw_g (lw_at lw_m0 146 rfl) rfl
theorem q161 : (Jvm.Cond.soleField "SuitDeskModel" "likes") ∈ lw_all := lw_g (lw_at lw_m0 147 rfl) rfl
theorem q162 : (Jvm.Cond.laysFinal "SuitDeskModel" "SuitDeskModel" "liked" "[I") ∈ lw_all := lw_g (lw_at lw_m0 148 rfl) rfl
theorem q163 : (Jvm.Cond.soleField "SuitDeskModel" "liked") ∈ lw_all := lw_g (lw_at lw_m0 149 rfl) rfl
theorem q164 : (Jvm.Cond.laysFinal "SuitDeskModel" "SuitDeskModel" "place" "[I") ∈ lw_all := lw_g (lw_at lw_m0 150 rfl) rfl
theorem q165 : (Jvm.Cond.soleField "SuitDeskModel" "place") ∈ lw_all := lw_g (lw_at lw_m0 151 rfl) rfl
theorem q166 : (Jvm.Cond.laysFinal "SuitDeskModel" "SuitDeskModel" "placed" "[I") ∈ lw_all := lw_g (lw_at lw_m0 152 rfl) rfl
theorem q167 : (Jvm.Cond.soleField "SuitDeskModel" "placed") ∈ lw_all := lw_g (lw_at lw_m0 153 rfl) rfl
theorem q168 : (Jvm.Cond.lays "SuitDeskModel" "SuitDeskModel" "n" "I") ∈ lw_all := lw_g (lw_at lw_m0 154 rfl) rfl
theorem q169 : (Jvm.Cond.soleField "SuitDeskModel" "n") ∈ lw_all := lw_g (lw_at lw_m0 155 rfl) rfl
theorem q170 : (Jvm.Cond.lays "SuitDeskModel" "SuitDeskModel" "known" "Z") ∈ lw_all := lw_g (lw_at lw_m0 156 rfl) rfl
theorem q171 : (Jvm.Cond.soleField "SuitDeskModel" "known") ∈ lw_all := lw_g (lw_at lw_m0 157 rfl) rfl
theorem q172 : (Jvm.Cond.laysFinal "SuitDeskModel" "SuitDeskModel" "p" "[I") ∈ lw_all := lw_g (lw_at lw_m0 158 rfl) rfl
theorem q173 : (Jvm.Cond.soleField "SuitDeskModel" "p") ∈ lw_all := lw_g (lw_at lw_m0 159 rfl) rfl
theorem q174 : (Jvm.Cond.laysFinal "SuitDeskModel" "SuitDeskModel" "mate" "[I") ∈ lw_all := lw_g (lw_at lw_m0 160 rfl) rfl
theorem q175 : (Jvm.Cond.soleField "SuitDeskModel" "mate") ∈ lw_all := lw_g (lw_at lw_m0 161 rfl) rfl
theorem q176 : (Jvm.Cond.laysFinal "SuitDeskModel" "SuitDeskModel" "left" "[I") ∈ lw_all := lw_g (lw_at lw_m0 162 rfl) rfl
theorem q177 : (Jvm.Cond.soleField "SuitDeskModel" "left") ∈ lw_all := lw_g (lw_at lw_m0 163 rfl) rfl
theorem q178 : (Jvm.Cond.laysFinal "SuitDeskModel" "SuitDeskModel" "best" "[I") ∈ lw_all := lw_g (lw_at lw_m0 164 rfl) rfl
theorem q179 : (Jvm.Cond.soleField "SuitDeskModel" "best") ∈ lw_all := lw_g (lw_at lw_m0 165 rfl) rfl
theorem q180 : (Jvm.Cond.laysFinal "SuitDeskModel" "SuitDeskModel" "good" "[I") ∈ lw_all := lw_g (lw_at lw_m0 166 rfl) rfl
theorem q181 : (Jvm.Cond.soleField "SuitDeskModel" "good") ∈ lw_all := lw_g (lw_at lw_m0 167 rfl) rfl
theorem q182 : (Jvm.Cond.lays "SuitDeskModel" "SuitDeskModel" "resting" "I") ∈ lw_all := lw_g (lw_at lw_m0 168 rfl) rfl
theorem q183 : (Jvm.Cond.soleField "SuitDeskModel" "resting") ∈ lw_all := lw_g (lw_at lw_m0 169 rfl) rfl
theorem q184 : (Jvm.Cond.superclass "SuitDeskModel" "java/lang/Object") ∈ lw_all := lw_g (lw_at lw_m0 170 rfl) rfl
theorem q187 : (Jvm.Cond.instanceMethod ({ cls := "SuitDeskModel", name := "left", desc := "(II)V" } : Jvm.MethodName)) ∈ lw_all := lw_g (lw_at lw_m0 173 rfl) rfl
theorem q188 : (Jvm.Cond.selects "SuitDeskModel" ({ cls := "SuitDeskModel", name := "left", desc := "(II)V" } : Jvm.MethodName) ({ cls := "SuitDeskModel", name := "left", desc := "(II)V" } : Jvm.MethodName)) ∈ lw_all := lw_g (lw_at lw_m0 174 rfl) rfl
theorem q189 : (Jvm.Cond.code ({ cls := "SuitDeskModel", name := "left", desc := "(II)V" } : Jvm.MethodName) prog_3_method_5_code (5 : Nat) (Option.none : Option Jvm.ClassFile.FieldType)) ∈ lw_all := lw_g (lw_at lw_m0 175 rfl) rfl
theorem q190 : (Jvm.Cond.methodLink "SuitDeskModel" (50 : Nat) ({ cls := "SuitDeskModel", name := "orders", desc := "()I" } : Jvm.MethodName)) ∈ lw_all := lw_g (lw_at lw_m0 176 rfl) rfl
theorem q191 : (Jvm.Cond.privateMethod ({ cls := "SuitDeskModel", name := "orders", desc := "()I" } : Jvm.MethodName)) ∈ lw_tbl := lw_at lw_m0 177 rfl
theorem q192 : (Jvm.Cond.instanceMethod ({ cls := "SuitDeskModel", name := "orders", desc := "()I" } : Jvm.MethodName)) ∈ lw_all := lw_g (lw_at lw_m0 178 rfl) rfl
theorem q193 : (Jvm.Cond.code ({ cls := "SuitDeskModel", name := "orders", desc := "()I" } : Jvm.MethodName) prog_3_method_4_code (3 : Nat) (Option.some Jvm.ClassFile.FieldType.int)) ∈ lw_all := lw_g (lw_at lw_m0 179 rfl) rfl
theorem q194 : (Jvm.Cond.methodLink "SuitDeskModel" (54 : Nat) ({ cls := "SuitDeskModel", name := "order", desc := "(I)V" } : Jvm.MethodName)) ∈ lw_all := lw_g (lw_at lw_m0 180 rfl) rfl
theorem q195 : (Jvm.Cond.privateMethod ({ cls := "SuitDeskModel", name := "order", desc := "(I)V" } : Jvm.MethodName)) ∈ lw_tbl := lw_at lw_m0 181 rfl
theorem q196 : (Jvm.Cond.instanceMethod ({ cls := "SuitDeskModel", name := "order", desc := "(I)V" } : Jvm.MethodName)) ∈ lw_all := lw_g (lw_at lw_m0 182 rfl) rfl
theorem q197 : (Jvm.Cond.code ({ cls := "SuitDeskModel", name := "order", desc := "(I)V" } : Jvm.MethodName) prog_3_method_3_code (7 : Nat) (Option.none : Option Jvm.ClassFile.FieldType)) ∈ lw_all := lw_g (lw_at lw_m0 183 rfl) rfl
theorem q199 : (Jvm.Cond.instanceMethod ({ cls := "SuitDeskModel", name := "right", desc := "(II)V" } : Jvm.MethodName)) ∈ lw_all := lw_g (lw_at lw_m0 185 rfl) rfl
theorem q200 : (Jvm.Cond.selects "SuitDeskModel" ({ cls := "SuitDeskModel", name := "right", desc := "(II)V" } : Jvm.MethodName) ({ cls := "SuitDeskModel", name := "right", desc := "(II)V" } : Jvm.MethodName)) ∈ lw_all := lw_g (lw_at lw_m0 186 rfl) rfl
theorem q201 : (Jvm.Cond.code ({ cls := "SuitDeskModel", name := "right", desc := "(II)V" } : Jvm.MethodName) prog_3_method_6_code (5 : Nat) (Option.none : Option Jvm.ClassFile.FieldType)) ∈ lw_all := lw_g (lw_at lw_m0 187 rfl) rfl
theorem q203 : (Jvm.Cond.instanceMethod ({ cls := "SuitDeskModel", name := "steadyOnes", desc := "()I" } : Jvm.MethodName)) ∈ lw_all := lw_g (lw_at lw_m0 189 rfl) rfl
theorem q204 : (Jvm.Cond.selects "SuitDeskModel" ({ cls := "SuitDeskModel", name := "steadyOnes", desc := "()I" } : Jvm.MethodName) ({ cls := "SuitDeskModel", name := "steadyOnes", desc := "()I" } : Jvm.MethodName)) ∈ lw_all := lw_g (lw_at lw_m0 190 rfl) rfl
theorem q205 : (Jvm.Cond.code ({ cls := "SuitDeskModel", name := "steadyOnes", desc := "()I" } : Jvm.MethodName) prog_3_method_9_code (1 : Nat) (Option.some Jvm.ClassFile.FieldType.int)) ∈ lw_all := lw_g (lw_at lw_m0 191 rfl) rfl
theorem q206 : (Jvm.Cond.methodLink "SuitDeskModel" (64 : Nat) ({ cls := "SuitDeskModel", name := "reckon", desc := "()V" } : Jvm.MethodName)) ∈ lw_all := lw_g (lw_at lw_m0 192 rfl) rfl
theorem q207 : (Jvm.Cond.privateMethod ({ cls := "SuitDeskModel", name := "reckon", desc := "()V" } : Jvm.MethodName)) ∈ lw_tbl := lw_at lw_m0 193 rfl
theorem q208 : (Jvm.Cond.instanceMethod ({ cls := "SuitDeskModel", name := "reckon", desc := "()V" } : Jvm.MethodName)) ∈ lw_all := lw_g (lw_at lw_m0 194 rfl) rfl
theorem q209 : (Jvm.Cond.code ({ cls := "SuitDeskModel", name := "reckon", desc := "()V" } : Jvm.MethodName) prog_3_method_8_code (4 : Nat) (Option.none : Option Jvm.ClassFile.FieldType)) ∈ lw_all := lw_g (lw_at lw_m0 195 rfl) rfl
theorem q210 : (Jvm.Cond.methodLink "SuitDeskModel" (60 : Nat) ({ cls := "SuitDeskModel", name := "rests", desc := "()Z" } : Jvm.MethodName)) ∈ lw_all := lw_g (lw_at lw_m0 196 rfl) rfl
theorem q211 : (Jvm.Cond.privateMethod ({ cls := "SuitDeskModel", name := "rests", desc := "()Z" } : Jvm.MethodName)) ∈ lw_tbl := lw_at lw_m0 197 rfl
theorem q212 : (Jvm.Cond.instanceMethod ({ cls := "SuitDeskModel", name := "rests", desc := "()Z" } : Jvm.MethodName)) ∈ lw_all := lw_g (lw_at lw_m0 198 rfl) rfl
theorem q213 : (Jvm.Cond.code ({ cls := "SuitDeskModel", name := "rests", desc := "()Z" } : Jvm.MethodName) prog_3_method_7_code (3 : Nat) (Option.some Jvm.ClassFile.FieldType.boolean)) ∈ lw_all := lw_g (lw_at lw_m0 199 rfl) rfl
theorem q215 : (Jvm.Cond.instanceMethod ({ cls := "SuitDeskModel", name := "partner", desc := "(I)I" } : Jvm.MethodName)) ∈ lw_all := lw_g (lw_at lw_m0 201 rfl) rfl
theorem q216 : (Jvm.Cond.selects "SuitDeskModel" ({ cls := "SuitDeskModel", name := "partner", desc := "(I)I" } : Jvm.MethodName) ({ cls := "SuitDeskModel", name := "partner", desc := "(I)I" } : Jvm.MethodName)) ∈ lw_all := lw_g (lw_at lw_m0 202 rfl) rfl
theorem q217 : (Jvm.Cond.code ({ cls := "SuitDeskModel", name := "partner", desc := "(I)I" } : Jvm.MethodName) prog_3_method_10_code (3 : Nat) (Option.some Jvm.ClassFile.FieldType.int)) ∈ lw_all := lw_g (lw_at lw_m0 203 rfl) rfl
theorem q219 : (Jvm.Cond.instanceMethod ({ cls := "SuitDeskModel", name := "other", desc := "(I)I" } : Jvm.MethodName)) ∈ lw_all := lw_g (lw_at lw_m0 205 rfl) rfl
theorem q220 : (Jvm.Cond.selects "SuitDeskModel" ({ cls := "SuitDeskModel", name := "other", desc := "(I)I" } : Jvm.MethodName) ({ cls := "SuitDeskModel", name := "other", desc := "(I)I" } : Jvm.MethodName)) ∈ lw_all := lw_g (lw_at lw_m0 206 rfl) rfl
theorem q221 : (Jvm.Cond.code ({ cls := "SuitDeskModel", name := "other", desc := "(I)I" } : Jvm.MethodName) prog_3_method_11_code (3 : Nat) (Option.some Jvm.ClassFile.FieldType.int)) ∈ lw_all := lw_g (lw_at lw_m0 207 rfl) rfl
theorem q223 : (Jvm.Cond.instanceMethod ({ cls := "SuitDeskModel", name := "steady", desc := "(I)Z" } : Jvm.MethodName)) ∈ lw_all := lw_g (lw_at lw_m0 209 rfl) rfl
theorem q224 : (Jvm.Cond.selects "SuitDeskModel" ({ cls := "SuitDeskModel", name := "steady", desc := "(I)Z" } : Jvm.MethodName) ({ cls := "SuitDeskModel", name := "steady", desc := "(I)Z" } : Jvm.MethodName)) ∈ lw_all := lw_g (lw_at lw_m0 210 rfl) rfl
theorem q225 : (Jvm.Cond.code ({ cls := "SuitDeskModel", name := "steady", desc := "(I)Z" } : Jvm.MethodName) prog_3_method_12_code (2 : Nat) (Option.some Jvm.ClassFile.FieldType.boolean)) ∈ lw_all := lw_g (lw_at lw_m0 211 rfl) rfl
theorem in_X1 : ∀ w ∈ wsX10, w ∈ lw_all := lw_in wsX10 [160, 162, 164, 166, 168, 170, 172, 174, 176, 178, 180, 182] (by decide +kernel) (by decide +kernel)
end
section
/-! java/util/Arrays -/
set_option maxRecDepth 100000
def RJ0 : String := "java/util/Arrays"
abbrev cJ0_fill : ByteArray := prog_4_method_103_code
def yJ0_fill : MethodName := ⟨RJ0, "fill", "([II)V"⟩
theorem dJ0_fill_0 : decode cJ0_fill 0 = .ok (.iconst 0, 1) := by decide +kernel
theorem dJ0_fill_1 : decode cJ0_fill 1 = .ok (.istore_n 2, 1) := by decide +kernel
theorem dJ0_fill_2 : decode cJ0_fill 2 = .ok (.aload_n 0, 1) := by decide +kernel
theorem dJ0_fill_3 : decode cJ0_fill 3 = .ok (.arraylength, 1) := by decide +kernel
theorem dJ0_fill_4 : decode cJ0_fill 4 = .ok (.istore_n 3, 1) := by decide +kernel
theorem dJ0_fill_5 : decode cJ0_fill 5 = .ok (.iload_n 2, 1) := by decide +kernel
theorem dJ0_fill_6 : decode cJ0_fill 6 = .ok (.iload_n 3, 1) := by decide +kernel
theorem dJ0_fill_7 : decode cJ0_fill 7 = .ok (.if_icmp .ge 13, 3) := by decide +kernel
theorem dJ0_fill_10 : decode cJ0_fill 10 = .ok (.aload_n 0, 1) := by decide +kernel
theorem dJ0_fill_11 : decode cJ0_fill 11 = .ok (.iload_n 2, 1) := by decide +kernel
theorem dJ0_fill_12 : decode cJ0_fill 12 = .ok (.iload_n 1, 1) := by decide +kernel
theorem dJ0_fill_13 : decode cJ0_fill 13 = .ok (.iastore, 1) := by decide +kernel
theorem dJ0_fill_14 : decode cJ0_fill 14 = .ok (.iinc 2 1, 3) := by decide +kernel
theorem dJ0_fill_17 : decode cJ0_fill 17 = .ok (.goto (-12), 3) := by decide +kernel
theorem dJ0_fill_20 : decode cJ0_fill 20 = .ok (.return_, 1) := by decide +kernel
abbrev cJ0_fill_2 : ByteArray := prog_4_method_111_code
def yJ0_fill_2 : MethodName := ⟨RJ0, "fill", "([ZZ)V"⟩
theorem dJ0_fill_2_0 : decode cJ0_fill_2 0 = .ok (.iconst 0, 1) := by decide +kernel
theorem dJ0_fill_2_1 : decode cJ0_fill_2 1 = .ok (.istore_n 2, 1) := by decide +kernel
theorem dJ0_fill_2_2 : decode cJ0_fill_2 2 = .ok (.aload_n 0, 1) := by decide +kernel
theorem dJ0_fill_2_3 : decode cJ0_fill_2 3 = .ok (.arraylength, 1) := by decide +kernel
theorem dJ0_fill_2_4 : decode cJ0_fill_2 4 = .ok (.istore_n 3, 1) := by decide +kernel
theorem dJ0_fill_2_5 : decode cJ0_fill_2 5 = .ok (.iload_n 2, 1) := by decide +kernel
theorem dJ0_fill_2_6 : decode cJ0_fill_2 6 = .ok (.iload_n 3, 1) := by decide +kernel
theorem dJ0_fill_2_7 : decode cJ0_fill_2 7 = .ok (.if_icmp .ge 13, 3) := by decide +kernel
theorem dJ0_fill_2_10 : decode cJ0_fill_2 10 = .ok (.aload_n 0, 1) := by decide +kernel
theorem dJ0_fill_2_11 : decode cJ0_fill_2 11 = .ok (.iload_n 2, 1) := by decide +kernel
theorem dJ0_fill_2_12 : decode cJ0_fill_2 12 = .ok (.iload_n 1, 1) := by decide +kernel
theorem dJ0_fill_2_13 : decode cJ0_fill_2 13 = .ok (.bastore, 1) := by decide +kernel
theorem dJ0_fill_2_14 : decode cJ0_fill_2 14 = .ok (.iinc 2 1, 3) := by decide +kernel
theorem dJ0_fill_2_17 : decode cJ0_fill_2 17 = .ok (.goto (-12), 3) := by decide +kernel
theorem dJ0_fill_2_20 : decode cJ0_fill_2 20 = .ok (.return_, 1) := by decide +kernel
theorem q17 : (Jvm.Cond.initialized "java/util/Arrays") ∈ lw_all := lw_g (lw_at lw_m0 3 rfl) rfl
theorem q104 : (Jvm.Cond.static ({ cls := "java/util/Arrays", name := "fill", desc := "([II)V" } : Jvm.MethodName)) ∈ lw_all := lw_g (lw_at lw_m0 90 rfl) rfl
theorem q105 : (Jvm.Cond.code ({ cls := "java/util/Arrays", name := "fill", desc := "([II)V" } : Jvm.MethodName) prog_4_method_103_code (4 : Nat) (Option.none : Option Jvm.ClassFile.FieldType)) ∈ lw_all := lw_g (lw_at lw_m0 91 rfl) rfl
theorem q115 : (Jvm.Cond.static ({ cls := "java/util/Arrays", name := "fill", desc := "([ZZ)V" } : Jvm.MethodName)) ∈ lw_all := lw_g (lw_at lw_m0 101 rfl) rfl
theorem q116 : (Jvm.Cond.code ({ cls := "java/util/Arrays", name := "fill", desc := "([ZZ)V" } : Jvm.MethodName) prog_4_method_111_code (4 : Nat) (Option.none : Option Jvm.ClassFile.FieldType)) ∈ lw_all := lw_g (lw_at lw_m0 102 rfl) rfl
/-! java/lang/Object -/
set_option maxRecDepth 100000
def RJ1 : String := "java/lang/Object"
abbrev cJ1_init : ByteArray := object_method_1_code
def yJ1_init : MethodName := ⟨RJ1, "<init>", "()V"⟩
theorem dJ1_init_0 : decode cJ1_init 0 = .ok (.return_, 1) := by decide +kernel
theorem q24 : (Jvm.Cond.instanceMethod ({ cls := "java/lang/Object", name := "<init>", desc := "()V" } : Jvm.MethodName)) ∈ lw_all := lw_g (lw_at lw_m0 10 rfl) rfl
theorem q25 : (Jvm.Cond.code ({ cls := "java/lang/Object", name := "<init>", desc := "()V" } : Jvm.MethodName) object_method_1_code (1 : Nat) (Option.none : Option Jvm.ClassFile.FieldType)) ∈ lw_all := lw_g (lw_at lw_m0 11 rfl) rfl
/-! the law's own entry -/
set_option maxRecDepth 100000
abbrev cL_law : ByteArray := code
theorem dL_law_0 : decode cL_law 0 = .ok (.new 7, 3) := by decide +kernel
theorem dL_law_3 : decode cL_law 3 = .ok (.dup, 1) := by decide +kernel
theorem dL_law_4 : decode cL_law 4 = .ok (.invokespecial 9, 3) := by decide +kernel
theorem dL_law_7 : decode cL_law 7 = .ok (.astore_n 1, 1) := by decide +kernel
theorem dL_law_8 : decode cL_law 8 = .ok (.new 10, 3) := by decide +kernel
theorem dL_law_11 : decode cL_law 11 = .ok (.dup, 1) := by decide +kernel
theorem dL_law_12 : decode cL_law 12 = .ok (.invokespecial 12, 3) := by decide +kernel
theorem dL_law_15 : decode cL_law 15 = .ok (.astore_n 2, 1) := by decide +kernel
theorem dL_law_16 : decode cL_law 16 = .ok (.iconst 0, 1) := by decide +kernel
theorem dL_law_17 : decode cL_law 17 = .ok (.istore_n 3, 1) := by decide +kernel
theorem dL_law_18 : decode cL_law 18 = .ok (.iload_n 3, 1) := by decide +kernel
theorem dL_law_19 : decode cL_law 19 = .ok (.aload_n 0, 1) := by decide +kernel
theorem dL_law_20 : decode cL_law 20 = .ok (.arraylength, 1) := by decide +kernel
theorem dL_law_21 : decode cL_law 21 = .ok (.iconst 3, 1) := by decide +kernel
theorem dL_law_22 : decode cL_law 22 = .ok (.isub, 1) := by decide +kernel
theorem dL_law_23 : decode cL_law 23 = .ok (.if_icmp .gt 224, 3) := by decide +kernel
theorem dL_law_26 : decode cL_law 26 = .ok (.aload_n 0, 1) := by decide +kernel
theorem dL_law_27 : decode cL_law 27 = .ok (.iload_n 3, 1) := by decide +kernel
theorem dL_law_28 : decode cL_law 28 = .ok (.iaload, 1) := by decide +kernel
theorem dL_law_29 : decode cL_law 29 = .ok (.bipush 7, 2) := by decide +kernel
theorem dL_law_31 : decode cL_law 31 = .ok (.iand, 1) := by decide +kernel
theorem dL_law_32 : decode cL_law 32 = .ok (.tableswitch 209 0 6 #[44, 65, 96, 127, 140, 163, 186], 44) := by decide +kernel
theorem dL_law_76 : decode cL_law 76 = .ok (.aload_n 1, 1) := by decide +kernel
theorem dL_law_77 : decode cL_law 77 = .ok (.aload_n 0, 1) := by decide +kernel
theorem dL_law_78 : decode cL_law 78 = .ok (.iload_n 3, 1) := by decide +kernel
theorem dL_law_79 : decode cL_law 79 = .ok (.iconst 1, 1) := by decide +kernel
theorem dL_law_80 : decode cL_law 80 = .ok (.iadd, 1) := by decide +kernel
theorem dL_law_81 : decode cL_law 81 = .ok (.iaload, 1) := by decide +kernel
theorem dL_law_82 : decode cL_law 82 = .ok (.invokevirtual 13, 3) := by decide +kernel
theorem dL_law_85 : decode cL_law 85 = .ok (.aload_n 2, 1) := by decide +kernel
theorem dL_law_86 : decode cL_law 86 = .ok (.aload_n 0, 1) := by decide +kernel
theorem dL_law_87 : decode cL_law 87 = .ok (.iload_n 3, 1) := by decide +kernel
theorem dL_law_88 : decode cL_law 88 = .ok (.iconst 1, 1) := by decide +kernel
theorem dL_law_89 : decode cL_law 89 = .ok (.iadd, 1) := by decide +kernel
theorem dL_law_90 : decode cL_law 90 = .ok (.iaload, 1) := by decide +kernel
theorem dL_law_91 : decode cL_law 91 = .ok (.invokevirtual 17, 3) := by decide +kernel
theorem dL_law_94 : decode cL_law 94 = .ok (.goto 147, 3) := by decide +kernel
theorem dL_law_97 : decode cL_law 97 = .ok (.aload_n 1, 1) := by decide +kernel
theorem dL_law_98 : decode cL_law 98 = .ok (.aload_n 0, 1) := by decide +kernel
theorem dL_law_99 : decode cL_law 99 = .ok (.iload_n 3, 1) := by decide +kernel
theorem dL_law_100 : decode cL_law 100 = .ok (.iconst 1, 1) := by decide +kernel
theorem dL_law_101 : decode cL_law 101 = .ok (.iadd, 1) := by decide +kernel
theorem dL_law_102 : decode cL_law 102 = .ok (.iaload, 1) := by decide +kernel
theorem dL_law_103 : decode cL_law 103 = .ok (.aload_n 0, 1) := by decide +kernel
theorem dL_law_104 : decode cL_law 104 = .ok (.iload_n 3, 1) := by decide +kernel
theorem dL_law_105 : decode cL_law 105 = .ok (.iconst 2, 1) := by decide +kernel
theorem dL_law_106 : decode cL_law 106 = .ok (.iadd, 1) := by decide +kernel
theorem dL_law_107 : decode cL_law 107 = .ok (.iaload, 1) := by decide +kernel
theorem dL_law_108 : decode cL_law 108 = .ok (.invokevirtual 18, 3) := by decide +kernel
theorem dL_law_111 : decode cL_law 111 = .ok (.aload_n 2, 1) := by decide +kernel
theorem dL_law_112 : decode cL_law 112 = .ok (.aload_n 0, 1) := by decide +kernel
theorem dL_law_113 : decode cL_law 113 = .ok (.iload_n 3, 1) := by decide +kernel
theorem dL_law_114 : decode cL_law 114 = .ok (.iconst 1, 1) := by decide +kernel
theorem dL_law_115 : decode cL_law 115 = .ok (.iadd, 1) := by decide +kernel
theorem dL_law_116 : decode cL_law 116 = .ok (.iaload, 1) := by decide +kernel
theorem dL_law_117 : decode cL_law 117 = .ok (.aload_n 0, 1) := by decide +kernel
theorem dL_law_118 : decode cL_law 118 = .ok (.iload_n 3, 1) := by decide +kernel
theorem dL_law_119 : decode cL_law 119 = .ok (.iconst 2, 1) := by decide +kernel
theorem dL_law_120 : decode cL_law 120 = .ok (.iadd, 1) := by decide +kernel
theorem dL_law_121 : decode cL_law 121 = .ok (.iaload, 1) := by decide +kernel
theorem dL_law_122 : decode cL_law 122 = .ok (.invokevirtual 22, 3) := by decide +kernel
theorem dL_law_125 : decode cL_law 125 = .ok (.goto 116, 3) := by decide +kernel
theorem dL_law_128 : decode cL_law 128 = .ok (.aload_n 1, 1) := by decide +kernel
theorem dL_law_129 : decode cL_law 129 = .ok (.aload_n 0, 1) := by decide +kernel
theorem dL_law_130 : decode cL_law 130 = .ok (.iload_n 3, 1) := by decide +kernel
theorem dL_law_131 : decode cL_law 131 = .ok (.iconst 1, 1) := by decide +kernel
theorem dL_law_132 : decode cL_law 132 = .ok (.iadd, 1) := by decide +kernel
theorem dL_law_133 : decode cL_law 133 = .ok (.iaload, 1) := by decide +kernel
theorem dL_law_134 : decode cL_law 134 = .ok (.aload_n 0, 1) := by decide +kernel
theorem dL_law_135 : decode cL_law 135 = .ok (.iload_n 3, 1) := by decide +kernel
theorem dL_law_136 : decode cL_law 136 = .ok (.iconst 2, 1) := by decide +kernel
theorem dL_law_137 : decode cL_law 137 = .ok (.iadd, 1) := by decide +kernel
theorem dL_law_138 : decode cL_law 138 = .ok (.iaload, 1) := by decide +kernel
theorem dL_law_139 : decode cL_law 139 = .ok (.invokevirtual 23, 3) := by decide +kernel
theorem dL_law_142 : decode cL_law 142 = .ok (.aload_n 2, 1) := by decide +kernel
theorem dL_law_143 : decode cL_law 143 = .ok (.aload_n 0, 1) := by decide +kernel
theorem dL_law_144 : decode cL_law 144 = .ok (.iload_n 3, 1) := by decide +kernel
theorem dL_law_145 : decode cL_law 145 = .ok (.iconst 1, 1) := by decide +kernel
theorem dL_law_146 : decode cL_law 146 = .ok (.iadd, 1) := by decide +kernel
theorem dL_law_147 : decode cL_law 147 = .ok (.iaload, 1) := by decide +kernel
theorem dL_law_148 : decode cL_law 148 = .ok (.aload_n 0, 1) := by decide +kernel
theorem dL_law_149 : decode cL_law 149 = .ok (.iload_n 3, 1) := by decide +kernel
theorem dL_law_150 : decode cL_law 150 = .ok (.iconst 2, 1) := by decide +kernel
theorem dL_law_151 : decode cL_law 151 = .ok (.iadd, 1) := by decide +kernel
theorem dL_law_152 : decode cL_law 152 = .ok (.iaload, 1) := by decide +kernel
theorem dL_law_153 : decode cL_law 153 = .ok (.invokevirtual 26, 3) := by decide +kernel
theorem dL_law_156 : decode cL_law 156 = .ok (.goto 85, 3) := by decide +kernel
theorem dL_law_159 : decode cL_law 159 = .ok (.aload_n 1, 1) := by decide +kernel
theorem dL_law_160 : decode cL_law 160 = .ok (.invokevirtual 27, 3) := by decide +kernel
theorem dL_law_163 : decode cL_law 163 = .ok (.aload_n 2, 1) := by decide +kernel
theorem dL_law_164 : decode cL_law 164 = .ok (.invokevirtual 31, 3) := by decide +kernel
theorem dL_law_167 : decode cL_law 167 = .ok (.if_icmp .eq 74, 3) := by decide +kernel
theorem dL_law_170 : decode cL_law 170 = .ok (.iconst 0, 1) := by decide +kernel
theorem dL_law_171 : decode cL_law 171 = .ok (.ireturn, 1) := by decide +kernel
theorem dL_law_172 : decode cL_law 172 = .ok (.aload_n 1, 1) := by decide +kernel
theorem dL_law_173 : decode cL_law 173 = .ok (.aload_n 0, 1) := by decide +kernel
theorem dL_law_174 : decode cL_law 174 = .ok (.iload_n 3, 1) := by decide +kernel
theorem dL_law_175 : decode cL_law 175 = .ok (.iconst 1, 1) := by decide +kernel
theorem dL_law_176 : decode cL_law 176 = .ok (.iadd, 1) := by decide +kernel
theorem dL_law_177 : decode cL_law 177 = .ok (.iaload, 1) := by decide +kernel
theorem dL_law_178 : decode cL_law 178 = .ok (.invokevirtual 32, 3) := by decide +kernel
theorem dL_law_181 : decode cL_law 181 = .ok (.aload_n 2, 1) := by decide +kernel
theorem dL_law_182 : decode cL_law 182 = .ok (.aload_n 0, 1) := by decide +kernel
theorem dL_law_183 : decode cL_law 183 = .ok (.iload_n 3, 1) := by decide +kernel
theorem dL_law_184 : decode cL_law 184 = .ok (.iconst 1, 1) := by decide +kernel
theorem dL_law_185 : decode cL_law 185 = .ok (.iadd, 1) := by decide +kernel
theorem dL_law_186 : decode cL_law 186 = .ok (.iaload, 1) := by decide +kernel
theorem dL_law_187 : decode cL_law 187 = .ok (.invokevirtual 36, 3) := by decide +kernel
theorem dL_law_190 : decode cL_law 190 = .ok (.if_icmp .eq 51, 3) := by decide +kernel
theorem dL_law_193 : decode cL_law 193 = .ok (.iconst 0, 1) := by decide +kernel
theorem dL_law_194 : decode cL_law 194 = .ok (.ireturn, 1) := by decide +kernel
theorem dL_law_195 : decode cL_law 195 = .ok (.aload_n 1, 1) := by decide +kernel
theorem dL_law_196 : decode cL_law 196 = .ok (.aload_n 0, 1) := by decide +kernel
theorem dL_law_197 : decode cL_law 197 = .ok (.iload_n 3, 1) := by decide +kernel
theorem dL_law_198 : decode cL_law 198 = .ok (.iconst 1, 1) := by decide +kernel
theorem dL_law_199 : decode cL_law 199 = .ok (.iadd, 1) := by decide +kernel
theorem dL_law_200 : decode cL_law 200 = .ok (.iaload, 1) := by decide +kernel
theorem dL_law_201 : decode cL_law 201 = .ok (.invokevirtual 37, 3) := by decide +kernel
theorem dL_law_204 : decode cL_law 204 = .ok (.aload_n 2, 1) := by decide +kernel
theorem dL_law_205 : decode cL_law 205 = .ok (.aload_n 0, 1) := by decide +kernel
theorem dL_law_206 : decode cL_law 206 = .ok (.iload_n 3, 1) := by decide +kernel
theorem dL_law_207 : decode cL_law 207 = .ok (.iconst 1, 1) := by decide +kernel
theorem dL_law_208 : decode cL_law 208 = .ok (.iadd, 1) := by decide +kernel
theorem dL_law_209 : decode cL_law 209 = .ok (.iaload, 1) := by decide +kernel
theorem dL_law_210 : decode cL_law 210 = .ok (.invokevirtual 40, 3) := by decide +kernel
theorem dL_law_213 : decode cL_law 213 = .ok (.if_icmp .eq 28, 3) := by decide +kernel
theorem dL_law_216 : decode cL_law 216 = .ok (.iconst 0, 1) := by decide +kernel
theorem dL_law_217 : decode cL_law 217 = .ok (.ireturn, 1) := by decide +kernel
theorem dL_law_218 : decode cL_law 218 = .ok (.aload_n 1, 1) := by decide +kernel
theorem dL_law_219 : decode cL_law 219 = .ok (.aload_n 0, 1) := by decide +kernel
theorem dL_law_220 : decode cL_law 220 = .ok (.iload_n 3, 1) := by decide +kernel
theorem dL_law_221 : decode cL_law 221 = .ok (.iconst 1, 1) := by decide +kernel
theorem dL_law_222 : decode cL_law 222 = .ok (.iadd, 1) := by decide +kernel
theorem dL_law_223 : decode cL_law 223 = .ok (.iaload, 1) := by decide +kernel
theorem dL_law_224 : decode cL_law 224 = .ok (.invokevirtual 41, 3) := by decide +kernel
theorem dL_law_227 : decode cL_law 227 = .ok (.aload_n 2, 1) := by decide +kernel
theorem dL_law_228 : decode cL_law 228 = .ok (.aload_n 0, 1) := by decide +kernel
theorem dL_law_229 : decode cL_law 229 = .ok (.iload_n 3, 1) := by decide +kernel
theorem dL_law_230 : decode cL_law 230 = .ok (.iconst 1, 1) := by decide +kernel
theorem dL_law_231 : decode cL_law 231 = .ok (.iadd, 1) := by decide +kernel
theorem dL_law_232 : decode cL_law 232 = .ok (.iaload, 1) := by decide +kernel
theorem dL_law_233 : decode cL_law 233 = .ok (.invokevirtual 45, 3) := by decide +kernel
theorem dL_law_236 : decode cL_law 236 = .ok (.if_icmp .eq 5, 3) := by decide +kernel
theorem dL_law_239 : decode cL_law 239 = .ok (.iconst 0, 1) := by decide +kernel
theorem dL_law_240 : decode cL_law 240 = .ok (.ireturn, 1) := by decide +kernel
theorem dL_law_241 : decode cL_law 241 = .ok (.iinc 3 3, 3) := by decide +kernel
theorem dL_law_244 : decode cL_law 244 = .ok (.goto (-226), 3) := by decide +kernel
theorem dL_law_247 : decode cL_law 247 = .ok (.iconst 1, 1) := by decide +kernel
theorem dL_law_248 : decode cL_law 248 = .ok (.ireturn, 1) := by decide +kernel
theorem q14 : (Jvm.Cond.initialized "SuitDeskLaw") ∈ lw_all := lw_g (lw_at lw_m0 0 rfl) rfl
set_option maxRecDepth 100000
theorem q18 : (Jvm.Cond.classLink "SuitDeskLaw" (7 : Nat) "SuitDesk") ∈ lw_all := lw_g (lw_at lw_m0 4 rfl) rfl
theorem q20 : (Jvm.Cond.methodLink "SuitDeskLaw" (9 : Nat) ({ cls := "SuitDesk", name := "<init>", desc := "()V" } : Jvm.MethodName)) ∈ lw_all := lw_g (lw_at lw_m0 6 rfl) rfl
theorem q74 : (Jvm.Cond.methodLink "SuitDeskLaw" (13 : Nat) ({ cls := "SuitDesk", name := "size", desc := "(I)V" } : Jvm.MethodName)) ∈ lw_all := lw_g (lw_at lw_m0 60 rfl) rfl
theorem q79 : (Jvm.Cond.methodLink "SuitDeskLaw" (18 : Nat) ({ cls := "SuitDesk", name := "left", desc := "(II)V" } : Jvm.MethodName)) ∈ lw_all := lw_g (lw_at lw_m0 65 rfl) rfl
theorem q91 : (Jvm.Cond.methodLink "SuitDeskLaw" (23 : Nat) ({ cls := "SuitDesk", name := "right", desc := "(II)V" } : Jvm.MethodName)) ∈ lw_all := lw_g (lw_at lw_m0 77 rfl) rfl
theorem q95 : (Jvm.Cond.methodLink "SuitDeskLaw" (32 : Nat) ({ cls := "SuitDesk", name := "partner", desc := "(I)I" } : Jvm.MethodName)) ∈ lw_all := lw_g (lw_at lw_m0 81 rfl) rfl
theorem q106 : (Jvm.Cond.methodLink "SuitDeskLaw" (37 : Nat) ({ cls := "SuitDesk", name := "other", desc := "(I)I" } : Jvm.MethodName)) ∈ lw_all := lw_g (lw_at lw_m0 92 rfl) rfl
theorem q110 : (Jvm.Cond.methodLink "SuitDeskLaw" (27 : Nat) ({ cls := "SuitDesk", name := "steadyOnes", desc := "()I" } : Jvm.MethodName)) ∈ lw_all := lw_g (lw_at lw_m0 96 rfl) rfl
theorem q133 : (Jvm.Cond.methodLink "SuitDeskLaw" (41 : Nat) ({ cls := "SuitDesk", name := "steady", desc := "(I)Z" } : Jvm.MethodName)) ∈ lw_all := lw_g (lw_at lw_m0 119 rfl) rfl
theorem q137 : (Jvm.Cond.classLink "SuitDeskLaw" (10 : Nat) "SuitDeskModel") ∈ lw_all := lw_g (lw_at lw_m0 123 rfl) rfl
theorem q139 : (Jvm.Cond.methodLink "SuitDeskLaw" (12 : Nat) ({ cls := "SuitDeskModel", name := "<init>", desc := "()V" } : Jvm.MethodName)) ∈ lw_all := lw_g (lw_at lw_m0 125 rfl) rfl
theorem q185 : (Jvm.Cond.methodLink "SuitDeskLaw" (17 : Nat) ({ cls := "SuitDeskModel", name := "size", desc := "(I)V" } : Jvm.MethodName)) ∈ lw_all := lw_g (lw_at lw_m0 171 rfl) rfl
theorem q186 : (Jvm.Cond.methodLink "SuitDeskLaw" (22 : Nat) ({ cls := "SuitDeskModel", name := "left", desc := "(II)V" } : Jvm.MethodName)) ∈ lw_all := lw_g (lw_at lw_m0 172 rfl) rfl
theorem q198 : (Jvm.Cond.methodLink "SuitDeskLaw" (26 : Nat) ({ cls := "SuitDeskModel", name := "right", desc := "(II)V" } : Jvm.MethodName)) ∈ lw_all := lw_g (lw_at lw_m0 184 rfl) rfl
theorem q202 : (Jvm.Cond.methodLink "SuitDeskLaw" (31 : Nat) ({ cls := "SuitDeskModel", name := "steadyOnes", desc := "()I" } : Jvm.MethodName)) ∈ lw_all := lw_g (lw_at lw_m0 188 rfl) rfl
theorem q214 : (Jvm.Cond.methodLink "SuitDeskLaw" (36 : Nat) ({ cls := "SuitDeskModel", name := "partner", desc := "(I)I" } : Jvm.MethodName)) ∈ lw_all := lw_g (lw_at lw_m0 200 rfl) rfl
theorem q218 : (Jvm.Cond.methodLink "SuitDeskLaw" (40 : Nat) ({ cls := "SuitDeskModel", name := "other", desc := "(I)I" } : Jvm.MethodName)) ∈ lw_all := lw_g (lw_at lw_m0 204 rfl) rfl
theorem q222 : (Jvm.Cond.methodLink "SuitDeskLaw" (45 : Nat) ({ cls := "SuitDeskModel", name := "steady", desc := "(I)Z" } : Jvm.MethodName)) ∈ lw_all := lw_g (lw_at lw_m0 208 rfl) rfl
theorem q72 : (Jvm.Cond.arrayClass Jvm.ClassFile.FieldType.int) ∈ lw_all := lw_g (lw_at lw_m0 58 rfl) rfl
set_option maxRecDepth 100000
theorem q73 : (Jvm.Cond.arrayClass Jvm.ClassFile.FieldType.boolean) ∈ lw_all := lw_g (lw_at lw_m0 59 rfl) rfl
end
section
/-! ===== pure: orders of 0 .. n-1 by their numbers ===== -/
def oT (n : Nat) : Nat → Nat
  | 0 => 1
  | i + 1 => oT n i * (n - i)
def oK (n k : Nat) : Nat → Nat
  | 0 => k
  | i + 1 => oK n k i / (n - i)
def oD (n k i : Nat) : Nat := oK n k i % (n - i)
def oQ (n k : Nat) : Nat → Nat → Nat
  | 0 => fun j => j
  | i + 1 => fun j => if j < oD n k i then oQ n k i j else oQ n k i (j + 1)
/-- the order number k: who stands at place i -/
def oP (n k i : Nat) : Nat := oQ n k i (oD n k i)
theorem oD_lt {n k i : Nat} (h : i < n) : oD n k i < n - i := Nat.mod_lt _ (by omega)
theorem oQ_mono {n k : Nat} : ∀ i, i ≤ n → ∀ a b, a < b → b < n - i → oQ n k i a < oQ n k i b := by
  intro i
  induction i with
  | zero => intro _ a b hab _; exact hab
  | succ i ih =>
    intro hi a b hab hb
    show (if a < oD n k i then oQ n k i a else oQ n k i (a + 1)) < (if b < oD n k i then oQ n k i b else oQ n k i (b + 1))
    by_cases h1 : a < oD n k i
    · rw [if_pos h1]
      by_cases h2 : b < oD n k i
      · rw [if_pos h2]; exact ih (by omega) a b hab (by omega)
      · rw [if_neg h2]; exact ih (by omega) a (b + 1) (by omega) (by omega)
    · rw [if_neg h1, if_neg (show ¬ b < oD n k i by omega)]
      exact ih (by omega) (a + 1) (b + 1) (by omega) (by omega)
theorem oQ_lt {n k : Nat} : ∀ i, i ≤ n → ∀ j, j < n - i → oQ n k i j < n := by
  intro i
  induction i with
  | zero => intro _ j hj; show j < n; omega
  | succ i ih =>
    intro hi j hj
    show (if j < oD n k i then oQ n k i j else oQ n k i (j + 1)) < n
    by_cases h : j < oD n k i
    · rw [if_pos h]; exact ih (by omega) j (by omega)
    · rw [if_neg h]; exact ih (by omega) (j + 1) (by omega)
theorem oP_lt {n k i : Nat} (h : i < n) : oP n k i < n := oQ_lt i (by omega) _ (oD_lt h)
theorem oQ_out {n k i : Nat} (hi : i < n) : ∀ t, i < t → t ≤ n → ∀ j, j < n - t → oQ n k t j ≠ oP n k i := by
  intro t
  induction t with
  | zero => intro h; omega
  | succ t ih =>
    intro h1 h2 j hj
    show (if j < oD n k t then oQ n k t j else oQ n k t (j + 1)) ≠ oP n k i
    by_cases e : i = t
    · rw [e]
      have ht : t < n := by omega
      have hd := oD_lt (k := k) ht
      show _ ≠ oQ n k t (oD n k t)
      by_cases h : j < oD n k t
      · rw [if_pos h]
        exact Nat.ne_of_lt (oQ_mono t (by omega) _ _ h hd)
      · rw [if_neg h]
        exact Nat.ne_of_gt (oQ_mono t (by omega) _ _ (show oD n k t < j + 1 by omega) (by omega))
    · by_cases h : j < oD n k t
      · rw [if_pos h]; exact ih (by omega) (by omega) j (by omega)
      · rw [if_neg h]; exact ih (by omega) (by omega) (j + 1) (by omega)
theorem oP_ne {n k i j : Nat} (hij : i < j) (hj : j < n) : oP n k j ≠ oP n k i := oQ_out (show i < n by omega) j hij (by omega) _ (oD_lt hj)
theorem oP_inj {n k i j : Nat} (hi : i < n) (hj : j < n) (e : oP n k i = oP n k j) : i = j := by
  rcases Nat.lt_trichotomy i j with h | h | h
  · exact absurd e.symm (oP_ne h hj)
  · exact h
  · exact absurd e (oP_ne h hi)
theorem oQ_all {n k : Nat} : ∀ i, i ≤ n → ∀ v, v < n → (∃ t, t < i ∧ oP n k t = v) ∨ ∃ j, j < n - i ∧ oQ n k i j = v := by
  intro i
  induction i with
  | zero => intro _ v hv; exact Or.inr ⟨v, by omega, rfl⟩
  | succ i ih =>
    intro hi v hv
    rcases ih (by omega) v hv with ⟨t, h1, h2⟩ | ⟨j, h1, h2⟩
    · exact Or.inl ⟨t, by omega, h2⟩
    · have hd := oD_lt (k := k) (show i < n by omega)
      rcases Nat.lt_trichotomy j (oD n k i) with h | h | h
      · refine Or.inr ⟨j, by omega, ?_⟩
        show (if j < oD n k i then oQ n k i j else oQ n k i (j + 1)) = v
        rw [if_pos h]; exact h2
      · exact Or.inl ⟨i, by omega, by show oQ n k i (oD n k i) = v; rw [← h]; exact h2⟩
      · refine Or.inr ⟨j - 1, by omega, ?_⟩
        show (if j - 1 < oD n k i then oQ n k i (j - 1) else oQ n k i (j - 1 + 1)) = v
        rw [if_neg (by omega), show j - 1 + 1 = j by omega]; exact h2
theorem oP_sur {n k v : Nat} (hv : v < n) : ∃ t, t < n ∧ oP n k t = v := by
  rcases oQ_all (k := k) n (Nat.le_refl n) v hv with h | ⟨j, h1, _⟩
  · exact h
  · omega
theorem oK_div (n k : Nat) : ∀ i, oK n k i = k / oT n i := by
  intro i
  induction i with
  | zero => show k = k / 1; rw [Nat.div_one]
  | succ i ih => show oK n k i / (n - i) = k / (oT n i * (n - i)); rw [ih, Nat.div_div_eq_div_mul]
theorem oT_pos {n : Nat} : ∀ i, i ≤ n → 0 < oT n i := by
  intro i
  induction i with
  | zero => intro _; exact Nat.one_pos
  | succ i ih => intro h; exact Nat.mul_pos (ih (by omega)) (by omega)
theorem oQ_congr {n k k' : Nat} : ∀ i, (∀ t, t < i → oD n k t = oD n k' t) → oQ n k i = oQ n k' i := by
  intro i
  induction i with
  | zero => intro _; rfl
  | succ i ih =>
    intro h
    funext j
    show (if j < oD n k i then oQ n k i j else oQ n k i (j + 1)) = (if j < oD n k' i then oQ n k' i j else oQ n k' i (j + 1))
    rw [ih (fun t ht => h t (by omega)), h i (by omega)]
theorem oT_fac {n j : Nat} : ∀ i, j < i → ∃ X, oT n i = oT n j * ((n - j) * X) := by
  intro i
  induction i with
  | zero => intro h; omega
  | succ i ih =>
    intro h
    by_cases e : j = i
    · exact ⟨1, by rw [e]; show oT n i * (n - i) = _; rw [Nat.mul_one]⟩
    · obtain ⟨X, hX⟩ := ih (by omega)
      exact ⟨X * (n - i), by show oT n i * (n - i) = _; rw [hX, Nat.mul_assoc, Nat.mul_assoc]⟩
theorem oD_shift {n k d i j : Nat} (hj : j < i) (hi : i ≤ n) : oD n (k + d * oT n i) j = oD n k j := by
  obtain ⟨X, hX⟩ := oT_fac (n := n) i hj
  have hp := oT_pos (n := n) j (by omega)
  have e : k + d * oT n i = k + oT n j * ((n - j) * (d * X)) := by
    rw [hX, Nat.mul_left_comm d, Nat.mul_left_comm d]
  show oK n (k + d * oT n i) j % (n - j) = oK n k j % (n - j)
  rw [oK_div n (k + d * oT n i), oK_div n k, e, Nat.add_mul_div_left _ _ hp, Nat.add_mul_mod_self_left]
theorem oD_top {n k d i : Nat} (hi : i < n) (hk : k < oT n i) (hd : d < n - i) : oD n (k + d * oT n i) i = d := by
  show oK n (k + d * oT n i) i % (n - i) = d
  rw [oK_div, Nat.add_mul_div_right _ _ (oT_pos i (by omega)), Nat.div_eq_of_lt hk, Nat.zero_add, Nat.mod_eq_of_lt hd]
/-- every order has a number -/
theorem oP_num {n : Nat} {p : Nat → Nat} (hp : ∀ i, i < n → p i < n) (hinj : ∀ i j, i < n → j < n → p i = p j → i = j) : ∀ i, i ≤ n → ∃ k, k < oT n i ∧ ∀ t, t < i → oP n k t = p t := by
  intro i
  induction i with
  | zero => intro _; exact ⟨0, Nat.one_pos, fun t h => by omega⟩
  | succ i ih =>
    intro hi
    obtain ⟨k, hk, he⟩ := ih (by omega)
    rcases oQ_all (k := k) i (by omega) (p i) (hp i (by omega)) with ⟨t, h1, h2⟩ | ⟨d, h1, h2⟩
    · have := hinj t i (by omega) (by omega) ((he t h1).symm.trans h2)
      omega
    · refine ⟨k + d * oT n i, ?_, fun t ht => ?_⟩
      · show k + d * oT n i < oT n i * (n - i)
        have h3 : (d + 1) * oT n i ≤ (n - i) * oT n i := Nat.mul_le_mul_right _ (by omega)
        rw [Nat.add_mul, Nat.one_mul] at h3
        rw [Nat.mul_comm (oT n i)]
        omega
      · have hQ : ∀ t, t ≤ i → oQ n (k + d * oT n i) t = oQ n k t := fun t ht => oQ_congr t (fun r hr => oD_shift (by omega) (by omega))
        by_cases e : t = i
        · rw [e]
          show oQ n (k + d * oT n i) i (oD n (k + d * oT n i) i) = p i
          rw [hQ i (Nat.le_refl i), oD_top (by omega) hk h1]; exact h2
        · show oQ n (k + d * oT n i) t (oD n (k + d * oT n i) t) = p t
          rw [hQ t (by omega), oD_shift (by omega) (by omega)]
          exact he t (by omega)
/-- as many different ones as places: each place is taken -/
theorem inj_sur {n : Nat} {p : Nat → Nat} (hp : ∀ i, i < n → p i < n) (hinj : ∀ i j, i < n → j < n → p i = p j → i = j) {v : Nat} (hv : v < n) : ∃ t, t < n ∧ p t = v := by
  obtain ⟨k, _, he⟩ := oP_num hp hinj n (Nat.le_refl n)
  obtain ⟨t, h1, h2⟩ := oP_sur (k := k) hv
  exact ⟨t, h1, (he t h1).symm.trans h2⟩
/-! the number of an order, as the class computes it -/
def usd (p : Nat → Nat) : Nat → Nat → Bool
  | 0, _ => false
  | i + 1, v => usd p i v || (p i == v)
def cnt (f : Nat → Bool) : Nat → Nat
  | 0 => 0
  | t + 1 => cnt f t + (if f t = true then 0 else 1)
def oS (n : Nat) (p : Nat → Nat) : Nat → Nat
  | 0 => 0
  | i + 1 => oS n p i + cnt (usd p i) (p i) * oT n i
theorem usd_iff {p : Nat → Nat} {v : Nat} : ∀ i, usd p i v = true ↔ ∃ t, t < i ∧ p t = v := by
  intro i
  induction i with
  | zero => exact ⟨fun h => absurd (show false = true from h) (by decide), fun ⟨t, h, _⟩ => absurd h (Nat.not_lt_zero t)⟩
  | succ i ih =>
    show (usd p i v || (p i == v)) = true ↔ _
    rw [Bool.or_eq_true, ih, beq_iff_eq]
    constructor
    · rintro (⟨t, h1, h2⟩ | h)
      · exact ⟨t, by omega, h2⟩
      · exact ⟨i, by omega, h⟩
    · rintro ⟨t, h1, h2⟩
      by_cases e : t = i
      · exact Or.inr (by rw [← e]; exact h2)
      · exact Or.inl ⟨t, by omega, h2⟩
theorem cnt_flat {f : Nat → Bool} {a : Nat} : ∀ b, a ≤ b → (∀ v, a ≤ v → v < b → f v = true) → cnt f b = cnt f a := by
  intro b
  induction b with
  | zero => intro h _; rw [show a = 0 by omega]
  | succ b ih =>
    intro h hf
    by_cases e : a = b + 1
    · rw [e]
    · have h1 := hf b (by omega) (by omega)
      have h2 := ih (by omega) (fun v h1 h2 => hf v h1 (by omega))
      show cnt f b + (if f b = true then 0 else 1) = cnt f a
      rw [if_pos h1, h2, Nat.add_zero]
theorem cnt_oQ {n k i : Nat} (hi : i ≤ n) : ∀ d, d < n - i → cnt (usd (oP n k) i) (oQ n k i d) = d := by
  have used : ∀ v, v < n → (∀ j, j < n - i → oQ n k i j ≠ v) → usd (oP n k) i v = true := by
    intro v hv hn
    rcases oQ_all (k := k) i hi v hv with h | ⟨j, h1, h2⟩
    · exact (usd_iff i).mpr h
    · exact absurd h2 (hn j h1)
  have free : ∀ d, d < n - i → ¬ usd (oP n k) i (oQ n k i d) = true := by
    intro d hd hc
    obtain ⟨t, h1, h2⟩ := (usd_iff i).mp hc
    exact oQ_out (by omega) i h1 hi d hd h2.symm
  intro d
  induction d with
  | zero =>
    intro hd
    have hz : cnt (usd (oP n k) i) (oQ n k i 0) = cnt (usd (oP n k) i) 0 := by
      refine cnt_flat _ (Nat.zero_le _) (fun v _ hv => used v (Nat.lt_trans hv (oQ_lt i hi 0 hd)) (fun j hj e => ?_))
      rcases Nat.eq_zero_or_pos j with h | h
      · rw [h] at e; omega
      · have := oQ_mono (k := k) i hi 0 j h hj
        omega
    exact hz
  | succ d ih =>
    intro hd
    have h1 := oQ_mono (k := k) i hi d (d + 1) (by omega) hd
    have hz : cnt (usd (oP n k) i) (oQ n k i (d + 1)) = cnt (usd (oP n k) i) (oQ n k i d + 1) := by
      refine cnt_flat _ (by omega) (fun v h2 h3 => used v (Nat.lt_trans h3 (oQ_lt i hi _ hd)) (fun j hj e => ?_))
      rcases Nat.lt_trichotomy j d with h | h | h
      · have := oQ_mono (k := k) i hi j d h (by omega)
        omega
      · rw [h] at e; omega
      · rcases Nat.lt_trichotomy j (d + 1) with h' | h' | h'
        · omega
        · rw [h'] at e; omega
        · have := oQ_mono (k := k) i hi (d + 1) j h' hj
          omega
    rw [hz]
    show cnt (usd (oP n k) i) (oQ n k i d) + (if usd (oP n k) i (oQ n k i d) = true then 0 else 1) = d + 1
    rw [ih (by omega), if_neg (free d (by omega))]
theorem cnt_oP {n k i : Nat} (hi : i < n) : cnt (usd (oP n k) i) (oP n k i) = oD n k i := cnt_oQ (by omega) _ (oD_lt hi)
theorem oS_num {n k : Nat} : ∀ i, i ≤ n → oS n (oP n k) i + oK n k i * oT n i = k := by
  intro i
  induction i with
  | zero => intro _; show 0 + k * 1 = k; omega
  | succ i ih =>
    intro hi
    have h := ih (by omega)
    show oS n (oP n k) i + cnt (usd (oP n k) i) (oP n k i) * oT n i + oK n k i / (n - i) * (oT n i * (n - i)) = k
    have hm : oD n k i + oK n k i / (n - i) * (n - i) = oK n k i := by
      show oK n k i % (n - i) + oK n k i / (n - i) * (n - i) = oK n k i
      rw [Nat.mul_comm (oK n k i / (n - i))]
      exact Nat.mod_add_div _ _
    rw [cnt_oP (by omega)]
    have e2 : oD n k i * oT n i + oK n k i / (n - i) * (oT n i * (n - i)) = oK n k i * oT n i := by
      rw [Nat.mul_comm (oT n i), ← Nat.mul_assoc, ← Nat.add_mul, hm]
    omega
theorem oS_eq {n k : Nat} (hk : k < oT n n) : oS n (oP n k) n = k := by
  have h := oS_num (n := n) (k := k) n (Nat.le_refl n)
  rw [oK_div, Nat.div_eq_of_lt hk, Nat.zero_mul, Nat.add_zero] at h
  exact h
theorem usd_congr {p p' : Nat → Nat} : ∀ i, (∀ t, t < i → p t = p' t) → usd p i = usd p' i := by
  intro i
  induction i with
  | zero => intro _; rfl
  | succ i ih =>
    intro h
    funext v
    show (usd p i v || (p i == v)) = (usd p' i v || (p' i == v))
    rw [ih (fun t ht => h t (by omega)), h i (by omega)]
theorem oS_congr {n : Nat} {p p' : Nat → Nat} : ∀ i, (∀ t, t < i → p t = p' t) → oS n p i = oS n p' i := by
  intro i
  induction i with
  | zero => intro _; rfl
  | succ i ih =>
    intro h
    show oS n p i + cnt (usd p i) (p i) * oT n i = oS n p' i + cnt (usd p' i) (p' i) * oT n i
    rw [ih (fun t ht => h t (by omega)), usd_congr i (fun t ht => h t (by omega)), h i (by omega)]
theorem oP_uni {n k k' : Nat} (hk : k < oT n n) (hk' : k' < oT n n) (h : ∀ t, t < n → oP n k t = oP n k' t) : k = k' := (oS_eq hk).symm.trans ((oS_congr n h).trans (oS_eq hk'))
/-- how many orders -/
def fc : Nat → Nat
  | 0 => 1
  | m + 1 => fc m * (m + 1)
theorem fc_oT : ∀ n, n < 7 → fc n = oT n n := by decide
theorem fc_le : ∀ n, n < 7 → fc n ≤ 720 := by decide
theorem fc_pos : ∀ n, 0 < fc n := by
  intro n
  induction n with
  | zero => exact Nat.one_pos
  | succ n ih => exact Nat.mul_pos ih (by omega)
theorem oP_zero {n : Nat} : ∀ i, i ≤ n → ∀ j, oQ n 0 i j = i + j := by
  intro i
  induction i with
  | zero => intro _ j; show j = 0 + j; omega
  | succ i ih =>
    intro h j
    have hz : oD n 0 i = 0 := by
      show oK n 0 i % (n - i) = 0
      rw [oK_div, Nat.zero_div, Nat.zero_mod]
    show (if j < oD n 0 i then oQ n 0 i j else oQ n 0 i (j + 1)) = i + 1 + j
    rw [hz, if_neg (Nat.not_lt_zero j), ih (by omega)]
    omega
theorem oP_id {n i : Nat} (h : i < n) : oP n 0 i = i := by
  have hz : oD n 0 i = 0 := by
    show oK n 0 i % (n - i) = 0
    rw [oK_div, Nat.zero_div, Nat.zero_mod]
  show oQ n 0 i (oD n 0 i) = i
  rw [hz, oP_zero i (by omega)]
  omega
/-- each order's number below the number of orders -/
theorem oP_no {n : Nat} (hn : n < 7) {p : Nat → Nat} (hp : ∀ i, i < n → p i < n) (hinj : ∀ i j, i < n → j < n → p i = p j → i = j) : ∃ k, k < fc n ∧ ∀ t, t < n → oP n k t = p t := by
  obtain ⟨k, h1, h2⟩ := oP_num hp hinj n (Nat.le_refl n)
  exact ⟨k, by rw [fc_oT n hn]; exact h1, h2⟩
end
section
/-! ===== pure: stable pairings ===== -/
/-- nobody: -1 -/
def nb : Nat := 4294967295
/-- lists f of n names each, six places a row, and the places q of the names in them -/
def PfL (n : Nat) (f q : Nat → Nat) : Prop := ∀ a, a < n → ∀ i, i < n → (f (6 * a + i) < n ∧ q (6 * a + f (6 * a + i)) = i) ∧ (q (6 * a + i) < n ∧ f (6 * a + q (6 * a + i)) = i)
theorem PfL.sym {n : Nat} {f q : Nat → Nat} (h : PfL n f q) : PfL n q f := fun a ha i hi => ⟨(h a ha i hi).2, (h a ha i hi).1⟩
theorem PfL.inj {n : Nat} {f q : Nat → Nat} (h : PfL n f q) {a i j : Nat} (ha : a < n) (hi : i < n) (hj : j < n) (e : f (6 * a + i) = f (6 * a + j)) : i = j := by
  have h1 := (h a ha i hi).1.2
  have h2 := (h a ha j hj).1.2
  rw [e] at h1
  exact h1.symm.trans h2
/-- stable: A the lists of those who ask, P the places in the lists of the others, g how far each is, h whom the others have -/
def StM (n : Nat) (A P g h : Nat → Nat) : Prop := (∀ i, i < n → g i < n ∧ h (A (6 * i + g i)) = i) ∧ ∀ i, i < n → ∀ f, f < g i → P (6 * A (6 * i + f) + h (A (6 * i + f))) ≤ P (6 * A (6 * i + f) + i)
theorem StM.inj {n : Nat} {A P g h : Nat → Nat} (S : StM n A P g h) {i j : Nat} (hi : i < n) (hj : j < n) (e : A (6 * i + g i) = A (6 * j + g j)) : i = j := by
  have h1 := (S.1 i hi).2
  have h2 := (S.1 j hj).2
  rw [e] at h1
  exact h1.symm.trans h2
theorem StM.sur {n : Nat} {A B P g h : Nat → Nat} (hA : PfL n A B) (S : StM n A P g h) {w : Nat} (hw : w < n) : h w < n ∧ A (6 * h w + g (h w)) = w := by
  obtain ⟨t, h1, h2⟩ := inj_sur (p := fun i => A (6 * i + g i)) (fun i hi => (hA i hi (g i) (S.1 i hi).1).1.1) (fun i j hi hj e => S.inj hi hj e) hw
  have h3 := (S.1 t h1).2
  have h2 : A (6 * t + g t) = w := h2
  rw [h2] at h3
  rw [h3]
  exact ⟨h1, h2⟩
def sm (g : Nat → Nat) : Nat → Nat
  | 0 => 0
  | i + 1 => sm g i + g i
theorem sm_le {g g' : Nat → Nat} : ∀ n, (∀ i, i < n → g i ≤ g' i) → sm g n ≤ sm g' n := by
  intro n
  induction n with
  | zero => intro _; exact Nat.le_refl 0
  | succ n ih =>
    intro h
    have h1 := ih (fun i hi => h i (by omega))
    have h2 := h n (by omega)
    show sm g n + g n ≤ sm g' n + g' n
    omega
theorem sm_lt {g g' : Nat → Nat} {j : Nat} : ∀ n, j < n → (∀ i, i < n → g i ≤ g' i) → g j < g' j → sm g n < sm g' n := by
  intro n
  induction n with
  | zero => intro h; omega
  | succ n ih =>
    intro hj h hlt
    have h2 := h n (by omega)
    show sm g n + g n < sm g' n + g' n
    by_cases e : j = n
    · have h1 := sm_le n (fun i hi => h i (Nat.lt_succ_of_lt hi))
      rw [e] at hlt
      omega
    · have h1 := ih (by omega) (fun i hi => h i (by omega)) hlt
      omega
theorem sm_bound {g : Nat → Nat} {b : Nat} : ∀ n, (∀ i, i < n → g i ≤ b) → sm g n ≤ n * b := by
  intro n
  induction n with
  | zero => intro _; exact Nat.zero_le _
  | succ n ih =>
    intro h
    have h1 := ih (fun i hi => h i (by omega))
    have h2 := h n (by omega)
    show sm g n + g n ≤ (n + 1) * b
    rw [Nat.succ_mul]
    omega
theorem sm_up {g : Nat → Nat} {n k : Nat} (hk : k < n) : sm g n < sm (va_up g k (g k + 1)) n := by
  refine sm_lt (j := k) n hk (fun i hi => ?_) ?_
  · by_cases e : i = k
    · rw [e, va_up_self]; omega
    · rw [va_up_ne _ _ e]; exact Nat.le_refl _
  · rw [va_up_self]; omega
/-! ===== asking in turn: the first F have begun to ask, 'who' has nobody just now ===== -/
def AskI (n : Nat) (A P : Nat → Nat) (F who : Nat) (g h : Nat → Nat) : Prop :=
  (∀ i, i < F → i ≠ who → g i < n ∧ h (A (6 * i + g i)) = i) ∧
  (∀ w, w < n → h w = nb ∨ (h w < F ∧ h w ≠ who ∧ A (6 * h w + g (h w)) = w)) ∧
  (∀ i, i < F → ∀ f, f < g i → f < n → h (A (6 * i + f)) ≠ nb ∧ P (6 * A (6 * i + f) + h (A (6 * i + f))) ≤ P (6 * A (6 * i + f) + i)) ∧
  (∀ g' h', StM n A P g' h' → ∀ i, i < F → g i ≤ g' i) ∧
  (∀ i, i < F → g i ≤ n)
theorem nb_ne {i : Nat} (h : i < 7) : i ≠ nb := by
  unfold nb
  omega
theorem AskI.start {n : Nat} {A P g h : Nat → Nat} (hh : ∀ w, w < n → h w = nb) : AskI n A P 0 nb g h :=
  ⟨fun i hi => absurd hi (Nat.not_lt_zero i), fun w hw => Or.inl (hh w hw), fun i hi => absurd hi (Nat.not_lt_zero i), fun _ _ _ i hi => absurd hi (Nat.not_lt_zero i), fun i hi => absurd hi (Nat.not_lt_zero i)⟩
theorem AskI.next {n : Nat} {A P g h : Nat → Nat} {F : Nat} (hn : n < 7) (hF : F < n) (I : AskI n A P F nb g h) : AskI n A P (F + 1) F (va_up g F 0) h := by
  obtain ⟨I1, I2, I3, I4, I5⟩ := I
  refine ⟨fun i hi hne => ?_, fun w hw => ?_, fun i hi f hf hfn => ?_, fun g' h' S i hi => ?_, fun i hi => ?_⟩
  · rw [va_up_ne _ _ hne]
    exact I1 i (by omega) (nb_ne (by omega))
  · rcases I2 w hw with q | ⟨q1, q2, q3⟩
    · exact Or.inl q
    · have hne : h w ≠ F := by omega
      rw [va_up_ne _ _ hne]
      exact Or.inr ⟨by omega, hne, q3⟩
  · by_cases e : i = F
    · rw [e, va_up_self] at hf
      exact absurd hf (Nat.not_lt_zero f)
    · rw [va_up_ne _ _ e] at hf
      exact I3 i (by omega) f hf hfn
  · by_cases e : i = F
    · rw [e, va_up_self]
      exact Nat.zero_le _
    · rw [va_up_ne _ _ e]
      exact I4 g' h' S i (by omega)
  · by_cases e : i = F
    · rw [e, va_up_self]
      exact Nat.zero_le _
    · rw [va_up_ne _ _ e]
      exact I5 i (by omega)
theorem AskI.done {n : Nat} {A P g h : Nat → Nat} (hn : n < 7) (I : AskI n A P n nb g h) : StM n A P g h ∧ ∀ g' h', StM n A P g' h' → ∀ i, i < n → g i ≤ g' i := by
  obtain ⟨I1, I2, I3, I4, I5⟩ := I
  refine ⟨⟨fun i hi => I1 i hi (nb_ne (by omega)), fun i hi f hf => ?_⟩, I4⟩
  have := (I1 i hi (nb_ne (by omega))).1
  exact (I3 i hi f hf (by omega)).2
theorem AskI.lt {n : Nat} {A B P g h : Nat → Nat} {F who : Nat} (hA : PfL n A B) (I : AskI n A P F who g h) (hF : F ≤ n) (hw : who < F) : g who < n := by
  obtain ⟨_, I2, I3, _, I5⟩ := I
  rcases Nat.lt_or_ge (g who) n with q | q
  · exact q
  · exfalso
    have hh : ∀ w, w < n → h w < F ∧ h w ≠ who ∧ A (6 * h w + g (h w)) = w := by
      intro w hwn
      have hb := hA who (by omega) w hwn
      have h3 := (I3 who hw (B (6 * who + w)) (by omega) hb.2.1).1
      rw [hb.2.2] at h3
      rcases I2 w hwn with e | e
      · exact absurd e h3
      · exact e
    obtain ⟨t, h1, h2⟩ := inj_sur (p := h) (fun i hi => by have := (hh i hi).1; omega) (fun i j hi hj e => by
      have h1 := (hh i hi).2.2
      have h2 := (hh j hj).2.2
      rw [e] at h1
      exact h1.symm.trans h2) (show who < n by omega)
    exact (hh t h1).2.1 h2
theorem AskI.free {n : Nat} {A B P g h : Nat → Nat} {F who w : Nat} (hA : PfL n A B) (I : AskI n A P F who g h) (hF : F ≤ n) (hn : n < 7) (hw : who < F) (hg : g who < n) (hW : A (6 * who + g who) = w) (hr : h w = nb) : AskI n A P F nb g (va_up h w who) := by
  obtain ⟨I1, I2, I3, I4, I5⟩ := I
  refine ⟨fun i hi _ => ?_, fun v hv => ?_, fun i hi f hf hfn => ?_, I4, I5⟩
  · by_cases e : i = who
    · rw [e, hW, va_up_self]
      exact ⟨hg, rfl⟩
    · obtain ⟨h1, h2⟩ := I1 i hi e
      refine ⟨h1, ?_⟩
      rw [va_up_ne]
      · exact h2
      · intro e2
        rw [e2, hr] at h2
        exact nb_ne (show i < 7 by omega) h2.symm
  · by_cases e : v = w
    · right
      rw [e, va_up_self]
      exact ⟨hw, nb_ne (by omega), hW⟩
    · rw [va_up_ne _ _ e]
      rcases I2 v hv with q | ⟨q1, q2, q3⟩
      · exact Or.inl q
      · exact Or.inr ⟨q1, nb_ne (by omega), q3⟩
  · by_cases e : A (6 * i + f) = w
    · have := (I3 i hi f hf hfn).1
      rw [e] at this
      exact absurd hr this
    · rw [va_up_ne _ _ e]
      exact I3 i hi f hf hfn
theorem AskI.rival {n : Nat} {A B P g h : Nat → Nat} {F who w r : Nat} (hA : PfL n A B) (I : AskI n A P F who g h) (hF : F ≤ n) (hw : who < F) (hg : g who < n) (hW : A (6 * who + g who) = w) (hr : h w = r) (hrn : r ≠ nb) : w < n ∧ r < F ∧ r ≠ who ∧ A (6 * r + g r) = w ∧ g r < n := by
  obtain ⟨I1, I2, I3, I4, I5⟩ := I
  have hwn : w < n := by rw [← hW]; exact (hA who (by omega) (g who) hg).1.1
  rcases I2 w hwn with q | q
  · exact absurd (hr.symm.trans q) hrn
  · rw [hr] at q
    exact ⟨hwn, q.1, q.2.1, q.2.2, (I1 r q.1 q.2.1).1⟩
theorem AskI.swap {n : Nat} {A B P g h : Nat → Nat} {F who w r : Nat} (hA : PfL n A B) (I : AskI n A P F who g h) (hF : F ≤ n) (hn : n < 7) (hw : who < F) (hg : g who < n) (hW : A (6 * who + g who) = w) (hr : h w = r) (hrn : r ≠ nb) (hlt : P (6 * w + who) < P (6 * w + r)) : AskI n A P F r (va_up g r (g r + 1)) (va_up h w who) := by
  obtain ⟨hwn, r1, r2, r3, hgr⟩ := I.rival hA hF hw hg hW hr hrn
  obtain ⟨I1, I2, I3, I4, I5⟩ := I
  refine ⟨fun i hi hne => ?_, fun v hv => ?_, fun i hi f hf hfn => ?_, fun g' h' S i hi => ?_, fun i hi => ?_⟩
  · rw [va_up_ne _ _ hne]
    by_cases e : i = who
    · rw [e, hW, va_up_self]
      exact ⟨hg, rfl⟩
    · obtain ⟨h1, h2⟩ := I1 i hi e
      refine ⟨h1, ?_⟩
      rw [va_up_ne]
      · exact h2
      · intro e2
        rw [e2, hr] at h2
        exact hne h2.symm
  · by_cases e : v = w
    · right
      rw [e, va_up_self, va_up_ne _ _ (Ne.symm r2)]
      exact ⟨hw, Ne.symm r2, hW⟩
    · rw [va_up_ne _ _ e]
      rcases I2 v hv with q | ⟨q1, q2, q3⟩
      · exact Or.inl q
      · right
        have hne : h v ≠ r := fun e2 => e (by rw [e2] at q3; exact q3.symm.trans r3)
        rw [va_up_ne _ _ hne]
        exact ⟨q1, hne, q3⟩
  · have base : h (A (6 * i + f)) ≠ nb ∧ P (6 * A (6 * i + f) + h (A (6 * i + f))) ≤ P (6 * A (6 * i + f) + i) := by
      by_cases e : i = r
      · by_cases e2 : f = g r
        · rw [e, e2, r3, hr]
          exact ⟨hrn, Nat.le_refl _⟩
        · refine I3 i hi f ?_ hfn
          rw [e, va_up_self] at hf
          rw [e]
          omega
      · rw [va_up_ne _ _ e] at hf
        exact I3 i hi f hf hfn
    by_cases e : A (6 * i + f) = w
    · rw [e] at base ⊢
      rw [va_up_self]
      rw [hr] at base
      exact ⟨nb_ne (by omega), by omega⟩
    · rw [va_up_ne _ _ e]
      exact base
  · by_cases e : i = r
    · rw [e, va_up_self]
      have h4 := I4 g' h' S r r1
      rcases Nat.lt_or_ge (g r) (g' r) with q | q
      · exact q
      · exfalso
        have er : g' r = g r := by omega
        have e1 : h' w = r := by
          have := (S.1 r (by omega)).2
          rw [er, r3] at this
          exact this
        have h5 := I4 g' h' S who hw
        rcases Nat.lt_or_ge (g who) (g' who) with q2 | q2
        · have := S.2 who (by omega) (g who) q2
          rw [hW, e1] at this
          omega
        · have ew : g' who = g who := by omega
          have := (S.1 who (by omega)).2
          rw [ew, hW, e1] at this
          exact r2 this
    · rw [va_up_ne _ _ e]
      exact I4 g' h' S i hi
  · by_cases e : i = r
    · rw [e, va_up_self]
      omega
    · rw [va_up_ne _ _ e]
      exact I5 i hi
theorem AskI.rej {n : Nat} {A B C P g h : Nat → Nat} {F who w r : Nat} (hA : PfL n A B) (hP : PfL n C P) (I : AskI n A P F who g h) (hF : F ≤ n) (hn : n < 7) (hw : who < F) (hg : g who < n) (hW : A (6 * who + g who) = w) (hr : h w = r) (hrn : r ≠ nb) (hge : P (6 * w + r) ≤ P (6 * w + who)) : AskI n A P F who (va_up g who (g who + 1)) h := by
  obtain ⟨hwn, r1, r2, r3, hgr⟩ := I.rival hA hF hw hg hW hr hrn
  obtain ⟨I1, I2, I3, I4, I5⟩ := I
  refine ⟨fun i hi hne => ?_, fun v hv => ?_, fun i hi f hf hfn => ?_, fun g' h' S i hi => ?_, fun i hi => ?_⟩
  · rw [va_up_ne _ _ hne]
    exact I1 i hi hne
  · rcases I2 v hv with q | ⟨q1, q2, q3⟩
    · exact Or.inl q
    · rw [va_up_ne _ _ q2]
      exact Or.inr ⟨q1, q2, q3⟩
  · by_cases e : i = who
    · by_cases e2 : f = g who
      · rw [e, e2, hW, hr]
        exact ⟨hrn, hge⟩
      · refine I3 i hi f ?_ hfn
        rw [e, va_up_self] at hf
        rw [e]
        omega
    · rw [va_up_ne _ _ e] at hf
      exact I3 i hi f hf hfn
  · by_cases e : i = who
    · rw [e, va_up_self]
      have h4 := I4 g' h' S who hw
      rcases Nat.lt_or_ge (g who) (g' who) with q | q
      · exact q
      · exfalso
        have ew : g' who = g who := by omega
        have e1 : h' w = who := by
          have := (S.1 who (by omega)).2
          rw [ew, hW] at this
          exact this
        have h5 := I4 g' h' S r r1
        rcases Nat.lt_or_ge (g r) (g' r) with q2 | q2
        · have h6 := S.2 r (by omega) (g r) q2
          rw [r3, e1] at h6
          exact r2 (hP.sym.inj hwn (show r < n by omega) (show who < n by omega) (by omega))
        · have er : g' r = g r := by omega
          have := (S.1 r (by omega)).2
          rw [er, r3, e1] at this
          exact r2 this.symm
    · rw [va_up_ne _ _ e]
      exact I4 g' h' S i hi
  · by_cases e : i = who
    · rw [e, va_up_self]
      omega
    · rw [va_up_ne _ _ e]
      exact I5 i hi
/-! ===== a pair is parted ===== -/
def PartI (n : Nat) (A P g0 : Nat → Nat) (he who : Nat) (g h : Nat → Nat) : Prop :=
  who < n ∧ (∀ i, i < n → g i < n) ∧ (∀ i, i < n → g0 i ≤ g i) ∧ h (A (6 * he + g0 he)) = he ∧
  (∀ i, i < n → i ≠ who → h (A (6 * i + g i)) = i ∧ A (6 * i + g i) ≠ A (6 * he + g0 he)) ∧
  (∀ w, w < n → w ≠ A (6 * he + g0 he) → h w < n ∧ h w ≠ who ∧ A (6 * h w + g (h w)) = w) ∧
  (∀ i, i < n → ∀ f, f < g i ∨ (i = who ∧ f = g i) → P (6 * A (6 * i + f) + h (A (6 * i + f))) ≤ P (6 * A (6 * i + f) + i)) ∧
  (∀ g' h', StM n A P g' h' → (∀ i, i < n → g0 i ≤ g' i) → g' he ≠ g0 he → (∀ i, i < n → g i ≤ g' i) ∧ g who < g' who)
theorem PartI.start {n : Nat} {A B P g0 h0 : Nat → Nat} {he : Nat} (hA : PfL n A B) (S : StM n A P g0 h0) (hhe : he < n) : PartI n A P g0 he he g0 h0 := by
  refine ⟨hhe, fun i hi => (S.1 i hi).1, fun i _ => Nat.le_refl _, (S.1 he hhe).2, fun i hi hne => ⟨(S.1 i hi).2, fun e => hne (S.inj hi hhe e)⟩, fun w hw hne => ?_, fun i hi f hf => ?_, fun g' h' S' hle hne => ⟨hle, ?_⟩⟩
  · obtain ⟨h1, h2⟩ := S.sur hA hw
    refine ⟨h1, fun e => hne ?_, h2⟩
    rw [e] at h2
    exact h2.symm
  · rcases hf with hf | ⟨e1, e2⟩
    · exact S.2 i hi f hf
    · rw [e2, (S.1 i hi).2]
      exact Nat.le_refl _
  · have := hle he hhe
    omega
/-- nobody is left to be asked -/
theorem PartI.fail {n : Nat} {A P g0 g h : Nat → Nat} {he who : Nat} (I : PartI n A P g0 he who g h) (hg : g who + 1 = n) : ∀ g' h', StM n A P g' h' → (∀ i, i < n → g0 i ≤ g' i) → g' he ≠ g0 he → False := by
  intro g' h' S hle hne
  obtain ⟨I0, _, _, _, _, _, _, I7⟩ := I
  have h1 := (I7 g' h' S hle hne).2
  have h2 := (S.1 who I0).1
  omega
theorem PartI.has {n : Nat} {A B P g0 g h : Nat → Nat} {he who w : Nat} (hA : PfL n A B) (hhe : he < n) (I : PartI n A P g0 he who g h) (hw : w < n) : h w < n := by
  obtain ⟨_, _, _, I3, _, I5, _, _⟩ := I
  by_cases e : w = A (6 * he + g0 he)
  · rw [e, I3]; exact hhe
  · exact (I5 w hw e).1
theorem PartI.cont {n : Nat} {A B P g0 g h : Nat → Nat} {he who w : Nat} (hA : PfL n A B) (hhe : he < n) (I : PartI n A P g0 he who g h) (hg : g who + 1 < n) (hW : A (6 * who + (g who + 1)) = w) (hlt : P (6 * w + h w) < P (6 * w + who)) : PartI n A P g0 he who (va_up g who (g who + 1)) h := by
  obtain ⟨I0, I1, I2, I3, I4, I5, I6, I7⟩ := I
  have hwn : w < n := by rw [← hW]; exact (hA who I0 _ hg).1.1
  refine ⟨I0, fun i hi => ?_, fun i hi => ?_, I3, fun i hi hne => ?_, fun v hv hne => ?_, fun i hi f hf => ?_, fun g' h' S hle hne => ?_⟩
  · by_cases e : i = who
    · rw [e, va_up_self]; exact hg
    · rw [va_up_ne _ _ e]; exact I1 i hi
  · by_cases e : i = who
    · rw [e, va_up_self]
      have := I2 who I0
      omega
    · rw [va_up_ne _ _ e]; exact I2 i hi
  · rw [va_up_ne _ _ hne]
    exact I4 i hi hne
  · obtain ⟨h1, h2, h3⟩ := I5 v hv hne
    rw [va_up_ne _ _ h2]
    exact ⟨h1, h2, h3⟩
  · by_cases e : i = who
    · rw [e, va_up_self] at hf
      by_cases e2 : f = g who + 1
      · rw [e, e2, hW]
        omega
      · rw [e]
        exact I6 who I0 f (by omega)
    · rw [va_up_ne _ _ e] at hf
      exact I6 i hi f (Or.inl (by omega))
  · obtain ⟨h1, h2⟩ := I7 g' h' S hle hne
    have hs : g who + 1 < g' who := by
      rcases Nat.lt_or_ge (g who + 1) (g' who) with q | q
      · exact q
      · exfalso
        have ew : g' who = g who + 1 := by omega
        have e1 : h' w = who := by
          have := (S.1 who I0).2
          rw [ew, hW] at this
          exact this
        by_cases e : w = A (6 * he + g0 he)
        · have e3 : h w = he := by rw [e]; exact I3
          have h4 := hle he hhe
          have h5 := S.2 he hhe (g0 he) (by omega)
          rw [← e, e1] at h5
          rw [e3] at hlt
          omega
        · obtain ⟨r1, r2, r3⟩ := I5 w hwn e
          have h4 := h1 (h w) r1
          rcases Nat.lt_or_ge (g (h w)) (g' (h w)) with q2 | q2
          · have h5 := S.2 (h w) r1 (g (h w)) q2
            rw [r3, e1] at h5
            omega
          · have er : g' (h w) = g (h w) := by omega
            have := (S.1 (h w) r1).2
            rw [er, r3, e1] at this
            exact r2 this.symm
    refine ⟨fun i hi => ?_, by rw [va_up_self]; exact hs⟩
    by_cases e : i = who
    · rw [e, va_up_self]; omega
    · rw [va_up_ne _ _ e]; exact h1 i hi
theorem PartI.next {n : Nat} {A B C P g0 g h : Nat → Nat} {he who w : Nat} (hA : PfL n A B) (hP : PfL n C P) (I : PartI n A P g0 he who g h) (hg : g who + 1 < n) (hW : A (6 * who + (g who + 1)) = w) (hle0 : P (6 * w + who) ≤ P (6 * w + h w)) (hne0 : w ≠ A (6 * he + g0 he)) : PartI n A P g0 he (h w) (va_up g who (g who + 1)) (va_up h w who) := by
  obtain ⟨I0, I1, I2, I3, I4, I5, I6, I7⟩ := I
  have hwn : w < n := by rw [← hW]; exact (hA who I0 _ hg).1.1
  obtain ⟨r1, r2, r3⟩ := I5 w hwn hne0
  refine ⟨r1, fun i hi => ?_, fun i hi => ?_, ?_, fun i hi hne => ?_, fun v hv hne => ?_, fun i hi f hf => ?_, fun g' h' S hle hne => ?_⟩
  · by_cases e : i = who
    · rw [e, va_up_self]; exact hg
    · rw [va_up_ne _ _ e]; exact I1 i hi
  · by_cases e : i = who
    · rw [e, va_up_self]
      have := I2 who I0
      omega
    · rw [va_up_ne _ _ e]; exact I2 i hi
  · rw [va_up_ne _ _ (Ne.symm hne0)]
    exact I3
  · by_cases e : i = who
    · rw [e, va_up_self, hW, va_up_self]
      exact ⟨rfl, hne0⟩
    · rw [va_up_ne _ _ e]
      obtain ⟨h1, h2⟩ := I4 i hi e
      refine ⟨?_, h2⟩
      rw [va_up_ne]
      · exact h1
      · intro e2
        rw [e2] at h1
        exact hne h1.symm
  · by_cases e : v = w
    · rw [e, va_up_self, va_up_self]
      exact ⟨I0, Ne.symm r2, hW⟩
    · rw [va_up_ne _ _ e]
      obtain ⟨h1, h2, h3⟩ := I5 v hv hne
      rw [va_up_ne _ _ h2]
      refine ⟨h1, fun e2 => e ?_, h3⟩
      rw [e2] at h3
      exact h3.symm.trans r3
  · have base : P (6 * A (6 * i + f) + h (A (6 * i + f))) ≤ P (6 * A (6 * i + f) + i) := by
      by_cases e : i = who
      · rw [e, va_up_self] at hf
        rw [e]
        refine I6 who I0 f ?_
        rcases hf with hf | ⟨e1, _⟩
        · omega
        · exact absurd e1.symm r2
      · rw [va_up_ne _ _ e] at hf
        rcases hf with hf | ⟨e1, e2⟩
        · exact I6 i hi f (Or.inl hf)
        · rw [e2, e1, r3]
          exact Nat.le_refl _
    by_cases e : A (6 * i + f) = w
    · rw [e] at base ⊢
      rw [va_up_self]
      omega
    · rw [va_up_ne _ _ e]
      exact base
  · obtain ⟨h1, h2⟩ := I7 g' h' S hle hne
    refine ⟨fun i hi => ?_, ?_⟩
    · by_cases e : i = who
      · rw [e, va_up_self]; omega
      · rw [va_up_ne _ _ e]; exact h1 i hi
    · rw [va_up_ne _ _ r2]
      have h4 := h1 (h w) r1
      rcases Nat.lt_or_ge (g (h w)) (g' (h w)) with q | q
      · exact q
      · exfalso
        have er : g' (h w) = g (h w) := by omega
        have e1 : h' w = h w := by
          have := (S.1 (h w) r1).2
          rw [er, r3] at this
          exact this
        rcases Nat.lt_or_ge (g who + 1) (g' who) with q2 | q2
        · have h5 := S.2 who I0 (g who + 1) q2
          rw [hW, e1] at h5
          exact r2 (hP.sym.inj hwn r1 I0 (by omega))
        · have ew : g' who = g who + 1 := by omega
          have := (S.1 who I0).2
          rw [ew, hW, e1] at this
          exact r2 this
theorem PartI.done {n : Nat} {A B P g0 g h : Nat → Nat} {he who w : Nat} (hA : PfL n A B) (I : PartI n A P g0 he who g h) (hg : g who + 1 < n) (hW : A (6 * who + (g who + 1)) = w) (hle0 : P (6 * w + who) ≤ P (6 * w + h w)) (he0 : w = A (6 * he + g0 he)) : StM n A P (va_up g who (g who + 1)) (va_up h w who) ∧ sm g0 n < sm (va_up g who (g who + 1)) n ∧ ∀ g' h', StM n A P g' h' → (∀ i, i < n → g0 i ≤ g' i) → g' he ≠ g0 he → ∀ i, i < n → va_up g who (g who + 1) i ≤ g' i := by
  obtain ⟨I0, I1, I2, I3, I4, I5, I6, I7⟩ := I
  refine ⟨⟨fun i hi => ?_, fun i hi f hf => ?_⟩, ?_, fun g' h' S hle hne i hi => ?_⟩
  · by_cases e : i = who
    · rw [e, va_up_self, hW, va_up_self]
      exact ⟨hg, rfl⟩
    · rw [va_up_ne _ _ e]
      obtain ⟨h1, h2⟩ := I4 i hi e
      refine ⟨I1 i hi, ?_⟩
      rw [va_up_ne _ _ (by rw [he0]; exact h2)]
      exact h1
  · have base : P (6 * A (6 * i + f) + h (A (6 * i + f))) ≤ P (6 * A (6 * i + f) + i) := by
      by_cases e : i = who
      · rw [e, va_up_self] at hf
        rw [e]
        exact I6 who I0 f (by omega)
      · rw [va_up_ne _ _ e] at hf
        exact I6 i hi f (Or.inl hf)
    by_cases e : A (6 * i + f) = w
    · rw [e] at base ⊢
      rw [va_up_self]
      omega
    · rw [va_up_ne _ _ e]
      exact base
  · have h1 := sm_le n I2
    have h2 := sm_up (g := g) I0
    omega
  · obtain ⟨h1, h2⟩ := I7 g' h' S hle hne
    by_cases e : i = who
    · rw [e, va_up_self]; omega
    · rw [va_up_ne _ _ e]; exact h1 i hi
/-- what parting he's pair comes to -/
def PartQ (n : Nat) (A P g0 : Nat → Nat) (he r : Nat) (g h : Nat → Nat) : Prop :=
  (r = 1 ∧ StM n A P g h ∧ sm g0 n < sm g n ∧ ∀ g' h', StM n A P g' h' → (∀ i, i < n → g0 i ≤ g' i) → g' he ≠ g0 he → ∀ i, i < n → g i ≤ g' i) ∨
  (r = 0 ∧ ∀ g' h', StM n A P g' h' → (∀ i, i < n → g0 i ≤ g' i) → g' he ≠ g0 he → False)
end
section
/-! ===== pure: stable pairings by their numbers; what the reference reckons; the search ===== -/
/-- the pairing number v rests -/
def RN (n : Nat) (lp rp : Nat → Nat) (v : Nat) : Prop := ∀ a, a < n → ∀ b, b < n → ∀ c, c < n → oP n v c = b → lp (6 * a + b) < lp (6 * a + oP n v a) → rp (6 * b + c) ≤ rp (6 * b + a)
noncomputable def rn (n : Nat) (lp rp : Nat → Nat) (v : Nat) : Bool := @decide (RN n lp rp v) (Classical.propDecidable _)
theorem rn_iff {n : Nat} {lp rp : Nat → Nat} {v : Nat} : rn n lp rp v = true ↔ RN n lp rp v := @decide_eq_true_iff (RN n lp rp v) (Classical.propDecidable _)
theorem rn_not {n : Nat} {lp rp : Nat → Nat} {v : Nat} (h : ¬ RN n lp rp v) : rn n lp rp v = false := by
  cases e : rn n lp rp v with
  | false => rfl
  | true => exact absurd (rn_iff.mp e) h
def gk (n : Nat) (lp : Nat → Nat) (v : Nat) : Nat → Nat := fun i => lp (6 * i + oP n v i)
def ivF (p : Nat → Nat) : Nat → Nat → Nat
  | 0, _ => 0
  | i + 1, b => if p i = b then i else ivF p i b
def iv (n k b : Nat) : Nat := ivF (oP n k) n b
theorem ivF_eq {p : Nat → Nat} {c : Nat} : ∀ i, c < i → (∀ j, j < i → p j = p c → j = c) → ivF p i (p c) = c := by
  intro i
  induction i with
  | zero => intro h; omega
  | succ i ih =>
    intro h hj
    show (if p i = p c then i else ivF p i (p c)) = c
    by_cases e : p i = p c
    · rw [if_pos e]; exact hj i (by omega) e
    · rw [if_neg e]
      have hne : c ≠ i := fun q => e (by rw [q])
      exact ih (by omega) (fun j h1 h2 => hj j (by omega) h2)
theorem iv_oP {n k c : Nat} (hc : c < n) : iv n k (oP n k c) = c := ivF_eq n hc (fun j hj e => oP_inj hj hc e)
theorem iv_lt {n k b : Nat} (hb : b < n) : iv n k b < n ∧ oP n k (iv n k b) = b := by
  obtain ⟨c, h1, h2⟩ := oP_sur (k := k) hb
  rw [← h2, iv_oP h1]
  exact ⟨h1, rfl⟩
def gr (n : Nat) (rp : Nat → Nat) (v : Nat) : Nat → Nat := fun b => rp (6 * b + iv n v b)
theorem StM.congr {n : Nat} {A B P g h g' h' : Nat → Nat} (hA : PfL n A B) (S : StM n A P g h) (hg : ∀ i, i < n → g' i = g i) (hh : ∀ w, w < n → h' w = h w) : StM n A P g' h' := by
  refine ⟨fun i hi => ?_, fun i hi f hf => ?_⟩
  · have h1 := S.1 i hi
    rw [hg i hi, hh _ (hA i hi _ h1.1).1.1]
    exact h1
  · rw [hg i hi] at hf
    have h1 := (S.1 i hi).1
    rw [hh _ (hA i hi f (by omega)).1.1]
    exact S.2 i hi f hf
theorem RN_St {n : Nat} {lf lp rt rp h : Nat → Nat} {v : Nat} (hL : PfL n lf lp) (hh : ∀ c, c < n → h (oP n v c) = c) : RN n lp rp v ↔ StM n lf rp (gk n lp v) h := by
  constructor
  · intro R
    refine ⟨fun i hi => ?_, fun i hi f hf => ?_⟩
    · have h1 := (hL i hi (oP n v i) (oP_lt hi)).2
      refine ⟨h1.1, ?_⟩
      show h (lf (6 * i + lp (6 * i + oP n v i))) = i
      rw [h1.2]
      exact hh i hi
    · have h0 := (hL i hi (oP n v i) (oP_lt hi)).2
      have hf' : f < lp (6 * i + oP n v i) := hf
      have h1 := (hL i hi f (by omega)).1
      obtain ⟨c, h2, h3⟩ := oP_sur (k := v) h1.1
      have h4 := hh c h2
      rw [h3] at h4
      rw [h4]
      exact R i hi _ h1.1 c h2 h3 (by rw [h1.2]; exact hf')
  · intro S a ha b hb c hc e hlt
    have h1 := (hL a ha b hb).2
    have h2 := S.2 a ha (lp (6 * a + b)) hlt
    rw [h1.2] at h2
    have h3 := hh c hc
    rw [e] at h3
    rw [h3] at h2
    exact h2
theorem RN_iv {n : Nat} {lf lp rp : Nat → Nat} {v : Nat} (hL : PfL n lf lp) : RN n lp rp v ↔ StM n lf rp (gk n lp v) (iv n v) := RN_St (rt := lf) hL (fun _ hc => iv_oP hc)
theorem RN_Sr {n : Nat} {lp rt rp : Nat → Nat} {v : Nat} (hR : PfL n rt rp) : RN n lp rp v ↔ StM n rt lp (gr n rp v) (oP n v) := by
  constructor
  · intro R
    refine ⟨fun b hb => ?_, fun b hb f hf => ?_⟩
    · obtain ⟨h1, h2⟩ := iv_lt (k := v) hb
      have h3 := (hR b hb _ h1).2
      refine ⟨h3.1, ?_⟩
      show oP n v (rt (6 * b + rp (6 * b + iv n v b))) = b
      rw [h3.2]
      exact h2
    · obtain ⟨h1, h2⟩ := iv_lt (k := v) hb
      have h3 := (hR b hb _ h1).2
      have hf' : f < rp (6 * b + iv n v b) := hf
      have h4 := (hR b hb f (by omega)).1
      rcases Nat.lt_or_ge (lp (6 * rt (6 * b + f) + b)) (lp (6 * rt (6 * b + f) + oP n v (rt (6 * b + f)))) with q | q
      · have h5 := R _ h4.1 b hb _ h1 h2 q
        rw [h4.2] at h5
        omega
      · exact q
  · intro S a ha b hb c hc e hlt
    rcases Nat.lt_or_ge (rp (6 * b + a)) (rp (6 * b + c)) with q | q
    · exfalso
      have hc2 : iv n v b = c := by rw [← e]; exact iv_oP hc
      have h1 := S.2 b hb (rp (6 * b + a)) (by show _ < rp (6 * b + iv n v b); rw [hc2]; exact q)
      rw [(hR b hb a ha).2.2] at h1
      omega
    · exact q
/-- a stable pairing has its number -/
theorem StM.num {n : Nat} {lf lp rp g h : Nat → Nat} (hn : n < 7) (hL : PfL n lf lp) (S : StM n lf rp g h) : ∃ v, v < fc n ∧ (∀ i, i < n → oP n v i = lf (6 * i + g i)) ∧ (∀ i, i < n → gk n lp v i = g i) ∧ RN n lp rp v := by
  obtain ⟨v, h1, h2⟩ := oP_no hn (p := fun i => lf (6 * i + g i)) (fun i hi => (hL i hi _ (S.1 i hi).1).1.1) (fun i j hi hj e => S.inj hi hj e)
  have h3 : ∀ i, i < n → gk n lp v i = g i := by
    intro i hi
    show lp (6 * i + oP n v i) = g i
    rw [h2 i hi]
    exact (hL i hi _ (S.1 i hi).1).1.2
  refine ⟨v, h1, h2, h3, (RN_St (h := h) (rt := lf) hL ?_).mpr (S.congr hL h3 (fun _ _ => rfl))⟩
  intro c hc
  rw [h2 c hc]
  exact (S.1 c hc).2
theorem StM.numR {n : Nat} {lp rt rp g h : Nat → Nat} (hn : n < 7) (hR : PfL n rt rp) (S : StM n rt lp g h) : ∃ v, v < fc n ∧ (∀ b, b < n → gr n rp v b = g b) ∧ RN n lp rp v := by
  obtain ⟨v, h1, h2⟩ := oP_no hn (p := h) (fun i hi => (S.sur hR hi).1) (fun i j hi hj e => by
    have q1 := (S.sur hR hi).2
    have q2 := (S.sur hR hj).2
    rw [e] at q1
    exact q1.symm.trans q2)
  have h3 : ∀ b, b < n → gr n rp v b = g b := by
    intro b hb
    have q := S.1 b hb
    have q1 := (hR b hb _ q.1).1
    have q2 := h2 _ q1.1
    rw [q.2] at q2
    have q3 : iv n v b = rt (6 * b + g b) := by
      have q4 := iv_oP (k := v) q1.1
      rw [q2] at q4
      exact q4
    show rp (6 * b + iv n v b) = g b
    rw [q3]
    exact q1.2
  exact ⟨v, h1, h3, (RN_Sr hR).mpr (S.congr hR h3 h2)⟩
/-! ===== counting, and the least ===== -/
def cT (P : Nat → Bool) : Nat → Nat
  | 0 => 0
  | k + 1 => cT P k + (if P k = true then 1 else 0)
theorem cT_congr {P P' : Nat → Bool} : ∀ K, (∀ v, v < K → P v = P' v) → cT P K = cT P' K := by
  intro K
  induction K with
  | zero => intro _; rfl
  | succ K ih =>
    intro h
    show cT P K + (if P K = true then 1 else 0) = cT P' K + (if P' K = true then 1 else 0)
    rw [ih (fun v hv => h v (by omega)), h K (by omega)]
theorem cT_le (P : Nat → Bool) : ∀ K, cT P K ≤ K := by
  intro K
  induction K with
  | zero => exact Nat.le_refl 0
  | succ K ih =>
    show cT P K + (if P K = true then 1 else 0) ≤ K + 1
    by_cases h : P K = true
    · rw [if_pos h]; omega
    · rw [if_neg h]; omega
theorem cT_up {P P' : Nat → Bool} {k : Nat} (h0 : P k = false) (h1 : P' k = true) (hc : ∀ v, v ≠ k → P' v = P v) : ∀ K, k < K → cT P' K = cT P K + 1 := by
  intro K
  induction K with
  | zero => intro h; omega
  | succ K ih =>
    intro h
    show cT P' K + (if P' K = true then 1 else 0) = cT P K + (if P K = true then 1 else 0) + 1
    by_cases e : k = K
    · have hf : ¬ P K = true := by rw [← e, h0]; decide
      have ht : P' K = true := by rw [← e]; exact h1
      rw [if_pos ht, if_neg hf, cT_congr K (fun v hv => hc v (by omega))]
    · rw [ih (by omega), hc K (fun q => e q.symm)]
      omega
def bs (n : Nat) (R : Nat → Bool) (val : Nat → Nat) : Nat → Nat
  | 0 => n
  | k + 1 => if R k = true ∧ val k < bs n R val k then val k else bs n R val k
theorem bs_congr {n : Nat} {R R' : Nat → Bool} {val val' : Nat → Nat} : ∀ K, (∀ v, v < K → R v = R' v) → (∀ v, v < K → val v = val' v) → bs n R val K = bs n R' val' K := by
  intro K
  induction K with
  | zero => intro _ _; rfl
  | succ K ih =>
    intro h1 h2
    show (if R K = true ∧ val K < bs n R val K then val K else bs n R val K) = (if R' K = true ∧ val' K < bs n R' val' K then val' K else bs n R' val' K)
    rw [ih (fun v hv => h1 v (by omega)) (fun v hv => h2 v (by omega)), h1 K (by omega), h2 K (by omega)]
theorem bs_le {n : Nat} {R : Nat → Bool} {val : Nat → Nat} : ∀ K, bs n R val K ≤ n := by
  intro K
  induction K with
  | zero => exact Nat.le_refl n
  | succ K ih =>
    show (if R K = true ∧ val K < bs n R val K then val K else bs n R val K) ≤ n
    by_cases h : R K = true ∧ val K < bs n R val K
    · rw [if_pos h]; omega
    · rw [if_neg h]; exact ih
theorem bs_min {n : Nat} {R : Nat → Bool} {val : Nat → Nat} : ∀ K, (∀ v, v < K → R v = true → bs n R val K ≤ val v) ∧ (bs n R val K = n ∨ ∃ v, v < K ∧ R v = true ∧ bs n R val K = val v) := by
  intro K
  induction K with
  | zero => exact ⟨fun v hv => absurd hv (Nat.not_lt_zero v), Or.inl rfl⟩
  | succ K ih =>
    obtain ⟨i1, i2⟩ := ih
    show (∀ v, v < K + 1 → R v = true → (if R K = true ∧ val K < bs n R val K then val K else bs n R val K) ≤ val v) ∧ ((if R K = true ∧ val K < bs n R val K then val K else bs n R val K) = n ∨ ∃ v, v < K + 1 ∧ R v = true ∧ (if R K = true ∧ val K < bs n R val K then val K else bs n R val K) = val v)
    by_cases h : R K = true ∧ val K < bs n R val K
    · rw [if_pos h]
      refine ⟨fun v hv hr => ?_, Or.inr ⟨K, by omega, h.1, rfl⟩⟩
      by_cases e : v = K
      · rw [e]; exact Nat.le_refl _
      · have := i1 v (by omega) hr
        omega
    · rw [if_neg h]
      refine ⟨fun v hv hr => ?_, ?_⟩
      · by_cases e : v = K
        · rw [e] at hr ⊢
          rcases Nat.lt_or_ge (val K) (bs n R val K) with q | q
          · exact absurd ⟨hr, q⟩ h
          · exact q
        · exact i1 v (by omega) hr
      · rcases i2 with q | ⟨v, q1, q2, q3⟩
        · exact Or.inl q
        · exact Or.inr ⟨v, by omega, q2, q3⟩
theorem bs_at {n : Nat} {R : Nat → Bool} {val : Nat → Nat} {K v0 : Nat} (h0 : v0 < K) (hr : R v0 = true) (hle : ∀ v, v < K → R v = true → val v0 ≤ val v) (hlt : val v0 < n) : bs n R val K = val v0 := by
  obtain ⟨h1, h2⟩ := bs_min (n := n) (R := R) (val := val) K
  have h3 := h1 v0 h0 hr
  rcases h2 with q | ⟨v, q1, q2, q3⟩
  · omega
  · have := hle v q1 q2
    omega
/-- the best for those who ask is the least place over all that rest -/
theorem best_left {n : Nat} {lf lp rp g h : Nat → Nat} (hn : n < 7) (hL : PfL n lf lp) (S : StM n lf rp g h) (hb : ∀ g' h', StM n lf rp g' h' → ∀ i, i < n → g i ≤ g' i) {i : Nat} (hi : i < n) : bs n (rn n lp rp) (fun v => lp (6 * i + oP n v i)) (fc n) = g i := by
  obtain ⟨v0, h1, _, h3, h4⟩ := S.num hn hL
  have h5 : lp (6 * i + oP n v0 i) = g i := h3 i hi
  rw [bs_at (val := fun v => lp (6 * i + oP n v i)) h1 (rn_iff.mpr h4) (fun v hv hr => ?_) (by show lp (6 * i + oP n v0 i) < n; rw [h5]; exact (S.1 i hi).1)]
  · exact h5
  · show lp (6 * i + oP n v0 i) ≤ lp (6 * i + oP n v i)
    rw [h5]
    exact hb _ _ ((RN_iv hL).mp (rn_iff.mp hr)) i hi
theorem best_right {n : Nat} {lp rt rp g h : Nat → Nat} (hn : n < 7) (hR : PfL n rt rp) (S : StM n rt lp g h) (hb : ∀ g' h', StM n rt lp g' h' → ∀ i, i < n → g i ≤ g' i) {i : Nat} (hi : i < n) : bs n (rn n lp rp) (fun v => rp (6 * i + iv n v i)) (fc n) = g i := by
  obtain ⟨v0, h1, h3, h4⟩ := S.numR hn hR
  have h5 : rp (6 * i + iv n v0 i) = g i := h3 i hi
  rw [bs_at (val := fun v => rp (6 * i + iv n v i)) h1 (rn_iff.mpr h4) (fun v hv hr => ?_) (by show rp (6 * i + iv n v0 i) < n; rw [h5]; exact (S.1 i hi).1)]
  · exact h5
  · show rp (6 * i + iv n v0 i) ≤ rp (6 * i + iv n v i)
    rw [h5]
    exact hb _ _ ((RN_Sr hR).mp (rn_iff.mp hr)) i hi
/-! ===== only the entries below n count ===== -/
def Ag (n : Nat) (f f' : Nat → Nat) : Prop := ∀ a, a < n → ∀ i, i < n → f (6 * a + i) = f' (6 * a + i)
theorem RN_congr {n : Nat} {lp rp lp' rp' : Nat → Nat} (h1 : Ag n lp lp') (h2 : Ag n rp rp') {v : Nat} (R : RN n lp rp v) : RN n lp' rp' v := by
  intro a ha b hb c hc e hlt
  rw [← h1 a ha b hb, ← h1 a ha _ (oP_lt ha)] at hlt
  rw [← h2 b hb c hc, ← h2 b hb a ha]
  exact R a ha b hb c hc e hlt
theorem Ag.symm {n : Nat} {f f' : Nat → Nat} (h : Ag n f f') : Ag n f' f := fun a ha i hi => (h a ha i hi).symm
theorem rn_congr {n : Nat} {lp rp lp' rp' : Nat → Nat} (h1 : Ag n lp lp') (h2 : Ag n rp rp') (v : Nat) : rn n lp rp v = rn n lp' rp' v := by
  by_cases h : RN n lp rp v
  · rw [rn_iff.mpr h, rn_iff.mpr (RN_congr h1 h2 h)]
  · rw [rn_not h, rn_not (fun q => h (RN_congr h1.symm h2.symm q))]
/-! ===== the search through all that rest ===== -/
def SrI (n : Nat) (lp rp me wt : Nat → Nat) (my : Nat) : Prop :=
  (∀ v, v < fc n → me v = 0 ∨ me v = 1) ∧ (∀ v, v < fc n → me v = 1 → RN n lp rp v ∧ ∃ j, j < my ∧ wt j = v) ∧
  (∀ j, j < my → wt j < fc n ∧ me (wt j) = 1) ∧ my = cT (fun v => decide (me v = 1)) (fc n)
/-- what parting he's pair of v comes to is met -/
def SrC (n : Nat) (lp rp me : Nat → Nat) (v he : Nat) : Prop := ∀ v', v' < fc n → RN n lp rp v' → (∀ i, i < n → gk n lp v i ≤ gk n lp v' i) → gk n lp v' he ≠ gk n lp v he → ∃ v1, v1 < fc n ∧ me v1 = 1 ∧ (∀ i, i < n → gk n lp v1 i ≤ gk n lp v' i) ∧ sm (gk n lp v) n < sm (gk n lp v1) n
theorem SrI.start {n : Nat} {lp rp me wt : Nat → Nat} (h : ∀ v, v < fc n → me v = 0) : SrI n lp rp me wt 0 := by
  refine ⟨fun v hv => Or.inl (h v hv), fun v hv e => ?_, fun j hj => absurd hj (Nat.not_lt_zero j), ?_⟩
  · rw [h v hv] at e
    exact absurd e (by decide)
  · have hz : ∀ K, (∀ v, v < K → me v = 0) → cT (fun v => decide (me v = 1)) K = 0 := by
      intro K
      induction K with
      | zero => intro _; rfl
      | succ K ih =>
        intro hK
        show cT (fun v => decide (me v = 1)) K + (if decide (me K = 1) = true then 1 else 0) = 0
        rw [ih (fun v hv => hK v (by omega)), hK K (by omega)]
        rfl
    exact (hz _ h).symm
theorem SrI.add {n : Nat} {lp rp me wt : Nat → Nat} {my k : Nat} (I : SrI n lp rp me wt my) (hk : k < fc n) (hr : RN n lp rp k) (h0 : me k = 0) : my + 1 ≤ fc n ∧ SrI n lp rp (va_up me k 1) (va_up wt my k) (my + 1) := by
  obtain ⟨I1, I2, I3, I4⟩ := I
  have hc : cT (fun v => decide (va_up me k 1 v = 1)) (fc n) = my + 1 := by
    rw [I4]
    refine cT_up (k := k) ?_ ?_ (fun v hv => ?_) _ hk
    · show decide (me k = 1) = false
      rw [h0]; rfl
    · show decide (va_up me k 1 k = 1) = true
      rw [va_up_self]; rfl
    · show decide (va_up me k 1 v = 1) = decide (me v = 1)
      rw [va_up_ne _ _ hv]
  refine ⟨by rw [← hc]; exact cT_le _ _, fun v hv => ?_, fun v hv e => ?_, fun j hj => ?_, hc.symm⟩
  · by_cases e : v = k
    · rw [e, va_up_self]; exact Or.inr rfl
    · rw [va_up_ne _ _ e]; exact I1 v hv
  · by_cases q : v = k
    · rw [q]
      exact ⟨hr, my, by omega, va_up_self _ _ _⟩
    · rw [va_up_ne _ _ q] at e
      obtain ⟨h1, j, h2, h3⟩ := I2 v hv e
      exact ⟨h1, j, by omega, by rw [va_up_ne _ _ (show j ≠ my by omega)]; exact h3⟩
  · by_cases e : j = my
    · rw [e, va_up_self, va_up_self]
      exact ⟨hk, rfl⟩
    · rw [va_up_ne _ _ e]
      obtain ⟨h1, h2⟩ := I3 j (by omega)
      refine ⟨h1, ?_⟩
      by_cases q : wt j = k
      · rw [q, va_up_self]
      · rw [va_up_ne _ _ q]; exact h2
theorem SrC.mono {n : Nat} {lp rp me me' : Nat → Nat} {v he : Nat} (h : SrC n lp rp me v he) (hm : ∀ v, v < fc n → me v = 1 → me' v = 1) : SrC n lp rp me' v he := by
  intro v' h1 h2 h3 h4
  obtain ⟨v1, q1, q2, q3, q4⟩ := h v' h1 h2 h3 h4
  exact ⟨v1, q1, hm v1 q1 q2, q3, q4⟩
/-- parting gave a stable pairing of number v1, and that is met -/
theorem SrC.of {n : Nat} {lf lp rp me g h : Nat → Nat} {v he r v1 : Nat} (hL : PfL n lf lp) (Q : PartQ n lf rp (gk n lp v) he r g h) (hv1 : r = 1 → v1 < fc n ∧ me v1 = 1 ∧ ∀ i, i < n → gk n lp v1 i = g i) : SrC n lp rp me v he := by
  intro v' h1 h2 h3 h4
  have S' := (RN_iv hL).mp h2
  rcases Q with ⟨q0, q1, q2, q3⟩ | ⟨_, q⟩
  · obtain ⟨a1, a2, a3⟩ := hv1 q0
    refine ⟨v1, a1, a2, fun i hi => ?_, ?_⟩
    · rw [a3 i hi]
      exact q3 _ _ S' h3 h4 i hi
    · have : sm g n ≤ sm (gk n lp v1) n := sm_le n (fun i hi => by rw [a3 i hi]; exact Nat.le_refl _)
      omega
  · exact absurd (q _ _ S' h3 h4) id
theorem SrI.all {n : Nat} {lf lp rp me wt : Nat → Nat} {my v0 : Nat} (hn : n < 7) (hL : PfL n lf lp) (I : SrI n lp rp me wt my) (h0 : v0 < fc n) (hm0 : me v0 = 1) (hb : ∀ v, v < fc n → RN n lp rp v → ∀ i, i < n → gk n lp v0 i ≤ gk n lp v i) (hc : ∀ j, j < my → ∀ he, he < n → SrC n lp rp me (wt j) he) : my = cT (rn n lp rp) (fc n) := by
  obtain ⟨I1, I2, I3, I4⟩ := I
  have key : ∀ v', v' < fc n → RN n lp rp v' → ∀ m v, v < fc n → me v = 1 → (∀ i, i < n → gk n lp v i ≤ gk n lp v' i) → sm (gk n lp v') n < sm (gk n lp v) n + m → me v' = 1 := by
    intro v' hv' hr' m
    induction m with
    | zero =>
      intro v hv hm hle hs
      have := sm_le n hle
      omega
    | succ m ih =>
      intro v hv hm hle hs
      by_cases hall : ∀ i, i < n → gk n lp v i = gk n lp v' i
      · have he : v = v' := by
          refine oP_uni (n := n) (by rw [← fc_oT n hn]; exact hv) (by rw [← fc_oT n hn]; exact hv') (fun t ht => ?_)
          have e1 := (hL t ht _ (oP_lt (k := v) ht)).2.2
          have e2 := (hL t ht _ (oP_lt (k := v') ht)).2.2
          have e3 : lp (6 * t + oP n v t) = lp (6 * t + oP n v' t) := hall t ht
          rw [e3] at e1
          exact e1.symm.trans e2
        rw [← he]; exact hm
      · obtain ⟨he, h1⟩ := Classical.not_forall.mp hall
        have h2 : he < n := Classical.byContradiction (fun q => h1 (fun w => absurd w q))
        have h3 : gk n lp v' he ≠ gk n lp v he := fun q => h1 (fun _ => q.symm)
        obtain ⟨_, j, hj1, hj2⟩ := I2 v hv hm
        have hC := hc j hj1 he h2
        rw [hj2] at hC
        obtain ⟨v1, a1, a2, a3, a4⟩ := hC v' hv' hr' hle h3
        exact ih v1 a1 a2 a3 (by omega)
  rw [I4]
  refine cT_congr _ (fun v hv => ?_)
  by_cases h : RN n lp rp v
  · have := key v hv h (sm (gk n lp v) n + 1) v0 h0 hm0 (hb v hv h) (by omega)
    rw [this, rn_iff.mpr h]
    rfl
  · rw [rn_not h]
    rcases I1 v hv with e | e
    · rw [e]; rfl
    · exact absurd (I2 v hv e).1 h
end
section
/-! ===== rows at the level of Nat: values nI k, arrays nA f; the world of cells z_W; contracts CV, CI ===== -/
abbrev vwCl : List vw_C := [(RX0, TX0, 11), (RX1, TX1, 12)]
def nA (f : Nat → Nat) : Nat → Int32 := fun j => nI (f j)
theorem nA_upd (f : Nat → Nat) (k v : Nat) : upd (nA f) k (nI v) = nA (va_up f k v) := by
  funext j
  by_cases h : j = k
  · subst h
    simp [upd, nA, va_up]
  · simp [upd, nA, va_up, h]
/-- an int's low 31 bits -/
def mx (x : Int32) : Nat := x.toBitVec.toNat % 2 ^ 31
theorem mx_lt (x : Int32) : mx x < 2 ^ 31 := Nat.mod_lt _ (by decide)
theorem mx_and (x : Int32) : x &&& 2147483647 = nI (mx x) := pk_and x 31 (by decide)
theorem nI_nb : nI nb = -1 := by decide
/-- a method's start, its end; the world in a walk; what a walk knows of the machine -/
def z_P (D : va_G) (d dz : ClassId) (sz : Nat) (ws : va_W) (U : State) : Prop := U.heap.size = sz ∧ va_P D vwCl ws U.heap ∧ va_K D vwCl [(d, .int), (dz, .boolean)] U ∧ va_D (fun _ => True) ws
def z_B (D : va_G) (d dz : ClassId) (A : Nat → Prop) (ws : va_W) (t : State) : Prop := va_P D vwCl ws t.heap ∧ va_K D vwCl [(d, .int), (dz, .boolean)] t ∧ va_D A ws
def z_W (D : va_G) (A : Nat → Prop) (s : State) (ws : va_W) (H : Heap) (locs : List Loc) : Prop := va_P D vwCl ws H ∧ va_D A ws ∧ va_S A s.heap H locs
def z_C (p : Program) (R : Room) (s : State) (m : MethodId) (args : Array Value) (c : Code) (cc : ByteArray) (nL : Nat) (own : String) (D : va_G) (d dz : ClassId) (A : Nat → Prop) (fr lo mc ms : Nat) : Prop :=
  (p.tables.exec = Jvm.exec ∧ c.code = cc ∧ c.maxLocals = nL ∧ s.vm.findClass own = some m.cls ∧ ∀ w ∈ lw_all, w.before args s = true) ∧ va_K D vwCl [(d, .int), (dz, .boolean)] s ∧ (∀ q : Nat, s.heap.size ≤ q → A q) ∧ fr ≤ R.frames ∧ lo ≤ R.locals ∧ mc ≤ R.cells ∧ ms ≤ R.slots
/-- a contract of a method without an answer: arguments av, cells w0 at its start, post u and cells w1 u at its end -/
def CV {S : Type} (l : Launch) (y : MethodName) (b : ByteArray) (L fr lo mc ms : Nat) (D : va_G) (d dz : ClassId) (av : List Value) (w0 : va_W) (post : S → Prop) (w1 : S → va_W) : Prop :=
  ∀ sz : Nat, Met l y (ws_ y b L none) ({ frames := fr, cells := mc, slots := ms, locals := lo } : Room) (va_Pc av (z_P D d dz sz w0)) (va_Qv post (fun u => z_B D d dz (va_A w0 sz) (w1 u)) (va_A w0 sz)) mc ms (va_A w0 sz)
/-- a contract of a method that answers an int nI k -/
def CI {S : Type} (l : Launch) (y : MethodName) (b : ByteArray) (L : Nat) (ty : FieldType) (fr lo mc ms : Nat) (D : va_G) (d dz : ClassId) (av : List Value) (w0 : va_W) (post : Nat → S → Prop) (w1 : S → va_W) : Prop :=
  ∀ sz : Nat, Met l y (ws_ y b L (some ty)) ({ frames := fr, cells := mc, slots := ms, locals := lo } : Room) (va_Pc av (z_P D d dz sz w0)) (va_Qi (fun (r : Int32) (u : S) => ∃ k : Nat, r = nI k ∧ post k u) (fun u => z_B D d dz (va_A w0 sz) (w1 u)) (va_A w0 sz)) mc ms (va_A w0 sz)
section ZS
variable {S : Type} {l : Launch} {y : MethodName} {b : ByteArray} {L fr lo mc ms : Nat} {D : va_G} {d dz : ClassId} {av : List Value} {w0 : va_W} {w1 : S → va_W} {own : String}
set_option maxHeartbeats 4000000 in
theorem CV.start {post : S → Prop} (ho : y.cls = own) (hy : plainName y.cls = true) (hL : (lg_sl av).length ≤ L)
    (body : ∀ (p : Program) (e : Env) (R : Room) (s : State) (m : MethodId) (args : Array Value) (below : List Frame) (meth : Method) (c : Code) (A : Nat → Prop) (Q : State → Prop), z_C p R s m args c b L own D d dz A fr lo mc ms → meth.name = y.name →
      (∀ (u : S) (H : Heap) (locs : List Loc) (pc : Nat) (ls : Array Slot), post u → z_W D A s (w1 u) H locs → decode b pc = .ok (.return_, 1) → W p l e R s m args below meth c H locs mc ms Q (F0 m pc ls [])) →
      ∀ (H : Heap) (locs : List Loc) (ls : Array Slot), z_W D A s w0 H locs → lv_has ls L (lv_args 0 av) → W p l e R s m args below meth c H locs 0 0 Q (F0 m 0 ls [])) : CV l y b L fr lo mc ms D d dz av w0 post w1 := by
  intro sz
  refine Met.ofW (cc := b) (maxL := L) (ret := none) hy rfl ?_
  intro p e s m args below meth c s₁ B hml hv
  obtain ⟨rfl, hsz, hP, hK, hD0⟩ := hv
  have hts := atoms_spec (ws := ws_ y b L none) B.pre
  have hts : ∀ w ∈ lw_all, w.before _ s = true := fun w h => hts w (List.mem_cons_of_mem _ h)
  have hown : s.vm.findClass y.cls = some m.cls := findClass_of_methodNamed B.named
  rw [ho] at hown
  subst hsz
  have hl := lv_entry av (n := L) hL
  rw [lg_entry_eq]
  refine body p e _ s m _ below meth c (va_A w0 s.heap.size) _ ⟨⟨B.exec, B.bytes, hml, hown, hts⟩, hK, fun q h => Or.inr h, Nat.le_refl _, Nat.le_refl _, Nat.le_refl _, Nat.le_refl _⟩ (name_of_methodNamed B.named B.method).1 ?_ s.heap [] _ ⟨hP, hD0.self, va_S.rf⟩ hl
  intro u H locs pc ls hp Y hdg
  exact W.vret B.exec B.bytes B.returns (fun t ht hW => ⟨⟨u, rfl, hp, by rw [ht]; exact Y.1, va_K.moved hW.alike hK, Y.2.1⟩, Y.2.2.F ht⟩) Y.2.2.2.2 hdg B.notSynchronized
set_option maxHeartbeats 4000000 in
theorem CI.start {ty : FieldType} {post : Nat → S → Prop} (ho : y.cls = own) (hy : plainName y.cls = true) (hL : (lg_sl av).length ≤ L)
    (body : ∀ (p : Program) (e : Env) (R : Room) (s : State) (m : MethodId) (args : Array Value) (below : List Frame) (meth : Method) (c : Code) (A : Nat → Prop) (Q : State → Prop), z_C p R s m args c b L own D d dz A fr lo mc ms → meth.name = y.name →
      (∀ (k : Nat) (u : S) (H : Heap) (locs : List Loc) (pc : Nat) (ls : Array Slot), post k u → z_W D A s (w1 u) H locs → narrow ty (.int (nI k)) = .int (nI k) → decode b pc = .ok (.ireturn, 1) → W p l e R s m args below meth c H locs mc ms Q (F0 m pc ls [.int (nI k)])) →
      ∀ (H : Heap) (locs : List Loc) (ls : Array Slot), z_W D A s w0 H locs → lv_has ls L (lv_args 0 av) → W p l e R s m args below meth c H locs 0 0 Q (F0 m 0 ls [])) : CI l y b L ty fr lo mc ms D d dz av w0 post w1 := by
  intro sz
  refine Met.ofW (cc := b) (maxL := L) (ret := some ty) hy rfl ?_
  intro p e s m args below meth c s₁ B hml hv
  obtain ⟨rfl, hsz, hP, hK, hD0⟩ := hv
  have hts := atoms_spec (ws := ws_ y b L (some ty)) B.pre
  have hts : ∀ w ∈ lw_all, w.before _ s = true := fun w h => hts w (List.mem_cons_of_mem _ h)
  have hown : s.vm.findClass y.cls = some m.cls := findClass_of_methodNamed B.named
  rw [ho] at hown
  subst hsz
  have hl := lv_entry av (n := L) hL
  rw [lg_entry_eq]
  refine body p e _ s m _ below meth c (va_A w0 s.heap.size) _ ⟨⟨B.exec, B.bytes, hml, hown, hts⟩, hK, fun q h => Or.inr h, Nat.le_refl _, Nat.le_refl _, Nat.le_refl _, Nat.le_refl _⟩ (name_of_methodNamed B.named B.method).1 ?_ s.heap [] _ ⟨hP, hD0.self, va_S.rf⟩ hl
  intro k u H locs pc ls hp Y hn hdg
  exact W.zret B.exec B.bytes B.returns hn (fun t ht hW => ⟨⟨nI k, u, rfl, ⟨k, rfl, hp⟩, by rw [ht]; exact Y.1, va_K.moved hW.alike hK, Y.2.1⟩, Y.2.2.F ht⟩) Y.2.2.2.2 hdg B.notSynchronized
end ZS
section ZR
variable {p : Program} {l : Launch} {e : Env} {R : Room} {s : State} {m : MethodId} {args : Array Value} {below : List Frame} {meth : Method} {c : Code} {H : Heap} {locs : List Loc} {cells slots : Nat} {Q : State → Prop} {cc : ByteArray} {nL pc : Nat} {own : String} {D : va_G} {d dz : ClassId} {A : Nat → Prop} {fr lo mc ms : Nat} {ls : Array Slot} {rest : List Value} {ws : va_W} {a : Nat}
theorem z_iald (X : z_C p R s m args c cc nL own D d dz A fr lo mc ms) (Y : z_W D A s ws H locs) (q0 : Nat) {n : Nat} {f : Nat → Nat} (ha : ws[q0]? = some (a, .inl (d, n, .inl (nA f)))) {i : Nat} (hin : i < n) (hdg : decode cc pc = .ok (.iaload, 1))
    (kk : W p l e R s m args below meth c H locs cells slots Q (F0 m (pc + 1) ls (.int (nI (f i)) :: rest))) (hn : n < 2 ^ 31 := by decide) : W p l e R s m args below meth c H locs cells slots Q (F0 m pc ls (.int (nI i) :: .ref a :: rest)) := by
  refine va_iald X.1.1 X.1.2.1 X.2.1 Y.1 q0 0 ha rfl (vp_in_nI hin hn) hdg ?_
  rw [nI_clamp (Nat.lt_trans hin hn)]
  exact kk
theorem z_zald (X : z_C p R s m args c cc nL own D d dz A fr lo mc ms) (Y : z_W D A s ws H locs) (q0 : Nat) {n : Nat} {f : Nat → Nat} (ha : ws[q0]? = some (a, .inl (dz, n, .inl (nA f)))) {i : Nat} (hin : i < n) (hdg : decode cc pc = .ok (.baload, 1))
    (kk : W p l e R s m args below meth c H locs cells slots Q (F0 m (pc + 1) ls (.int (nI (f i)) :: rest))) (hn : n < 2 ^ 31 := by decide) : W p l e R s m args below meth c H locs cells slots Q (F0 m pc ls (.int (nI i) :: .ref a :: rest)) := by
  refine va_zald X.1.1 X.1.2.1 X.2.1 Y.1 q0 1 ha rfl (vp_in_nI hin hn) hdg ?_
  rw [nI_clamp (Nat.lt_trans hin hn)]
  exact kk
theorem z_iast (X : z_C p R s m args c cc nL own D d dz A fr lo mc ms) (Y : z_W D A s ws H locs) (q0 : Nat) {n : Nat} {f : Nat → Nat} (ha : ws[q0]? = some (a, .inl (d, n, .inl (nA f)))) {i x : Nat} (hin : i < n) (hdg : decode cc pc = .ok (.iastore, 1))
    (kk : ∀ (H1 : Heap) (locs1 : List Loc), z_W D A s (ws.set q0 (a, .inl (d, n, .inl (nA (va_up f i x))))) H1 locs1 → W p l e R s m args below meth c H1 locs1 cells slots Q (F0 m (pc + 1) ls rest)) (hn : n < 2 ^ 31 := by decide) : W p l e R s m args below meth c H locs cells slots Q (F0 m pc ls (.int (nI x) :: .int (nI i) :: .ref a :: rest)) := by
  refine va_iast X.1.1 X.1.2.1 X.2.1 Y.1 Y.2.1 Y.2.2 q0 0 ha rfl (vp_in_nI hin hn) hdg fun H1 locs1 hP hD hS => ?_
  rw [nI_clamp (Nat.lt_trans hin hn), nA_upd] at hP hD
  exact kk H1 locs1 ⟨hP, hD, hS⟩
theorem z_zast (X : z_C p R s m args c cc nL own D d dz A fr lo mc ms) (Y : z_W D A s ws H locs) (q0 : Nat) {n : Nat} {f : Nat → Nat} (ha : ws[q0]? = some (a, .inl (dz, n, .inl (nA f)))) {i x : Nat} (hin : i < n) (hx : vp_nar .boolean (nI x) = nI x) (hdg : decode cc pc = .ok (.bastore, 1))
    (kk : ∀ (H1 : Heap) (locs1 : List Loc), z_W D A s (ws.set q0 (a, .inl (dz, n, .inl (nA (va_up f i x))))) H1 locs1 → W p l e R s m args below meth c H1 locs1 cells slots Q (F0 m (pc + 1) ls rest)) (hn : n < 2 ^ 31 := by decide) : W p l e R s m args below meth c H locs cells slots Q (F0 m pc ls (.int (nI x) :: .int (nI i) :: .ref a :: rest)) := by
  refine va_zast X.1.1 X.1.2.1 X.2.1 Y.1 Y.2.1 Y.2.2 q0 1 ha rfl (vp_in_nI hin hn) hdg fun H1 locs1 hP hD hS => ?_
  rw [nI_clamp (Nat.lt_trans hin hn), hx, nA_upd] at hP hD
  exact kk H1 locs1 ⟨hP, hD, hS⟩
theorem z_alen (X : z_C p R s m args c cc nL own D d dz A fr lo mc ms) (Y : z_W D A s ws H locs) (q0 : Nat) {n : Nat} {f : Nat → Nat} (ha : ws[q0]? = some (a, .inl (d, n, .inl (nA f)))) (hdg : decode cc pc = .ok (.arraylength, 1))
    (kk : W p l e R s m args below meth c H locs cells slots Q (F0 m (pc + 1) ls (.int (nI n) :: rest))) : W p l e R s m args below meth c H locs cells slots Q (F0 m pc ls (.ref a :: rest)) :=
  va_alen (ty := .int) X.1.1 X.1.2.1 X.2.1 Y.1 q0 0 ha rfl rfl hdg kk
theorem z_zlen (X : z_C p R s m args c cc nL own D d dz A fr lo mc ms) (Y : z_W D A s ws H locs) (q0 : Nat) {n : Nat} {f : Nat → Nat} (ha : ws[q0]? = some (a, .inl (dz, n, .inl (nA f)))) (hdg : decode cc pc = .ok (.arraylength, 1))
    (kk : W p l e R s m args below meth c H locs cells slots Q (F0 m (pc + 1) ls (.int (nI n) :: rest))) : W p l e R s m args below meth c H locs cells slots Q (F0 m pc ls (.ref a :: rest)) :=
  va_alen (ty := .boolean) X.1.1 X.1.2.1 X.2.1 Y.1 q0 1 ha rfl rfl hdg kk
theorem z_icge (hx : p.tables.exec = Jvm.exec) (hb : c.code = cc) {x y : Nat} {off : Int} {tgt : Nat} (hdg : decode cc pc = .ok (.if_icmp .ge off, 3)) (ht : (pc : Int) + off = (tgt : Int)) (h1 : x < 2 ^ 31) (h2 : y < 2 ^ 31)
    (kt : y ≤ x → W p l e R s m args below meth c H locs cells slots Q (F0 m tgt ls rest)) (kf : x < y → W p l e R s m args below meth c H locs cells slots Q (F0 m (pc + 3) ls rest)) : W p l e R s m args below meth c H locs cells slots Q (F0 m pc ls (.int (nI y) :: .int (nI x) :: rest)) :=
  lv_icmp_ge hx hb hdg ht (fun h => kt ((nI_leI h2 h1).mp h)) (fun h => kf (Nat.not_le.mp (fun q => h ((nI_leI h2 h1).mpr q))))
theorem z_icgt (hx : p.tables.exec = Jvm.exec) (hb : c.code = cc) {x y : Nat} {off : Int} {tgt : Nat} (hdg : decode cc pc = .ok (.if_icmp .gt off, 3)) (ht : (pc : Int) + off = (tgt : Int)) (h1 : x < 2 ^ 31) (h2 : y < 2 ^ 31)
    (kt : y < x → W p l e R s m args below meth c H locs cells slots Q (F0 m tgt ls rest)) (kf : x ≤ y → W p l e R s m args below meth c H locs cells slots Q (F0 m (pc + 3) ls rest)) : W p l e R s m args below meth c H locs cells slots Q (F0 m pc ls (.int (nI y) :: .int (nI x) :: rest)) :=
  lv_icmp_gt hx hb hdg ht (fun h => kt ((nI_ltI h2 h1).mp h)) (fun h => kf (Nat.not_lt.mp (fun q => h ((nI_ltI h2 h1).mpr q))))
theorem z_icle (hx : p.tables.exec = Jvm.exec) (hb : c.code = cc) {x y : Nat} {off : Int} {tgt : Nat} (hdg : decode cc pc = .ok (.if_icmp .le off, 3)) (ht : (pc : Int) + off = (tgt : Int)) (h1 : x < 2 ^ 31) (h2 : y < 2 ^ 31)
    (kt : x ≤ y → W p l e R s m args below meth c H locs cells slots Q (F0 m tgt ls rest)) (kf : y < x → W p l e R s m args below meth c H locs cells slots Q (F0 m (pc + 3) ls rest)) : W p l e R s m args below meth c H locs cells slots Q (F0 m pc ls (.int (nI y) :: .int (nI x) :: rest)) :=
  lv_icmp_le hx hb hdg ht (fun h => kt ((nI_leI h1 h2).mp h)) (fun h => kf (Nat.not_le.mp (fun q => h ((nI_leI h1 h2).mpr q))))
theorem z_icne (hx : p.tables.exec = Jvm.exec) (hb : c.code = cc) {x y : Nat} {off : Int} {tgt : Nat} (hdg : decode cc pc = .ok (.if_icmp .ne off, 3)) (ht : (pc : Int) + off = (tgt : Int)) (h1 : x < 2 ^ 31) (h2 : y < 2 ^ 31)
    (kt : x ≠ y → W p l e R s m args below meth c H locs cells slots Q (F0 m tgt ls rest)) (kf : x = y → W p l e R s m args below meth c H locs cells slots Q (F0 m (pc + 3) ls rest)) : W p l e R s m args below meth c H locs cells slots Q (F0 m pc ls (.int (nI y) :: .int (nI x) :: rest)) :=
  lv_icmp_ne hx hb hdg ht (fun h => kt (fun q => h ((nI_eq h1 h2).mpr q))) (fun h => kf ((nI_eq h1 h2).mp h))
theorem z_iceq (hx : p.tables.exec = Jvm.exec) (hb : c.code = cc) {x y : Nat} {off : Int} {tgt : Nat} (hdg : decode cc pc = .ok (.if_icmp .eq off, 3)) (ht : (pc : Int) + off = (tgt : Int)) (h1 : x < 2 ^ 31) (h2 : y < 2 ^ 31)
    (kt : x = y → W p l e R s m args below meth c H locs cells slots Q (F0 m tgt ls rest)) (kf : x ≠ y → W p l e R s m args below meth c H locs cells slots Q (F0 m (pc + 3) ls rest)) : W p l e R s m args below meth c H locs cells slots Q (F0 m pc ls (.int (nI y) :: .int (nI x) :: rest)) :=
  lv_icmp_eq hx hb hdg ht (fun h => kt ((nI_eq h1 h2).mp h)) (fun h => kf (fun q => h ((nI_eq h1 h2).mpr q)))
theorem z_ifeq (hx : p.tables.exec = Jvm.exec) (hb : c.code = cc) {x : Nat} {off : Int} {tgt : Nat} (hdg : decode cc pc = .ok (.ifCond .eq off, 3)) (ht : (pc : Int) + off = (tgt : Int)) (h1 : x < 2 ^ 31)
    (kt : x = 0 → W p l e R s m args below meth c H locs cells slots Q (F0 m tgt ls rest)) (kf : x ≠ 0 → W p l e R s m args below meth c H locs cells slots Q (F0 m (pc + 3) ls rest)) : W p l e R s m args below meth c H locs cells slots Q (F0 m pc ls (.int (nI x) :: rest)) :=
  lv_if_eq hx hb hdg ht (fun h => kt ((nI_eq h1 (by decide)).mp (show nI x = nI 0 from h))) (fun h => kf (fun q => h (show nI x = nI 0 by rw [q])))
theorem z_ifne (hx : p.tables.exec = Jvm.exec) (hb : c.code = cc) {x : Nat} {off : Int} {tgt : Nat} (hdg : decode cc pc = .ok (.ifCond .ne off, 3)) (ht : (pc : Int) + off = (tgt : Int)) (h1 : x < 2 ^ 31)
    (kt : x ≠ 0 → W p l e R s m args below meth c H locs cells slots Q (F0 m tgt ls rest)) (kf : x = 0 → W p l e R s m args below meth c H locs cells slots Q (F0 m (pc + 3) ls rest)) : W p l e R s m args below meth c H locs cells slots Q (F0 m pc ls (.int (nI x) :: rest)) :=
  lv_if_ne hx hb hdg ht (fun h => kt (fun q => h (show nI x = nI 0 by rw [q]))) (fun h => kf ((nI_eq h1 (by decide)).mp (show nI x = nI 0 from h)))
theorem z_iflt (hx : p.tables.exec = Jvm.exec) (hb : c.code = cc) {x : Nat} {off : Int} {tgt : Nat} (hdg : decode cc pc = .ok (.ifCond .lt off, 3)) (ht : (pc : Int) + off = (tgt : Int)) (h1 : x < 2 ^ 31 ∨ x = nb)
    (kt : x = nb → W p l e R s m args below meth c H locs cells slots Q (F0 m tgt ls rest)) (kf : x < 2 ^ 31 ∧ x ≠ nb → W p l e R s m args below meth c H locs cells slots Q (F0 m (pc + 3) ls rest)) : W p l e R s m args below meth c H locs cells slots Q (F0 m pc ls (.int (nI x) :: rest)) :=
  lv_if_lt hx hb hdg ht (fun h => kt (h1.elim (fun q => absurd h (nI_pos q)) id)) (fun h => kf (⟨h1.elim id (fun q => absurd (show nI x < 0 by rw [q]; decide) h), fun q => h (by rw [q]; decide)⟩))
theorem z_iadd (hx : p.tables.exec = Jvm.exec) (hb : c.code = cc) {x y : Nat} (hdg : decode cc pc = .ok (.iadd, 1)) (k : W p l e R s m args below meth c H locs cells slots Q (F0 m (pc + 1) ls (.int (nI (x + y)) :: rest))) : W p l e R s m args below meth c H locs cells slots Q (F0 m pc ls (.int (nI y) :: .int (nI x) :: rest)) := by
  refine lv_iadd hx hb hdg ?_
  rw [nI_add]
  exact k
theorem z_isub (hx : p.tables.exec = Jvm.exec) (hb : c.code = cc) {x y : Nat} (hdg : decode cc pc = .ok (.isub, 1)) (h : y ≤ x) (k : W p l e R s m args below meth c H locs cells slots Q (F0 m (pc + 1) ls (.int (nI (x - y)) :: rest))) : W p l e R s m args below meth c H locs cells slots Q (F0 m pc ls (.int (nI y) :: .int (nI x) :: rest)) := by
  refine lv_isub hx hb hdg ?_
  rw [pk_sub h]
  exact k
theorem z_imul (hx : p.tables.exec = Jvm.exec) (hb : c.code = cc) {x y : Nat} (hdg : decode cc pc = .ok (.imul, 1)) (k : W p l e R s m args below meth c H locs cells slots Q (F0 m (pc + 1) ls (.int (nI (x * y)) :: rest))) : W p l e R s m args below meth c H locs cells slots Q (F0 m pc ls (.int (nI y) :: .int (nI x) :: rest)) := by
  refine lv_imul hx hb hdg ?_
  rw [pk_mul]
  exact k
theorem z_idiv (hx : p.tables.exec = Jvm.exec) (hb : c.code = cc) {x y : Nat} (hdg : decode cc pc = .ok (.idiv, 1)) (h1 : x < 2 ^ 31) (h0 : 0 < y) (h2 : y < 2 ^ 31) (k : W p l e R s m args below meth c H locs cells slots Q (F0 m (pc + 1) ls (.int (nI (x / y)) :: rest))) : W p l e R s m args below meth c H locs cells slots Q (F0 m pc ls (.int (nI y) :: .int (nI x) :: rest)) := by
  refine lv_idiv hx hb hdg (nI_ne0 h0 h2) ?_
  rw [pk_div h1 h0 h2]
  exact k
theorem z_irem (hx : p.tables.exec = Jvm.exec) (hb : c.code = cc) {x y : Nat} (hdg : decode cc pc = .ok (.irem, 1)) (h1 : x < 2 ^ 31) (h0 : 0 < y) (h2 : y < 2 ^ 31) (k : W p l e R s m args below meth c H locs cells slots Q (F0 m (pc + 1) ls (.int (nI (x % y)) :: rest))) : W p l e R s m args below meth c H locs cells slots Q (F0 m pc ls (.int (nI y) :: .int (nI x) :: rest)) := by
  refine lv_irem hx hb hdg (nI_ne0 h0 h2) ?_
  rw [pk_rem h1 h0 h2]
  exact k
/-- x & MAX_VALUE -/
theorem z_iand (hx : p.tables.exec = Jvm.exec) (hb : c.code = cc) {x : Int32} (hdg : decode cc pc = .ok (.iand, 1)) (k : W p l e R s m args below meth c H locs cells slots Q (F0 m (pc + 1) ls (.int (nI (mx x)) :: rest))) : W p l e R s m args below meth c H locs cells slots Q (F0 m pc ls (.int 2147483647 :: .int x :: rest)) := by
  refine lv_iand hx hb hdg ?_
  rw [mx_and]
  exact k
theorem z_cur (n : Nat) (hn : n < 32) : ((nI n &&& 31).toBitVec.smod 32).toNat = n := by
  have h : ∀ n, n < 32 → ((nI n &&& 31).toBitVec.smod 32).toNat = n := by decide +kernel
  exact h n hn
theorem z_ishr (hx : p.tables.exec = Jvm.exec) (hb : c.code = cc) {x y : Nat} (hdg : decode cc pc = .ok (.ishr, 1)) (h1 : x < 2 ^ 31) (h2 : y < 32) (k : W p l e R s m args below meth c H locs cells slots Q (F0 m (pc + 1) ls (.int (nI (x / 2 ^ y)) :: rest))) : W p l e R s m args below meth c H locs cells slots Q (F0 m pc ls (.int (nI y) :: .int (nI x) :: rest)) := by
  refine lv_ishr hx hb hdg ?_
  rw [pk_shrN h1 _ y (z_cur y h2)]
  exact k
theorem z_ishl (hx : p.tables.exec = Jvm.exec) (hb : c.code = cc) {x y : Nat} (hdg : decode cc pc = .ok (.ishl, 1)) (h2 : y < 32) (h1 : x * 2 ^ y < 2 ^ 32) (k : W p l e R s m args below meth c H locs cells slots Q (F0 m (pc + 1) ls (.int (nI (x * 2 ^ y)) :: rest))) : W p l e R s m args below meth c H locs cells slots Q (F0 m pc ls (.int (nI y) :: .int (nI x) :: rest)) := by
  refine lv_ishl hx hb hdg ?_
  rw [pk_shlN _ y (z_cur y h2) h1]
  exact k
theorem z_and1 (hx : p.tables.exec = Jvm.exec) (hb : c.code = cc) {x : Nat} (hdg : decode cc pc = .ok (.iand, 1)) (h : x < 2 ^ 32) (k : W p l e R s m args below meth c H locs cells slots Q (F0 m (pc + 1) ls (.int (nI (x % 2)) :: rest))) : W p l e R s m args below meth c H locs cells slots Q (F0 m pc ls (.int (nI 1) :: .int (nI x) :: rest)) := by
  refine lv_iand hx hb hdg ?_
  rw [pk_andN h (m := nI 1) 1 (by decide)]
  exact k
theorem nI_or (x y : Nat) : nI x ||| nI y = nI (x ||| y) := by
  apply Int32.toBitVec_inj.mp
  apply BitVec.eq_of_toNat_eq
  rw [Int32.toBitVec_or, BitVec.toNat_or]
  show (BitVec.ofNat 32 x).toNat ||| (BitVec.ofNat 32 y).toNat = (BitVec.ofNat 32 (x ||| y)).toNat
  rw [BitVec.toNat_ofNat, BitVec.toNat_ofNat, BitVec.toNat_ofNat, Nat.or_mod_two_pow]
theorem z_ior (hx : p.tables.exec = Jvm.exec) (hb : c.code = cc) {x y : Nat} (hdg : decode cc pc = .ok (.ior, 1)) (k : W p l e R s m args below meth c H locs cells slots Q (F0 m (pc + 1) ls (.int (nI (x ||| y)) :: rest))) : W p l e R s m args below meth c H locs cells slots Q (F0 m pc ls (.int (nI y) :: .int (nI x) :: rest)) := by
  refine lv_ior hx hb hdg ?_
  rw [nI_or]
  exact k
theorem z_own {H0 : Heap} (hA : ∀ q : Nat, s.heap.size ≤ q → A q) (Y : z_W D A s ws H locs) : ∀ q, va_A ws H.size q → A q := by
  intro q h
  rcases h with ⟨k, e, h⟩ | h
  · exact Y.2.1.2 k (q, e) h
  · exact hA q (Nat.le_trans Y.2.2.1 h)
theorem z_inc (i : Nat) : nI i + Int32.ofInt 1 = nI (i + 1) := nI_add i 1
theorem z_inc3 (i : Nat) : nI i + Int32.ofInt 3 = nI (i + 3) := nI_add i 3
theorem z_dec {i : Nat} (h : 0 < i) : nI i + Int32.ofInt (-1) = nI (i - 1) := sb_m1 h
theorem z_fm {α β : Type} {f : α → Option β} : ∀ {l : List α} {w : List β}, l.map f = w.map some → l.filterMap f = w := by
  intro l
  induction l with
  | nil =>
    intro w h
    cases w with
    | nil => rfl
    | cons b w => cases h
  | cons a l ih =>
    intro w h
    cases w with
    | nil => cases h
    | cons b w =>
      obtain ⟨h1, h2⟩ := List.cons.inj h
      simp [List.filterMap_cons, h1, ih h2]
theorem z_W.sub {ws' : va_W} (Y : z_W D A s ws H locs) (is : List Nat) (hn : va_nd is = true) (hs : is.map (fun i => ws[i]?) = ws'.map some) : z_W D A s ws' H locs := ⟨Y.1.sub is (z_fm hs), Y.2.1.sub is hn hs, Y.2.2⟩
section ZC
variable {S : Type} {y : MethodName} {b : ByteArray} {L fr' lo' mc' ms' : Nat} {As st : List Value} {wc wr : va_W} {w1 : S → va_W} {b0 idx n q0 ci : Nat} {C : String} {fs : List Value} {q : vw_C} {ty : FieldType}
/-- a call through an object whose cells are the whole world -/
theorem z_cv {post : S → Prop} (X : z_C p R s m args c cc nL own D d dz A fr lo mc ms) (Y : z_W D A s ws H locs) (hM : CV l y b L fr' lo' 0 0 D d dz (.ref b0 :: As) ws post w1) (hg : GoodIn lw_all (wsV own idx C y (ws_ y b L none)))
    (hd : y.cls = C ∧ y.cls ≠ "java/lang/invoke/MethodHandle" ∧ y.cls ≠ "java/lang/invoke/VarHandle" ∧ (parseMethodDescriptor y.desc).map (fun d => d.parameters.length) = some n) (hR : fr' + 1 ≤ fr ∧ 8 + (L + 11) + lo' ≤ lo) (hr0 : ws[q0]? = some (b0, .inr (ci, fs))) (hcl : vwCl[ci]? = some q) (hq : q.1 = C)
    (hn : As.length = n) (hsize : ls.size = nL) (hst : st = As.reverse ++ .ref b0 :: rest) (hroom : (rest.map fun v => v.category).sum ≤ 8) (hdg : decode cc pc = .ok (.invokevirtual idx, 3)) (hcs : cells ≤ R.cells ∧ slots ≤ R.slots)
    (kk : ∀ (u : S) (H1 : Heap) (locs1 : List Loc), post u → z_W D A s (w1 u) H1 locs1 → W p l e R s m args below meth c H1 locs1 cells slots Q (F0 m (pc + 3) ls rest)) : W p l e R s m args below meth c H locs cells slots Q (F0 m pc ls st) := by
  subst hst; subst hq
  have hFc := z_own (H0 := H) X.2.2.1 Y
  refine va_callv (va_runV (As := As) (rest := rest) X.1 (hM H.size) (cwV n X.1.2.2.2.2 hg rfl rfl rfl hd ⟨Nat.le_trans hR.1 X.2.2.2.1, Nat.le_trans hR.2 X.2.2.2.2.1⟩) ⟨fun a U g mk q => by obtain ⟨q0, q1, qP, qK, qD⟩ := q; exact ⟨q0, q1, qP, va_K.moved (u := U) (U := U.calling g mk a) (Vm.Alike.refl U.vm) qK, qD⟩, va_recv X.2.1 Y.1 hcl hr0, fun U hU hW => ⟨rfl, by rw [hU], by rw [hU]; exact Y.1, va_K.moved hW.alike X.2.1, Y.2.1.weaken (fun _ _ _ _ => trivial)⟩⟩ rfl hn hsize rfl (lv_room hroom) hdg ⟨hcs.1, hcs.2⟩) Y.2.2 (fun q _ h => hFc q h) hFc (fun u t H1 locs1 ht hvm hw hB hz1 hk1 hS => ?_)
  obtain ⟨hP1, hK1, hD1⟩ := hB
  rw [ht] at hP1
  exact kk u H1 locs1 hw ⟨hP1, hD1.weaken (fun _ _ _ h => hFc _ h), hS⟩
theorem z_ci {post : Nat → S → Prop} (X : z_C p R s m args c cc nL own D d dz A fr lo mc ms) (Y : z_W D A s ws H locs) (hM : CI l y b L ty fr' lo' 0 0 D d dz (.ref b0 :: As) ws post w1) (hg : GoodIn lw_all (wsV own idx C y (ws_ y b L (some ty))))
    (hd : y.cls = C ∧ y.cls ≠ "java/lang/invoke/MethodHandle" ∧ y.cls ≠ "java/lang/invoke/VarHandle" ∧ (parseMethodDescriptor y.desc).map (fun d => d.parameters.length) = some n) (hR : fr' + 1 ≤ fr ∧ 8 + (L + 11) + lo' ≤ lo) (hr0 : ws[q0]? = some (b0, .inr (ci, fs))) (hcl : vwCl[ci]? = some q) (hq : q.1 = C)
    (hn : As.length = n) (hsize : ls.size = nL) (hst : st = As.reverse ++ .ref b0 :: rest) (hroom : (rest.map fun v => v.category).sum ≤ 8) (hdg : decode cc pc = .ok (.invokevirtual idx, 3)) (hcs : cells ≤ R.cells ∧ slots ≤ R.slots)
    (kk : ∀ (k : Nat) (u : S) (H1 : Heap) (locs1 : List Loc), post k u → z_W D A s (w1 u) H1 locs1 → W p l e R s m args below meth c H1 locs1 cells slots Q (F0 m (pc + 3) ls (.int (nI k) :: rest))) : W p l e R s m args below meth c H locs cells slots Q (F0 m pc ls st) := by
  subst hst; subst hq
  have hFc := z_own (H0 := H) X.2.2.1 Y
  refine va_calli (va_runV (As := As) (rest := rest) X.1 (hM H.size) (cwV n X.1.2.2.2.2 hg rfl rfl rfl hd ⟨Nat.le_trans hR.1 X.2.2.2.1, Nat.le_trans hR.2 X.2.2.2.2.1⟩) ⟨fun a U g mk q => by obtain ⟨q0, q1, qP, qK, qD⟩ := q; exact ⟨q0, q1, qP, va_K.moved (u := U) (U := U.calling g mk a) (Vm.Alike.refl U.vm) qK, qD⟩, va_recv X.2.1 Y.1 hcl hr0, fun U hU hW => ⟨rfl, by rw [hU], by rw [hU]; exact Y.1, va_K.moved hW.alike X.2.1, Y.2.1.weaken (fun _ _ _ _ => trivial)⟩⟩ rfl hn hsize rfl (lv_room hroom) hdg ⟨hcs.1, hcs.2⟩) Y.2.2 (fun q _ h => hFc q h) hFc (fun r u t H1 locs1 ht hvm hw hB hz1 hk1 hS => ?_)
  obtain ⟨hP1, hK1, hD1⟩ := hB
  rw [ht] at hP1
  obtain ⟨k, rfl, hw⟩ := hw
  exact kk k u H1 locs1 hw ⟨hP1, hD1.weaken (fun _ _ _ h => hFc _ h), hS⟩
/-- the same, the callee's cells a part wc of the world, wr the rest -/
theorem z_cvS {post : S → Prop} (X : z_C p R s m args c cc nL own D d dz A fr lo mc ms) (Y : z_W D A s ws H locs) (isC isR : List Nat) (hC : isC.map (fun i => ws[i]?) = wc.map some) (hRw : isR.map (fun i => ws[i]?) = wr.map some) (hnC : va_nd isC = true) (hnR : va_nd isR = true) (hdis : ∀ i ∈ isR, i ∉ isC)
    (hM : CV l y b L fr' lo' 0 0 D d dz (.ref b0 :: As) wc post w1) (hg : GoodIn lw_all (wsV own idx C y (ws_ y b L none)))
    (hd : y.cls = C ∧ y.cls ≠ "java/lang/invoke/MethodHandle" ∧ y.cls ≠ "java/lang/invoke/VarHandle" ∧ (parseMethodDescriptor y.desc).map (fun d => d.parameters.length) = some n) (hR : fr' + 1 ≤ fr ∧ 8 + (L + 11) + lo' ≤ lo) (hr0 : wc[q0]? = some (b0, .inr (ci, fs))) (hcl : vwCl[ci]? = some q) (hq : q.1 = C)
    (hn : As.length = n) (hsize : ls.size = nL) (hst : st = As.reverse ++ .ref b0 :: rest) (hroom : (rest.map fun v => v.category).sum ≤ 8) (hdg : decode cc pc = .ok (.invokevirtual idx, 3)) (hcs : cells ≤ R.cells ∧ slots ≤ R.slots)
    (kk : ∀ (u : S) (H1 : Heap) (locs1 : List Loc), post u → z_W D A s (wr ++ w1 u) H1 locs1 → W p l e R s m args below meth c H1 locs1 cells slots Q (F0 m (pc + 3) ls rest)) : W p l e R s m args below meth c H locs cells slots Q (F0 m pc ls st) := by
  subst hst; subst hq
  have hPc := Y.1.sub isC (z_fm hC)
  have hDc := Y.2.1.sub isC hnC hC
  have hFc := va_free (wc := wc) Y.2.1 Y.2.2 X.2.2.1 isC hC
  refine va_callv (va_runV (As := As) (rest := rest) X.1 (hM H.size) (cwV n X.1.2.2.2.2 hg rfl rfl rfl hd ⟨Nat.le_trans hR.1 X.2.2.2.1, Nat.le_trans hR.2 X.2.2.2.2.1⟩) ⟨fun a U g mk q => by obtain ⟨q0, q1, qP, qK, qD⟩ := q; exact ⟨q0, q1, qP, va_K.moved (u := U) (U := U.calling g mk a) (Vm.Alike.refl U.vm) qK, qD⟩, va_recv X.2.1 hPc hcl hr0, fun U hU hW => ⟨rfl, by rw [hU], by rw [hU]; exact hPc, va_K.moved hW.alike X.2.1, hDc.weaken (fun _ _ _ _ => trivial)⟩⟩ rfl hn hsize rfl (lv_room hroom) hdg ⟨hcs.1, hcs.2⟩) Y.2.2 (fun q _ h => hFc q h) hFc (fun u t H1 locs1 ht hvm hw hB hz1 hk1 hS => ?_)
  obtain ⟨hP1, hK1, hD1⟩ := hB
  rw [ht] at hP1
  obtain ⟨hP, hD⟩ := va_join Y.1 Y.2.1 isC isR hC hRw hnR hdis hk1 hFc hP1 hD1
  exact kk u H1 locs1 hw ⟨hP, hD, hS⟩
theorem z_ciS {post : Nat → S → Prop} (X : z_C p R s m args c cc nL own D d dz A fr lo mc ms) (Y : z_W D A s ws H locs) (isC isR : List Nat) (hC : isC.map (fun i => ws[i]?) = wc.map some) (hRw : isR.map (fun i => ws[i]?) = wr.map some) (hnC : va_nd isC = true) (hnR : va_nd isR = true) (hdis : ∀ i ∈ isR, i ∉ isC)
    (hM : CI l y b L ty fr' lo' 0 0 D d dz (.ref b0 :: As) wc post w1) (hg : GoodIn lw_all (wsV own idx C y (ws_ y b L (some ty))))
    (hd : y.cls = C ∧ y.cls ≠ "java/lang/invoke/MethodHandle" ∧ y.cls ≠ "java/lang/invoke/VarHandle" ∧ (parseMethodDescriptor y.desc).map (fun d => d.parameters.length) = some n) (hR : fr' + 1 ≤ fr ∧ 8 + (L + 11) + lo' ≤ lo) (hr0 : wc[q0]? = some (b0, .inr (ci, fs))) (hcl : vwCl[ci]? = some q) (hq : q.1 = C)
    (hn : As.length = n) (hsize : ls.size = nL) (hst : st = As.reverse ++ .ref b0 :: rest) (hroom : (rest.map fun v => v.category).sum ≤ 8) (hdg : decode cc pc = .ok (.invokevirtual idx, 3)) (hcs : cells ≤ R.cells ∧ slots ≤ R.slots)
    (kk : ∀ (k : Nat) (u : S) (H1 : Heap) (locs1 : List Loc), post k u → z_W D A s (wr ++ w1 u) H1 locs1 → W p l e R s m args below meth c H1 locs1 cells slots Q (F0 m (pc + 3) ls (.int (nI k) :: rest))) : W p l e R s m args below meth c H locs cells slots Q (F0 m pc ls st) := by
  subst hst; subst hq
  have hPc := Y.1.sub isC (z_fm hC)
  have hDc := Y.2.1.sub isC hnC hC
  have hFc := va_free (wc := wc) Y.2.1 Y.2.2 X.2.2.1 isC hC
  refine va_calli (va_runV (As := As) (rest := rest) X.1 (hM H.size) (cwV n X.1.2.2.2.2 hg rfl rfl rfl hd ⟨Nat.le_trans hR.1 X.2.2.2.1, Nat.le_trans hR.2 X.2.2.2.2.1⟩) ⟨fun a U g mk q => by obtain ⟨q0, q1, qP, qK, qD⟩ := q; exact ⟨q0, q1, qP, va_K.moved (u := U) (U := U.calling g mk a) (Vm.Alike.refl U.vm) qK, qD⟩, va_recv X.2.1 hPc hcl hr0, fun U hU hW => ⟨rfl, by rw [hU], by rw [hU]; exact hPc, va_K.moved hW.alike X.2.1, hDc.weaken (fun _ _ _ _ => trivial)⟩⟩ rfl hn hsize rfl (lv_room hroom) hdg ⟨hcs.1, hcs.2⟩) Y.2.2 (fun q _ h => hFc q h) hFc (fun r u t H1 locs1 ht hvm hw hB hz1 hk1 hS => ?_)
  obtain ⟨hP1, hK1, hD1⟩ := hB
  rw [ht] at hP1
  obtain ⟨k, rfl, hw⟩ := hw
  obtain ⟨hP, hD⟩ := va_join Y.1 Y.2.1 isC isR hC hRw hnR hdis hk1 hFc hP1 hD1
  exact kk k u H1 locs1 hw ⟨hP, hD, hS⟩
/-- a static call without an answer, the callee's cells a part of the world -/
theorem z_csS {post : S → Prop} (X : z_C p R s m args c cc nL own D d dz A fr lo mc ms) (Y : z_W D A s ws H locs) (isC isR : List Nat) (hC : isC.map (fun i => ws[i]?) = wc.map some) (hRw : isR.map (fun i => ws[i]?) = wr.map some) (hnC : va_nd isC = true) (hnR : va_nd isR = true) (hdis : ∀ i ∈ isR, i ∉ isC)
    (hM : CV l y b L fr' lo' 0 0 D d dz As wc post w1) (hg : GoodIn lw_all (va_wsS own idx y (ws_ y b L none)))
    (hd : y.cls ≠ "java/lang/invoke/MethodHandle" ∧ y.cls ≠ "java/lang/invoke/VarHandle" ∧ (parseMethodDescriptor y.desc).map (fun d => d.parameters.length) = some n) (hR : fr' + 1 ≤ fr ∧ 8 + (L + 11) + lo' ≤ lo)
    (hn : As.length = n) (hsize : ls.size = nL) (hst : st = As.reverse ++ rest) (hroom : (rest.map fun v => v.category).sum ≤ 8) (hdg : decode cc pc = .ok (.invokestatic idx, 3)) (hcs : cells ≤ R.cells ∧ slots ≤ R.slots)
    (kk : ∀ (u : S) (H1 : Heap) (locs1 : List Loc), post u → z_W D A s (wr ++ w1 u) H1 locs1 → W p l e R s m args below meth c H1 locs1 cells slots Q (F0 m (pc + 3) ls rest)) : W p l e R s m args below meth c H locs cells slots Q (F0 m pc ls st) := by
  subst hst
  have hPc := Y.1.sub isC (z_fm hC)
  have hDc := Y.2.1.sub isC hnC hC
  have hFc := va_free (wc := wc) Y.2.1 Y.2.2 X.2.2.1 isC hC
  refine va_callv (va_runS (As := As) (rest := rest) X.1 (hM H.size) (va_cwS n X.1.2.2.2.2 hg rfl rfl rfl hd ⟨Nat.le_trans hR.1 X.2.2.2.1, Nat.le_trans hR.2 X.2.2.2.2.1⟩) ⟨fun a U g mk q => by obtain ⟨q0, q1, qP, qK, qD⟩ := q; exact ⟨q0, q1, qP, va_K.moved (u := U) (U := U.calling g mk a) (Vm.Alike.refl U.vm) qK, qD⟩, fun U hU hW => ⟨rfl, by rw [hU], by rw [hU]; exact hPc, va_K.moved hW.alike X.2.1, hDc.weaken (fun _ _ _ _ => trivial)⟩⟩ rfl hn hsize rfl (lv_room hroom) hdg ⟨hcs.1, hcs.2⟩) Y.2.2 (fun q _ h => hFc q h) hFc (fun u t H1 locs1 ht hvm hw hB hz1 hk1 hS => ?_)
  obtain ⟨hP1, hK1, hD1⟩ := hB
  rw [ht] at hP1
  obtain ⟨hP, hD⟩ := va_join Y.1 Y.2.1 isC isR hC hRw hnR hdis hk1 hFc hP1 hD1
  exact kk u H1 locs1 hw ⟨hP, hD, hS⟩
/-- a constructor's call; it makes mc' cells of ms' slots -/
theorem z_cI {post : S → Prop} (X : z_C p R s m args c cc nL own D d dz A fr lo mc ms) (Y : z_W D A s ws H locs) (isC isR : List Nat) (hC : isC.map (fun i => ws[i]?) = wc.map some) (hRw : isR.map (fun i => ws[i]?) = wr.map some) (hnC : va_nd isC = true) (hnR : va_nd isR = true) (hdis : ∀ i ∈ isR, i ∉ isC)
    (hM : CV l y b L fr' lo' mc' ms' D d dz (.ref b0 :: As) wc post w1) (hg : GoodIn lw_all (ws_ y b L none)) (hini : Cond.initialized y.cls ∈ lw_all) (hlk : Cond.methodLink own idx y ∈ lw_all) (him : Cond.instanceMethod y ∈ lw_all) (hnm : y.name = "<init>")
    (hd : y.cls ≠ "java/lang/invoke/MethodHandle" ∧ y.cls ≠ "java/lang/invoke/VarHandle" ∧ (parseMethodDescriptor y.desc).map (fun d => d.parameters.length) = some n) (hR : fr' + 1 ≤ fr ∧ 8 + (L + 11) + lo' ≤ lo)
    (hn : As.length = n) (hsize : ls.size = nL) (hst : st = As.reverse ++ .ref b0 :: rest) (hroom : (rest.map fun v => v.category).sum ≤ 8) (hdg : decode cc pc = .ok (.invokespecial idx, 3)) (hcs : cells + mc' ≤ R.cells ∧ slots + ms' ≤ R.slots)
    (kk : ∀ (u : S) (H1 : Heap) (locs1 : List Loc), post u → z_W D A s (wr ++ w1 u) H1 locs1 → W p l e R s m args below meth c H1 locs1 (cells + mc') (slots + ms') Q (F0 m (pc + 3) ls rest)) : W p l e R s m args below meth c H locs cells slots Q (F0 m pc ls st) := by
  subst hst
  have hPc := Y.1.sub isC (z_fm hC)
  have hDc := Y.2.1.sub isC hnC hC
  have hFc := va_free (wc := wc) Y.2.1 Y.2.2 X.2.2.1 isC hC
  refine va_callv (va_runI (As := As) (rest := rest) X.1 (hM H.size) (cwI n X.1.2.2.2.2 hg rfl rfl rfl (X.1.2.2.2.2 _ hini) (X.1.2.2.2.2 _ hlk) (X.1.2.2.2.2 _ him) hnm hd ⟨Nat.le_trans hR.1 X.2.2.2.1, Nat.le_trans hR.2 X.2.2.2.2.1⟩) ⟨fun a U g mk q => by obtain ⟨q0, q1, qP, qK, qD⟩ := q; exact ⟨q0, q1, qP, va_K.moved (u := U) (U := U.calling g mk a) (Vm.Alike.refl U.vm) qK, qD⟩, fun U hU hW => ⟨rfl, by rw [hU], by rw [hU]; exact hPc, va_K.moved hW.alike X.2.1, hDc.weaken (fun _ _ _ _ => trivial)⟩⟩ rfl hn hsize rfl (lv_room hroom) hdg hcs) Y.2.2 (fun q _ h => hFc q h) hFc (fun u t H1 locs1 ht hvm hw hB hz1 hk1 hS => ?_)
  obtain ⟨hP1, hK1, hD1⟩ := hB
  rw [ht] at hP1
  obtain ⟨hP, hD⟩ := va_join Y.1 Y.2.1 isC isR hC hRw hnR hdis hk1 hFc hP1 hD1
  exact kk u H1 locs1 hw ⟨hP, hD, hS⟩
end ZC
theorem z_newi (X : z_C p R s m args c cc nL own D d dz A fr lo mc ms) (Y : z_W D A s ws H locs) {N : Nat} (hN : N < 2 ^ 20) (hc : cells + 1 ≤ mc) (hs : slots + N ≤ ms) (hdg : decode cc pc = .ok (.newarray .int, 2))
    (kk : ∀ (q : Nat) (H1 : Heap), z_W D A s (ws ++ [(q, .inl (d, N, .inl (nA fun _ => 0)))]) H1 locs → W p l e R s m args below meth c H1 locs (cells + 1) (slots + N) Q (F0 m (pc + 2) ls (.ref q :: rest))) : W p l e R s m args below meth c H locs cells slots Q (F0 m pc ls (.int (nI N) :: rest)) := by
  refine va_newa (atype := .int) (ty := .int) (a0 := (N, .inl (nA fun _ => 0))) X.1.1 X.1.2.1 (X.1.2.2.2.2 _ q72) rfl X.2.1 Y.1 Y.2.1 Y.2.2 X.2.2.1 (fun cA => rfl) (nI_pos (by omega)) (nI_clamp (by omega)) ?_ (Nat.le_trans hc X.2.2.2.2.2.1) (Nat.le_trans hs X.2.2.2.2.2.2) hdg (fun q cA H1 hK hP hD hS => ?_)
  · show N * 4 ≤ 536870912
    omega
  · have h1 := va_nm_int (hK.2 2 (cA, .int) rfl).2
    have h2 := va_nm_int (X.2.1.2 0 (d, .int) rfl).2
    have e : cA = d := Option.some.inj (h1.symm.trans h2)
    subst e
    exact kk q H1 ⟨hP, hD, hS⟩
theorem z_newz (X : z_C p R s m args c cc nL own D d dz A fr lo mc ms) (Y : z_W D A s ws H locs) {N : Nat} (hN : N < 2 ^ 20) (hc : cells + 1 ≤ mc) (hs : slots + N ≤ ms) (hdg : decode cc pc = .ok (.newarray .boolean, 2))
    (kk : ∀ (q : Nat) (H1 : Heap), z_W D A s (ws ++ [(q, .inl (dz, N, .inl (nA fun _ => 0)))]) H1 locs → W p l e R s m args below meth c H1 locs (cells + 1) (slots + N) Q (F0 m (pc + 2) ls (.ref q :: rest))) : W p l e R s m args below meth c H locs cells slots Q (F0 m pc ls (.int (nI N) :: rest)) := by
  refine va_newa (atype := .boolean) (ty := .boolean) (a0 := (N, .inl (nA fun _ => 0))) X.1.1 X.1.2.1 (X.1.2.2.2.2 _ q73) rfl X.2.1 Y.1 Y.2.1 Y.2.2 X.2.2.1 (fun cA => rfl) (nI_pos (by omega)) (nI_clamp (by omega)) ?_ (Nat.le_trans hc X.2.2.2.2.2.1) (Nat.le_trans hs X.2.2.2.2.2.2) hdg (fun q cA H1 hK hP hD hS => ?_)
  · show N * 1 ≤ 536870912
    omega
  · have h1 := va_nm_boolean (hK.2 2 (cA, .boolean) rfl).2
    have h2 := va_nm_boolean (X.2.1.2 1 (dz, .boolean) rfl).2
    have e : cA = dz := Option.some.inj (h1.symm.trans h2)
    subst e
    exact kk q H1 ⟨hP, hD, hS⟩
theorem g0_n (X : z_C p R s m args c cc nL RX0 D d dz A fr lo mc ms) (Y : z_W D A s ws H locs) (q0 : Nat) {fs : List Value} (he : ws[q0]? = some (a, .inr (0, fs))) {v : Value} (hv : fs[0]? = some v) (hdg : decode cc pc = .ok (.getfield 7, 3)) (kk : W p l e R s m args below meth c H locs cells slots Q (F0 m (pc + 3) ls (v :: rest))) : W p l e R s m args below meth c H locs cells slots Q (F0 m pc ls (.ref a :: rest)) :=
  va_get (C := RX0) (T := TX0) (N := 11) (ci := 0) X.1.1 X.1.2.1 X.1.2.2.2.2 in_X0 X.1.2.2.2.1 X.2.1 Y.1 q0 he rfl 0 (by decide) (X.1.2.2.2.2 _ q38) (fun _ h => h) hv hdg kk
theorem p0_n (X : z_C p R s m args c cc nL RX0 D d dz A fr lo mc ms) (Y : z_W D A s ws H locs) (q0 : Nat) {fs : List Value} (he : ws[q0]? = some (a, .inr (0, fs))) (hl : 0 < fs.length) {x : Int32} (hdg : decode cc pc = .ok (.putfield 7, 3)) (kk : ∀ (H1 : Heap) (locs1 : List Loc), z_W D A s (ws.set q0 (a, .inr (0, fs.set 0 (.int x)))) H1 locs1 → W p l e R s m args below meth c H1 locs1 cells slots Q (F0 m (pc + 3) ls rest)) : W p l e R s m args below meth c H locs cells slots Q (F0 m pc ls (.int x :: .ref a :: rest)) :=
  va_put (C := RX0) (T := TX0) (N := 11) (ci := 0) (ty := .int) X.1.1 X.1.2.1 X.1.2.2.2.2 in_X0 tyX0 tyX0_ok nmX0 X.1.2.2.2.1 X.2.1 Y.1 Y.2.1 Y.2.2 q0 he rfl 0 (by decide) (X.1.2.2.2.2 _ q38) (fun _ h => h) rfl (by decide +kernel) rfl rfl hl hdg (fun H1 locs1 hP hD hS => kk H1 locs1 ⟨hP, hD, hS⟩)
theorem g0_left (X : z_C p R s m args c cc nL RX0 D d dz A fr lo mc ms) (Y : z_W D A s ws H locs) (q0 : Nat) {fs : List Value} (he : ws[q0]? = some (a, .inr (0, fs))) {v : Value} (hv : fs[1]? = some v) (hdg : decode cc pc = .ok (.getfield 13, 3)) (kk : W p l e R s m args below meth c H locs cells slots Q (F0 m (pc + 3) ls (v :: rest))) : W p l e R s m args below meth c H locs cells slots Q (F0 m pc ls (.ref a :: rest)) :=
  va_get (C := RX0) (T := TX0) (N := 11) (ci := 0) X.1.1 X.1.2.1 X.1.2.2.2.2 in_X0 X.1.2.2.2.1 X.2.1 Y.1 q0 he rfl 1 (by decide) (X.1.2.2.2.2 _ q39) (fun _ h => h) hv hdg kk
theorem f0_left (X : z_C p R s m args c cc nL RX0 D d dz A fr lo mc ms) (hin2 : meth.name = "<init>") (Y : z_W D A s ws H locs) (q0 : Nat) {fs : List Value} (he : ws[q0]? = some (a, .inr (0, fs))) (hl : 1 < fs.length) {x : Nat} (hdg : decode cc pc = .ok (.putfield 13, 3)) (kk : ∀ (H1 : Heap) (locs1 : List Loc), z_W D A s (ws.set q0 (a, .inr (0, fs.set 1 (.ref x)))) H1 locs1 → W p l e R s m args below meth c H1 locs1 cells slots Q (F0 m (pc + 3) ls rest)) : W p l e R s m args below meth c H locs cells slots Q (F0 m pc ls (.ref x :: .ref a :: rest)) :=
  va_putF (C := RX0) (T := TX0) (N := 11) (ci := 0) (ty := .array .int) X.1.1 X.1.2.1 X.1.2.2.2.2 in_X0 tyX0 tyX0_ok nmX0 X.1.2.2.2.1 X.2.1 Y.1 Y.2.1 Y.2.2 q0 he rfl 1 (by decide) (X.1.2.2.2.2 _ q39) (fun _ h => h) rfl hin2 rfl (by decide +kernel) rfl rfl hl hdg (fun H1 locs1 hP hD hS => kk H1 locs1 ⟨hP, hD, hS⟩)
theorem g0_right (X : z_C p R s m args c cc nL RX0 D d dz A fr lo mc ms) (Y : z_W D A s ws H locs) (q0 : Nat) {fs : List Value} (he : ws[q0]? = some (a, .inr (0, fs))) {v : Value} (hv : fs[2]? = some v) (hdg : decode cc pc = .ok (.getfield 17, 3)) (kk : W p l e R s m args below meth c H locs cells slots Q (F0 m (pc + 3) ls (v :: rest))) : W p l e R s m args below meth c H locs cells slots Q (F0 m pc ls (.ref a :: rest)) :=
  va_get (C := RX0) (T := TX0) (N := 11) (ci := 0) X.1.1 X.1.2.1 X.1.2.2.2.2 in_X0 X.1.2.2.2.1 X.2.1 Y.1 q0 he rfl 2 (by decide) (X.1.2.2.2.2 _ q40) (fun _ h => h) hv hdg kk
theorem f0_right (X : z_C p R s m args c cc nL RX0 D d dz A fr lo mc ms) (hin2 : meth.name = "<init>") (Y : z_W D A s ws H locs) (q0 : Nat) {fs : List Value} (he : ws[q0]? = some (a, .inr (0, fs))) (hl : 2 < fs.length) {x : Nat} (hdg : decode cc pc = .ok (.putfield 17, 3)) (kk : ∀ (H1 : Heap) (locs1 : List Loc), z_W D A s (ws.set q0 (a, .inr (0, fs.set 2 (.ref x)))) H1 locs1 → W p l e R s m args below meth c H1 locs1 cells slots Q (F0 m (pc + 3) ls rest)) : W p l e R s m args below meth c H locs cells slots Q (F0 m pc ls (.ref x :: .ref a :: rest)) :=
  va_putF (C := RX0) (T := TX0) (N := 11) (ci := 0) (ty := .array .int) X.1.1 X.1.2.1 X.1.2.2.2.2 in_X0 tyX0 tyX0_ok nmX0 X.1.2.2.2.1 X.2.1 Y.1 Y.2.1 Y.2.2 q0 he rfl 2 (by decide) (X.1.2.2.2.2 _ q40) (fun _ h => h) rfl hin2 rfl (by decide +kernel) rfl rfl hl hdg (fun H1 locs1 hP hD hS => kk H1 locs1 ⟨hP, hD, hS⟩)
theorem g0_leftPlace (X : z_C p R s m args c cc nL RX0 D d dz A fr lo mc ms) (Y : z_W D A s ws H locs) (q0 : Nat) {fs : List Value} (he : ws[q0]? = some (a, .inr (0, fs))) {v : Value} (hv : fs[3]? = some v) (hdg : decode cc pc = .ok (.getfield 20, 3)) (kk : W p l e R s m args below meth c H locs cells slots Q (F0 m (pc + 3) ls (v :: rest))) : W p l e R s m args below meth c H locs cells slots Q (F0 m pc ls (.ref a :: rest)) :=
  va_get (C := RX0) (T := TX0) (N := 11) (ci := 0) X.1.1 X.1.2.1 X.1.2.2.2.2 in_X0 X.1.2.2.2.1 X.2.1 Y.1 q0 he rfl 3 (by decide) (X.1.2.2.2.2 _ q41) (fun _ h => h) hv hdg kk
theorem f0_leftPlace (X : z_C p R s m args c cc nL RX0 D d dz A fr lo mc ms) (hin2 : meth.name = "<init>") (Y : z_W D A s ws H locs) (q0 : Nat) {fs : List Value} (he : ws[q0]? = some (a, .inr (0, fs))) (hl : 3 < fs.length) {x : Nat} (hdg : decode cc pc = .ok (.putfield 20, 3)) (kk : ∀ (H1 : Heap) (locs1 : List Loc), z_W D A s (ws.set q0 (a, .inr (0, fs.set 3 (.ref x)))) H1 locs1 → W p l e R s m args below meth c H1 locs1 cells slots Q (F0 m (pc + 3) ls rest)) : W p l e R s m args below meth c H locs cells slots Q (F0 m pc ls (.ref x :: .ref a :: rest)) :=
  va_putF (C := RX0) (T := TX0) (N := 11) (ci := 0) (ty := .array .int) X.1.1 X.1.2.1 X.1.2.2.2.2 in_X0 tyX0 tyX0_ok nmX0 X.1.2.2.2.1 X.2.1 Y.1 Y.2.1 Y.2.2 q0 he rfl 3 (by decide) (X.1.2.2.2.2 _ q41) (fun _ h => h) rfl hin2 rfl (by decide +kernel) rfl rfl hl hdg (fun H1 locs1 hP hD hS => kk H1 locs1 ⟨hP, hD, hS⟩)
theorem g0_rightPlace (X : z_C p R s m args c cc nL RX0 D d dz A fr lo mc ms) (Y : z_W D A s ws H locs) (q0 : Nat) {fs : List Value} (he : ws[q0]? = some (a, .inr (0, fs))) {v : Value} (hv : fs[4]? = some v) (hdg : decode cc pc = .ok (.getfield 23, 3)) (kk : W p l e R s m args below meth c H locs cells slots Q (F0 m (pc + 3) ls (v :: rest))) : W p l e R s m args below meth c H locs cells slots Q (F0 m pc ls (.ref a :: rest)) :=
  va_get (C := RX0) (T := TX0) (N := 11) (ci := 0) X.1.1 X.1.2.1 X.1.2.2.2.2 in_X0 X.1.2.2.2.1 X.2.1 Y.1 q0 he rfl 4 (by decide) (X.1.2.2.2.2 _ q42) (fun _ h => h) hv hdg kk
theorem f0_rightPlace (X : z_C p R s m args c cc nL RX0 D d dz A fr lo mc ms) (hin2 : meth.name = "<init>") (Y : z_W D A s ws H locs) (q0 : Nat) {fs : List Value} (he : ws[q0]? = some (a, .inr (0, fs))) (hl : 4 < fs.length) {x : Nat} (hdg : decode cc pc = .ok (.putfield 23, 3)) (kk : ∀ (H1 : Heap) (locs1 : List Loc), z_W D A s (ws.set q0 (a, .inr (0, fs.set 4 (.ref x)))) H1 locs1 → W p l e R s m args below meth c H1 locs1 cells slots Q (F0 m (pc + 3) ls rest)) : W p l e R s m args below meth c H locs cells slots Q (F0 m pc ls (.ref x :: .ref a :: rest)) :=
  va_putF (C := RX0) (T := TX0) (N := 11) (ci := 0) (ty := .array .int) X.1.1 X.1.2.1 X.1.2.2.2.2 in_X0 tyX0 tyX0_ok nmX0 X.1.2.2.2.1 X.2.1 Y.1 Y.2.1 Y.2.2 q0 he rfl 4 (by decide) (X.1.2.2.2.2 _ q42) (fun _ h => h) rfl hin2 rfl (by decide +kernel) rfl rfl hl hdg (fun H1 locs1 hP hD hS => kk H1 locs1 ⟨hP, hD, hS⟩)
theorem g0_row (X : z_C p R s m args c cc nL RX0 D d dz A fr lo mc ms) (Y : z_W D A s ws H locs) (q0 : Nat) {fs : List Value} (he : ws[q0]? = some (a, .inr (0, fs))) {v : Value} (hv : fs[5]? = some v) (hdg : decode cc pc = .ok (.getfield 26, 3)) (kk : W p l e R s m args below meth c H locs cells slots Q (F0 m (pc + 3) ls (v :: rest))) : W p l e R s m args below meth c H locs cells slots Q (F0 m pc ls (.ref a :: rest)) :=
  va_get (C := RX0) (T := TX0) (N := 11) (ci := 0) X.1.1 X.1.2.1 X.1.2.2.2.2 in_X0 X.1.2.2.2.1 X.2.1 Y.1 q0 he rfl 5 (by decide) (X.1.2.2.2.2 _ q43) (fun _ h => h) hv hdg kk
theorem f0_row (X : z_C p R s m args c cc nL RX0 D d dz A fr lo mc ms) (hin2 : meth.name = "<init>") (Y : z_W D A s ws H locs) (q0 : Nat) {fs : List Value} (he : ws[q0]? = some (a, .inr (0, fs))) (hl : 5 < fs.length) {x : Nat} (hdg : decode cc pc = .ok (.putfield 26, 3)) (kk : ∀ (H1 : Heap) (locs1 : List Loc), z_W D A s (ws.set q0 (a, .inr (0, fs.set 5 (.ref x)))) H1 locs1 → W p l e R s m args below meth c H1 locs1 cells slots Q (F0 m (pc + 3) ls rest)) : W p l e R s m args below meth c H locs cells slots Q (F0 m pc ls (.ref x :: .ref a :: rest)) :=
  va_putF (C := RX0) (T := TX0) (N := 11) (ci := 0) (ty := .array .int) X.1.1 X.1.2.1 X.1.2.2.2.2 in_X0 tyX0 tyX0_ok nmX0 X.1.2.2.2.1 X.2.1 Y.1 Y.2.1 Y.2.2 q0 he rfl 5 (by decide) (X.1.2.2.2.2 _ q43) (fun _ h => h) rfl hin2 rfl (by decide +kernel) rfl rfl hl hdg (fun H1 locs1 hP hD hS => kk H1 locs1 ⟨hP, hD, hS⟩)
theorem g0_far (X : z_C p R s m args c cc nL RX0 D d dz A fr lo mc ms) (Y : z_W D A s ws H locs) (q0 : Nat) {fs : List Value} (he : ws[q0]? = some (a, .inr (0, fs))) {v : Value} (hv : fs[6]? = some v) (hdg : decode cc pc = .ok (.getfield 29, 3)) (kk : W p l e R s m args below meth c H locs cells slots Q (F0 m (pc + 3) ls (v :: rest))) : W p l e R s m args below meth c H locs cells slots Q (F0 m pc ls (.ref a :: rest)) :=
  va_get (C := RX0) (T := TX0) (N := 11) (ci := 0) X.1.1 X.1.2.1 X.1.2.2.2.2 in_X0 X.1.2.2.2.1 X.2.1 Y.1 q0 he rfl 6 (by decide) (X.1.2.2.2.2 _ q44) (fun _ h => h) hv hdg kk
theorem f0_far (X : z_C p R s m args c cc nL RX0 D d dz A fr lo mc ms) (hin2 : meth.name = "<init>") (Y : z_W D A s ws H locs) (q0 : Nat) {fs : List Value} (he : ws[q0]? = some (a, .inr (0, fs))) (hl : 6 < fs.length) {x : Nat} (hdg : decode cc pc = .ok (.putfield 29, 3)) (kk : ∀ (H1 : Heap) (locs1 : List Loc), z_W D A s (ws.set q0 (a, .inr (0, fs.set 6 (.ref x)))) H1 locs1 → W p l e R s m args below meth c H1 locs1 cells slots Q (F0 m (pc + 3) ls rest)) : W p l e R s m args below meth c H locs cells slots Q (F0 m pc ls (.ref x :: .ref a :: rest)) :=
  va_putF (C := RX0) (T := TX0) (N := 11) (ci := 0) (ty := .array .int) X.1.1 X.1.2.1 X.1.2.2.2.2 in_X0 tyX0 tyX0_ok nmX0 X.1.2.2.2.1 X.2.1 Y.1 Y.2.1 Y.2.2 q0 he rfl 6 (by decide) (X.1.2.2.2.2 _ q44) (fun _ h => h) rfl hin2 rfl (by decide +kernel) rfl rfl hl hdg (fun H1 locs1 hP hD hS => kk H1 locs1 ⟨hP, hD, hS⟩)
theorem g0_has (X : z_C p R s m args c cc nL RX0 D d dz A fr lo mc ms) (Y : z_W D A s ws H locs) (q0 : Nat) {fs : List Value} (he : ws[q0]? = some (a, .inr (0, fs))) {v : Value} (hv : fs[7]? = some v) (hdg : decode cc pc = .ok (.getfield 32, 3)) (kk : W p l e R s m args below meth c H locs cells slots Q (F0 m (pc + 3) ls (v :: rest))) : W p l e R s m args below meth c H locs cells slots Q (F0 m pc ls (.ref a :: rest)) :=
  va_get (C := RX0) (T := TX0) (N := 11) (ci := 0) X.1.1 X.1.2.1 X.1.2.2.2.2 in_X0 X.1.2.2.2.1 X.2.1 Y.1 q0 he rfl 7 (by decide) (X.1.2.2.2.2 _ q45) (fun _ h => h) hv hdg kk
theorem f0_has (X : z_C p R s m args c cc nL RX0 D d dz A fr lo mc ms) (hin2 : meth.name = "<init>") (Y : z_W D A s ws H locs) (q0 : Nat) {fs : List Value} (he : ws[q0]? = some (a, .inr (0, fs))) (hl : 7 < fs.length) {x : Nat} (hdg : decode cc pc = .ok (.putfield 32, 3)) (kk : ∀ (H1 : Heap) (locs1 : List Loc), z_W D A s (ws.set q0 (a, .inr (0, fs.set 7 (.ref x)))) H1 locs1 → W p l e R s m args below meth c H1 locs1 cells slots Q (F0 m (pc + 3) ls rest)) : W p l e R s m args below meth c H locs cells slots Q (F0 m pc ls (.ref x :: .ref a :: rest)) :=
  va_putF (C := RX0) (T := TX0) (N := 11) (ci := 0) (ty := .array .int) X.1.1 X.1.2.1 X.1.2.2.2.2 in_X0 tyX0 tyX0_ok nmX0 X.1.2.2.2.1 X.2.1 Y.1 Y.2.1 Y.2.2 q0 he rfl 7 (by decide) (X.1.2.2.2.2 _ q45) (fun _ h => h) rfl hin2 rfl (by decide +kernel) rfl rfl hl hdg (fun H1 locs1 hP hD hS => kk H1 locs1 ⟨hP, hD, hS⟩)
theorem g0_met (X : z_C p R s m args c cc nL RX0 D d dz A fr lo mc ms) (Y : z_W D A s ws H locs) (q0 : Nat) {fs : List Value} (he : ws[q0]? = some (a, .inr (0, fs))) {v : Value} (hv : fs[8]? = some v) (hdg : decode cc pc = .ok (.getfield 35, 3)) (kk : W p l e R s m args below meth c H locs cells slots Q (F0 m (pc + 3) ls (v :: rest))) : W p l e R s m args below meth c H locs cells slots Q (F0 m pc ls (.ref a :: rest)) :=
  va_get (C := RX0) (T := TX0) (N := 11) (ci := 0) X.1.1 X.1.2.1 X.1.2.2.2.2 in_X0 X.1.2.2.2.1 X.2.1 Y.1 q0 he rfl 8 (by decide) (X.1.2.2.2.2 _ q46) (fun _ h => h) hv hdg kk
theorem f0_met (X : z_C p R s m args c cc nL RX0 D d dz A fr lo mc ms) (hin2 : meth.name = "<init>") (Y : z_W D A s ws H locs) (q0 : Nat) {fs : List Value} (he : ws[q0]? = some (a, .inr (0, fs))) (hl : 8 < fs.length) {x : Nat} (hdg : decode cc pc = .ok (.putfield 35, 3)) (kk : ∀ (H1 : Heap) (locs1 : List Loc), z_W D A s (ws.set q0 (a, .inr (0, fs.set 8 (.ref x)))) H1 locs1 → W p l e R s m args below meth c H1 locs1 cells slots Q (F0 m (pc + 3) ls rest)) : W p l e R s m args below meth c H locs cells slots Q (F0 m pc ls (.ref x :: .ref a :: rest)) :=
  va_putF (C := RX0) (T := TX0) (N := 11) (ci := 0) (ty := .array .boolean) X.1.1 X.1.2.1 X.1.2.2.2.2 in_X0 tyX0 tyX0_ok nmX0 X.1.2.2.2.1 X.2.1 Y.1 Y.2.1 Y.2.2 q0 he rfl 8 (by decide) (X.1.2.2.2.2 _ q46) (fun _ h => h) rfl hin2 rfl (by decide +kernel) rfl rfl hl hdg (fun H1 locs1 hP hD hS => kk H1 locs1 ⟨hP, hD, hS⟩)
theorem g0_waiting (X : z_C p R s m args c cc nL RX0 D d dz A fr lo mc ms) (Y : z_W D A s ws H locs) (q0 : Nat) {fs : List Value} (he : ws[q0]? = some (a, .inr (0, fs))) {v : Value} (hv : fs[9]? = some v) (hdg : decode cc pc = .ok (.getfield 39, 3)) (kk : W p l e R s m args below meth c H locs cells slots Q (F0 m (pc + 3) ls (v :: rest))) : W p l e R s m args below meth c H locs cells slots Q (F0 m pc ls (.ref a :: rest)) :=
  va_get (C := RX0) (T := TX0) (N := 11) (ci := 0) X.1.1 X.1.2.1 X.1.2.2.2.2 in_X0 X.1.2.2.2.1 X.2.1 Y.1 q0 he rfl 9 (by decide) (X.1.2.2.2.2 _ q47) (fun _ h => h) hv hdg kk
theorem f0_waiting (X : z_C p R s m args c cc nL RX0 D d dz A fr lo mc ms) (hin2 : meth.name = "<init>") (Y : z_W D A s ws H locs) (q0 : Nat) {fs : List Value} (he : ws[q0]? = some (a, .inr (0, fs))) (hl : 9 < fs.length) {x : Nat} (hdg : decode cc pc = .ok (.putfield 39, 3)) (kk : ∀ (H1 : Heap) (locs1 : List Loc), z_W D A s (ws.set q0 (a, .inr (0, fs.set 9 (.ref x)))) H1 locs1 → W p l e R s m args below meth c H1 locs1 cells slots Q (F0 m (pc + 3) ls rest)) : W p l e R s m args below meth c H locs cells slots Q (F0 m pc ls (.ref x :: .ref a :: rest)) :=
  va_putF (C := RX0) (T := TX0) (N := 11) (ci := 0) (ty := .array .int) X.1.1 X.1.2.1 X.1.2.2.2.2 in_X0 tyX0 tyX0_ok nmX0 X.1.2.2.2.1 X.2.1 Y.1 Y.2.1 Y.2.2 q0 he rfl 9 (by decide) (X.1.2.2.2.2 _ q47) (fun _ h => h) rfl hin2 rfl (by decide +kernel) rfl rfl hl hdg (fun H1 locs1 hP hD hS => kk H1 locs1 ⟨hP, hD, hS⟩)
theorem g0_many (X : z_C p R s m args c cc nL RX0 D d dz A fr lo mc ms) (Y : z_W D A s ws H locs) (q0 : Nat) {fs : List Value} (he : ws[q0]? = some (a, .inr (0, fs))) {v : Value} (hv : fs[10]? = some v) (hdg : decode cc pc = .ok (.getfield 77, 3)) (kk : W p l e R s m args below meth c H locs cells slots Q (F0 m (pc + 3) ls (v :: rest))) : W p l e R s m args below meth c H locs cells slots Q (F0 m pc ls (.ref a :: rest)) :=
  va_get (C := RX0) (T := TX0) (N := 11) (ci := 0) X.1.1 X.1.2.1 X.1.2.2.2.2 in_X0 X.1.2.2.2.1 X.2.1 Y.1 q0 he rfl 10 (by decide) (X.1.2.2.2.2 _ q48) (fun _ h => h) hv hdg kk
theorem p0_many (X : z_C p R s m args c cc nL RX0 D d dz A fr lo mc ms) (Y : z_W D A s ws H locs) (q0 : Nat) {fs : List Value} (he : ws[q0]? = some (a, .inr (0, fs))) (hl : 10 < fs.length) {x : Int32} (hdg : decode cc pc = .ok (.putfield 77, 3)) (kk : ∀ (H1 : Heap) (locs1 : List Loc), z_W D A s (ws.set q0 (a, .inr (0, fs.set 10 (.int x)))) H1 locs1 → W p l e R s m args below meth c H1 locs1 cells slots Q (F0 m (pc + 3) ls rest)) : W p l e R s m args below meth c H locs cells slots Q (F0 m pc ls (.int x :: .ref a :: rest)) :=
  va_put (C := RX0) (T := TX0) (N := 11) (ci := 0) (ty := .int) X.1.1 X.1.2.1 X.1.2.2.2.2 in_X0 tyX0 tyX0_ok nmX0 X.1.2.2.2.1 X.2.1 Y.1 Y.2.1 Y.2.2 q0 he rfl 10 (by decide) (X.1.2.2.2.2 _ q48) (fun _ h => h) rfl (by decide +kernel) rfl rfl hl hdg (fun H1 locs1 hP hD hS => kk H1 locs1 ⟨hP, hD, hS⟩)
theorem g1_likes (X : z_C p R s m args c cc nL RX1 D d dz A fr lo mc ms) (Y : z_W D A s ws H locs) (q0 : Nat) {fs : List Value} (he : ws[q0]? = some (a, .inr (1, fs))) {v : Value} (hv : fs[0]? = some v) (hdg : decode cc pc = .ok (.getfield 7, 3)) (kk : W p l e R s m args below meth c H locs cells slots Q (F0 m (pc + 3) ls (v :: rest))) : W p l e R s m args below meth c H locs cells slots Q (F0 m pc ls (.ref a :: rest)) :=
  va_get (C := RX1) (T := TX1) (N := 12) (ci := 1) X.1.1 X.1.2.1 X.1.2.2.2.2 in_X1 X.1.2.2.2.1 X.2.1 Y.1 q0 he rfl 0 (by decide) (X.1.2.2.2.2 _ q148) (fun _ h => h) hv hdg kk
theorem f1_likes (X : z_C p R s m args c cc nL RX1 D d dz A fr lo mc ms) (hin2 : meth.name = "<init>") (Y : z_W D A s ws H locs) (q0 : Nat) {fs : List Value} (he : ws[q0]? = some (a, .inr (1, fs))) (hl : 0 < fs.length) {x : Nat} (hdg : decode cc pc = .ok (.putfield 7, 3)) (kk : ∀ (H1 : Heap) (locs1 : List Loc), z_W D A s (ws.set q0 (a, .inr (1, fs.set 0 (.ref x)))) H1 locs1 → W p l e R s m args below meth c H1 locs1 cells slots Q (F0 m (pc + 3) ls rest)) : W p l e R s m args below meth c H locs cells slots Q (F0 m pc ls (.ref x :: .ref a :: rest)) :=
  va_putF (C := RX1) (T := TX1) (N := 12) (ci := 1) (ty := .array .int) X.1.1 X.1.2.1 X.1.2.2.2.2 in_X1 tyX1 tyX1_ok nmX1 X.1.2.2.2.1 X.2.1 Y.1 Y.2.1 Y.2.2 q0 he rfl 0 (by decide) (X.1.2.2.2.2 _ q148) (fun _ h => h) rfl hin2 rfl (by decide +kernel) rfl rfl hl hdg (fun H1 locs1 hP hD hS => kk H1 locs1 ⟨hP, hD, hS⟩)
theorem g1_liked (X : z_C p R s m args c cc nL RX1 D d dz A fr lo mc ms) (Y : z_W D A s ws H locs) (q0 : Nat) {fs : List Value} (he : ws[q0]? = some (a, .inr (1, fs))) {v : Value} (hv : fs[1]? = some v) (hdg : decode cc pc = .ok (.getfield 13, 3)) (kk : W p l e R s m args below meth c H locs cells slots Q (F0 m (pc + 3) ls (v :: rest))) : W p l e R s m args below meth c H locs cells slots Q (F0 m pc ls (.ref a :: rest)) :=
  va_get (C := RX1) (T := TX1) (N := 12) (ci := 1) X.1.1 X.1.2.1 X.1.2.2.2.2 in_X1 X.1.2.2.2.1 X.2.1 Y.1 q0 he rfl 1 (by decide) (X.1.2.2.2.2 _ q149) (fun _ h => h) hv hdg kk
theorem f1_liked (X : z_C p R s m args c cc nL RX1 D d dz A fr lo mc ms) (hin2 : meth.name = "<init>") (Y : z_W D A s ws H locs) (q0 : Nat) {fs : List Value} (he : ws[q0]? = some (a, .inr (1, fs))) (hl : 1 < fs.length) {x : Nat} (hdg : decode cc pc = .ok (.putfield 13, 3)) (kk : ∀ (H1 : Heap) (locs1 : List Loc), z_W D A s (ws.set q0 (a, .inr (1, fs.set 1 (.ref x)))) H1 locs1 → W p l e R s m args below meth c H1 locs1 cells slots Q (F0 m (pc + 3) ls rest)) : W p l e R s m args below meth c H locs cells slots Q (F0 m pc ls (.ref x :: .ref a :: rest)) :=
  va_putF (C := RX1) (T := TX1) (N := 12) (ci := 1) (ty := .array .int) X.1.1 X.1.2.1 X.1.2.2.2.2 in_X1 tyX1 tyX1_ok nmX1 X.1.2.2.2.1 X.2.1 Y.1 Y.2.1 Y.2.2 q0 he rfl 1 (by decide) (X.1.2.2.2.2 _ q149) (fun _ h => h) rfl hin2 rfl (by decide +kernel) rfl rfl hl hdg (fun H1 locs1 hP hD hS => kk H1 locs1 ⟨hP, hD, hS⟩)
theorem g1_place (X : z_C p R s m args c cc nL RX1 D d dz A fr lo mc ms) (Y : z_W D A s ws H locs) (q0 : Nat) {fs : List Value} (he : ws[q0]? = some (a, .inr (1, fs))) {v : Value} (hv : fs[2]? = some v) (hdg : decode cc pc = .ok (.getfield 16, 3)) (kk : W p l e R s m args below meth c H locs cells slots Q (F0 m (pc + 3) ls (v :: rest))) : W p l e R s m args below meth c H locs cells slots Q (F0 m pc ls (.ref a :: rest)) :=
  va_get (C := RX1) (T := TX1) (N := 12) (ci := 1) X.1.1 X.1.2.1 X.1.2.2.2.2 in_X1 X.1.2.2.2.1 X.2.1 Y.1 q0 he rfl 2 (by decide) (X.1.2.2.2.2 _ q150) (fun _ h => h) hv hdg kk
theorem f1_place (X : z_C p R s m args c cc nL RX1 D d dz A fr lo mc ms) (hin2 : meth.name = "<init>") (Y : z_W D A s ws H locs) (q0 : Nat) {fs : List Value} (he : ws[q0]? = some (a, .inr (1, fs))) (hl : 2 < fs.length) {x : Nat} (hdg : decode cc pc = .ok (.putfield 16, 3)) (kk : ∀ (H1 : Heap) (locs1 : List Loc), z_W D A s (ws.set q0 (a, .inr (1, fs.set 2 (.ref x)))) H1 locs1 → W p l e R s m args below meth c H1 locs1 cells slots Q (F0 m (pc + 3) ls rest)) : W p l e R s m args below meth c H locs cells slots Q (F0 m pc ls (.ref x :: .ref a :: rest)) :=
  va_putF (C := RX1) (T := TX1) (N := 12) (ci := 1) (ty := .array .int) X.1.1 X.1.2.1 X.1.2.2.2.2 in_X1 tyX1 tyX1_ok nmX1 X.1.2.2.2.1 X.2.1 Y.1 Y.2.1 Y.2.2 q0 he rfl 2 (by decide) (X.1.2.2.2.2 _ q150) (fun _ h => h) rfl hin2 rfl (by decide +kernel) rfl rfl hl hdg (fun H1 locs1 hP hD hS => kk H1 locs1 ⟨hP, hD, hS⟩)
theorem g1_placed (X : z_C p R s m args c cc nL RX1 D d dz A fr lo mc ms) (Y : z_W D A s ws H locs) (q0 : Nat) {fs : List Value} (he : ws[q0]? = some (a, .inr (1, fs))) {v : Value} (hv : fs[3]? = some v) (hdg : decode cc pc = .ok (.getfield 19, 3)) (kk : W p l e R s m args below meth c H locs cells slots Q (F0 m (pc + 3) ls (v :: rest))) : W p l e R s m args below meth c H locs cells slots Q (F0 m pc ls (.ref a :: rest)) :=
  va_get (C := RX1) (T := TX1) (N := 12) (ci := 1) X.1.1 X.1.2.1 X.1.2.2.2.2 in_X1 X.1.2.2.2.1 X.2.1 Y.1 q0 he rfl 3 (by decide) (X.1.2.2.2.2 _ q151) (fun _ h => h) hv hdg kk
theorem f1_placed (X : z_C p R s m args c cc nL RX1 D d dz A fr lo mc ms) (hin2 : meth.name = "<init>") (Y : z_W D A s ws H locs) (q0 : Nat) {fs : List Value} (he : ws[q0]? = some (a, .inr (1, fs))) (hl : 3 < fs.length) {x : Nat} (hdg : decode cc pc = .ok (.putfield 19, 3)) (kk : ∀ (H1 : Heap) (locs1 : List Loc), z_W D A s (ws.set q0 (a, .inr (1, fs.set 3 (.ref x)))) H1 locs1 → W p l e R s m args below meth c H1 locs1 cells slots Q (F0 m (pc + 3) ls rest)) : W p l e R s m args below meth c H locs cells slots Q (F0 m pc ls (.ref x :: .ref a :: rest)) :=
  va_putF (C := RX1) (T := TX1) (N := 12) (ci := 1) (ty := .array .int) X.1.1 X.1.2.1 X.1.2.2.2.2 in_X1 tyX1 tyX1_ok nmX1 X.1.2.2.2.1 X.2.1 Y.1 Y.2.1 Y.2.2 q0 he rfl 3 (by decide) (X.1.2.2.2.2 _ q151) (fun _ h => h) rfl hin2 rfl (by decide +kernel) rfl rfl hl hdg (fun H1 locs1 hP hD hS => kk H1 locs1 ⟨hP, hD, hS⟩)
theorem g1_n (X : z_C p R s m args c cc nL RX1 D d dz A fr lo mc ms) (Y : z_W D A s ws H locs) (q0 : Nat) {fs : List Value} (he : ws[q0]? = some (a, .inr (1, fs))) {v : Value} (hv : fs[4]? = some v) (hdg : decode cc pc = .ok (.getfield 22, 3)) (kk : W p l e R s m args below meth c H locs cells slots Q (F0 m (pc + 3) ls (v :: rest))) : W p l e R s m args below meth c H locs cells slots Q (F0 m pc ls (.ref a :: rest)) :=
  va_get (C := RX1) (T := TX1) (N := 12) (ci := 1) X.1.1 X.1.2.1 X.1.2.2.2.2 in_X1 X.1.2.2.2.1 X.2.1 Y.1 q0 he rfl 4 (by decide) (X.1.2.2.2.2 _ q152) (fun _ h => h) hv hdg kk
theorem p1_n (X : z_C p R s m args c cc nL RX1 D d dz A fr lo mc ms) (Y : z_W D A s ws H locs) (q0 : Nat) {fs : List Value} (he : ws[q0]? = some (a, .inr (1, fs))) (hl : 4 < fs.length) {x : Int32} (hdg : decode cc pc = .ok (.putfield 22, 3)) (kk : ∀ (H1 : Heap) (locs1 : List Loc), z_W D A s (ws.set q0 (a, .inr (1, fs.set 4 (.int x)))) H1 locs1 → W p l e R s m args below meth c H1 locs1 cells slots Q (F0 m (pc + 3) ls rest)) : W p l e R s m args below meth c H locs cells slots Q (F0 m pc ls (.int x :: .ref a :: rest)) :=
  va_put (C := RX1) (T := TX1) (N := 12) (ci := 1) (ty := .int) X.1.1 X.1.2.1 X.1.2.2.2.2 in_X1 tyX1 tyX1_ok nmX1 X.1.2.2.2.1 X.2.1 Y.1 Y.2.1 Y.2.2 q0 he rfl 4 (by decide) (X.1.2.2.2.2 _ q152) (fun _ h => h) rfl (by decide +kernel) rfl rfl hl hdg (fun H1 locs1 hP hD hS => kk H1 locs1 ⟨hP, hD, hS⟩)
theorem g1_known (X : z_C p R s m args c cc nL RX1 D d dz A fr lo mc ms) (Y : z_W D A s ws H locs) (q0 : Nat) {fs : List Value} (he : ws[q0]? = some (a, .inr (1, fs))) {v : Value} (hv : fs[5]? = some v) (hdg : decode cc pc = .ok (.getfield 46, 3)) (kk : W p l e R s m args below meth c H locs cells slots Q (F0 m (pc + 3) ls (v :: rest))) : W p l e R s m args below meth c H locs cells slots Q (F0 m pc ls (.ref a :: rest)) :=
  va_get (C := RX1) (T := TX1) (N := 12) (ci := 1) X.1.1 X.1.2.1 X.1.2.2.2.2 in_X1 X.1.2.2.2.1 X.2.1 Y.1 q0 he rfl 5 (by decide) (X.1.2.2.2.2 _ q153) (fun _ h => h) hv hdg kk
theorem p1_known (X : z_C p R s m args c cc nL RX1 D d dz A fr lo mc ms) (Y : z_W D A s ws H locs) (q0 : Nat) {fs : List Value} (he : ws[q0]? = some (a, .inr (1, fs))) (hl : 5 < fs.length) {x : Int32} (hnr : narrow .boolean (.int x) = .int x) (hft : fits .boolean (.int x) = true) (hdg : decode cc pc = .ok (.putfield 46, 3)) (kk : ∀ (H1 : Heap) (locs1 : List Loc), z_W D A s (ws.set q0 (a, .inr (1, fs.set 5 (.int x)))) H1 locs1 → W p l e R s m args below meth c H1 locs1 cells slots Q (F0 m (pc + 3) ls rest)) : W p l e R s m args below meth c H locs cells slots Q (F0 m pc ls (.int x :: .ref a :: rest)) :=
  va_put (C := RX1) (T := TX1) (N := 12) (ci := 1) (ty := .boolean) X.1.1 X.1.2.1 X.1.2.2.2.2 in_X1 tyX1 tyX1_ok nmX1 X.1.2.2.2.1 X.2.1 Y.1 Y.2.1 Y.2.2 q0 he rfl 5 (by decide) (X.1.2.2.2.2 _ q153) (fun _ h => h) rfl (by decide +kernel) hnr hft hl hdg (fun H1 locs1 hP hD hS => kk H1 locs1 ⟨hP, hD, hS⟩)
theorem g1_p (X : z_C p R s m args c cc nL RX1 D d dz A fr lo mc ms) (Y : z_W D A s ws H locs) (q0 : Nat) {fs : List Value} (he : ws[q0]? = some (a, .inr (1, fs))) {v : Value} (hv : fs[6]? = some v) (hdg : decode cc pc = .ok (.getfield 26, 3)) (kk : W p l e R s m args below meth c H locs cells slots Q (F0 m (pc + 3) ls (v :: rest))) : W p l e R s m args below meth c H locs cells slots Q (F0 m pc ls (.ref a :: rest)) :=
  va_get (C := RX1) (T := TX1) (N := 12) (ci := 1) X.1.1 X.1.2.1 X.1.2.2.2.2 in_X1 X.1.2.2.2.1 X.2.1 Y.1 q0 he rfl 6 (by decide) (X.1.2.2.2.2 _ q154) (fun _ h => h) hv hdg kk
theorem f1_p (X : z_C p R s m args c cc nL RX1 D d dz A fr lo mc ms) (hin2 : meth.name = "<init>") (Y : z_W D A s ws H locs) (q0 : Nat) {fs : List Value} (he : ws[q0]? = some (a, .inr (1, fs))) (hl : 6 < fs.length) {x : Nat} (hdg : decode cc pc = .ok (.putfield 26, 3)) (kk : ∀ (H1 : Heap) (locs1 : List Loc), z_W D A s (ws.set q0 (a, .inr (1, fs.set 6 (.ref x)))) H1 locs1 → W p l e R s m args below meth c H1 locs1 cells slots Q (F0 m (pc + 3) ls rest)) : W p l e R s m args below meth c H locs cells slots Q (F0 m pc ls (.ref x :: .ref a :: rest)) :=
  va_putF (C := RX1) (T := TX1) (N := 12) (ci := 1) (ty := .array .int) X.1.1 X.1.2.1 X.1.2.2.2.2 in_X1 tyX1 tyX1_ok nmX1 X.1.2.2.2.1 X.2.1 Y.1 Y.2.1 Y.2.2 q0 he rfl 6 (by decide) (X.1.2.2.2.2 _ q154) (fun _ h => h) rfl hin2 rfl (by decide +kernel) rfl rfl hl hdg (fun H1 locs1 hP hD hS => kk H1 locs1 ⟨hP, hD, hS⟩)
theorem g1_mate (X : z_C p R s m args c cc nL RX1 D d dz A fr lo mc ms) (Y : z_W D A s ws H locs) (q0 : Nat) {fs : List Value} (he : ws[q0]? = some (a, .inr (1, fs))) {v : Value} (hv : fs[7]? = some v) (hdg : decode cc pc = .ok (.getfield 29, 3)) (kk : W p l e R s m args below meth c H locs cells slots Q (F0 m (pc + 3) ls (v :: rest))) : W p l e R s m args below meth c H locs cells slots Q (F0 m pc ls (.ref a :: rest)) :=
  va_get (C := RX1) (T := TX1) (N := 12) (ci := 1) X.1.1 X.1.2.1 X.1.2.2.2.2 in_X1 X.1.2.2.2.1 X.2.1 Y.1 q0 he rfl 7 (by decide) (X.1.2.2.2.2 _ q155) (fun _ h => h) hv hdg kk
theorem f1_mate (X : z_C p R s m args c cc nL RX1 D d dz A fr lo mc ms) (hin2 : meth.name = "<init>") (Y : z_W D A s ws H locs) (q0 : Nat) {fs : List Value} (he : ws[q0]? = some (a, .inr (1, fs))) (hl : 7 < fs.length) {x : Nat} (hdg : decode cc pc = .ok (.putfield 29, 3)) (kk : ∀ (H1 : Heap) (locs1 : List Loc), z_W D A s (ws.set q0 (a, .inr (1, fs.set 7 (.ref x)))) H1 locs1 → W p l e R s m args below meth c H1 locs1 cells slots Q (F0 m (pc + 3) ls rest)) : W p l e R s m args below meth c H locs cells slots Q (F0 m pc ls (.ref x :: .ref a :: rest)) :=
  va_putF (C := RX1) (T := TX1) (N := 12) (ci := 1) (ty := .array .int) X.1.1 X.1.2.1 X.1.2.2.2.2 in_X1 tyX1 tyX1_ok nmX1 X.1.2.2.2.1 X.2.1 Y.1 Y.2.1 Y.2.2 q0 he rfl 7 (by decide) (X.1.2.2.2.2 _ q155) (fun _ h => h) rfl hin2 rfl (by decide +kernel) rfl rfl hl hdg (fun H1 locs1 hP hD hS => kk H1 locs1 ⟨hP, hD, hS⟩)
theorem g1_left (X : z_C p R s m args c cc nL RX1 D d dz A fr lo mc ms) (Y : z_W D A s ws H locs) (q0 : Nat) {fs : List Value} (he : ws[q0]? = some (a, .inr (1, fs))) {v : Value} (hv : fs[8]? = some v) (hdg : decode cc pc = .ok (.getfield 32, 3)) (kk : W p l e R s m args below meth c H locs cells slots Q (F0 m (pc + 3) ls (v :: rest))) : W p l e R s m args below meth c H locs cells slots Q (F0 m pc ls (.ref a :: rest)) :=
  va_get (C := RX1) (T := TX1) (N := 12) (ci := 1) X.1.1 X.1.2.1 X.1.2.2.2.2 in_X1 X.1.2.2.2.1 X.2.1 Y.1 q0 he rfl 8 (by decide) (X.1.2.2.2.2 _ q156) (fun _ h => h) hv hdg kk
theorem f1_left (X : z_C p R s m args c cc nL RX1 D d dz A fr lo mc ms) (hin2 : meth.name = "<init>") (Y : z_W D A s ws H locs) (q0 : Nat) {fs : List Value} (he : ws[q0]? = some (a, .inr (1, fs))) (hl : 8 < fs.length) {x : Nat} (hdg : decode cc pc = .ok (.putfield 32, 3)) (kk : ∀ (H1 : Heap) (locs1 : List Loc), z_W D A s (ws.set q0 (a, .inr (1, fs.set 8 (.ref x)))) H1 locs1 → W p l e R s m args below meth c H1 locs1 cells slots Q (F0 m (pc + 3) ls rest)) : W p l e R s m args below meth c H locs cells slots Q (F0 m pc ls (.ref x :: .ref a :: rest)) :=
  va_putF (C := RX1) (T := TX1) (N := 12) (ci := 1) (ty := .array .int) X.1.1 X.1.2.1 X.1.2.2.2.2 in_X1 tyX1 tyX1_ok nmX1 X.1.2.2.2.1 X.2.1 Y.1 Y.2.1 Y.2.2 q0 he rfl 8 (by decide) (X.1.2.2.2.2 _ q156) (fun _ h => h) rfl hin2 rfl (by decide +kernel) rfl rfl hl hdg (fun H1 locs1 hP hD hS => kk H1 locs1 ⟨hP, hD, hS⟩)
theorem g1_best (X : z_C p R s m args c cc nL RX1 D d dz A fr lo mc ms) (Y : z_W D A s ws H locs) (q0 : Nat) {fs : List Value} (he : ws[q0]? = some (a, .inr (1, fs))) {v : Value} (hv : fs[9]? = some v) (hdg : decode cc pc = .ok (.getfield 35, 3)) (kk : W p l e R s m args below meth c H locs cells slots Q (F0 m (pc + 3) ls (v :: rest))) : W p l e R s m args below meth c H locs cells slots Q (F0 m pc ls (.ref a :: rest)) :=
  va_get (C := RX1) (T := TX1) (N := 12) (ci := 1) X.1.1 X.1.2.1 X.1.2.2.2.2 in_X1 X.1.2.2.2.1 X.2.1 Y.1 q0 he rfl 9 (by decide) (X.1.2.2.2.2 _ q157) (fun _ h => h) hv hdg kk
theorem f1_best (X : z_C p R s m args c cc nL RX1 D d dz A fr lo mc ms) (hin2 : meth.name = "<init>") (Y : z_W D A s ws H locs) (q0 : Nat) {fs : List Value} (he : ws[q0]? = some (a, .inr (1, fs))) (hl : 9 < fs.length) {x : Nat} (hdg : decode cc pc = .ok (.putfield 35, 3)) (kk : ∀ (H1 : Heap) (locs1 : List Loc), z_W D A s (ws.set q0 (a, .inr (1, fs.set 9 (.ref x)))) H1 locs1 → W p l e R s m args below meth c H1 locs1 cells slots Q (F0 m (pc + 3) ls rest)) : W p l e R s m args below meth c H locs cells slots Q (F0 m pc ls (.ref x :: .ref a :: rest)) :=
  va_putF (C := RX1) (T := TX1) (N := 12) (ci := 1) (ty := .array .int) X.1.1 X.1.2.1 X.1.2.2.2.2 in_X1 tyX1 tyX1_ok nmX1 X.1.2.2.2.1 X.2.1 Y.1 Y.2.1 Y.2.2 q0 he rfl 9 (by decide) (X.1.2.2.2.2 _ q157) (fun _ h => h) rfl hin2 rfl (by decide +kernel) rfl rfl hl hdg (fun H1 locs1 hP hD hS => kk H1 locs1 ⟨hP, hD, hS⟩)
theorem g1_good (X : z_C p R s m args c cc nL RX1 D d dz A fr lo mc ms) (Y : z_W D A s ws H locs) (q0 : Nat) {fs : List Value} (he : ws[q0]? = some (a, .inr (1, fs))) {v : Value} (hv : fs[10]? = some v) (hdg : decode cc pc = .ok (.getfield 38, 3)) (kk : W p l e R s m args below meth c H locs cells slots Q (F0 m (pc + 3) ls (v :: rest))) : W p l e R s m args below meth c H locs cells slots Q (F0 m pc ls (.ref a :: rest)) :=
  va_get (C := RX1) (T := TX1) (N := 12) (ci := 1) X.1.1 X.1.2.1 X.1.2.2.2.2 in_X1 X.1.2.2.2.1 X.2.1 Y.1 q0 he rfl 10 (by decide) (X.1.2.2.2.2 _ q158) (fun _ h => h) hv hdg kk
theorem f1_good (X : z_C p R s m args c cc nL RX1 D d dz A fr lo mc ms) (hin2 : meth.name = "<init>") (Y : z_W D A s ws H locs) (q0 : Nat) {fs : List Value} (he : ws[q0]? = some (a, .inr (1, fs))) (hl : 10 < fs.length) {x : Nat} (hdg : decode cc pc = .ok (.putfield 38, 3)) (kk : ∀ (H1 : Heap) (locs1 : List Loc), z_W D A s (ws.set q0 (a, .inr (1, fs.set 10 (.ref x)))) H1 locs1 → W p l e R s m args below meth c H1 locs1 cells slots Q (F0 m (pc + 3) ls rest)) : W p l e R s m args below meth c H locs cells slots Q (F0 m pc ls (.ref x :: .ref a :: rest)) :=
  va_putF (C := RX1) (T := TX1) (N := 12) (ci := 1) (ty := .array .int) X.1.1 X.1.2.1 X.1.2.2.2.2 in_X1 tyX1 tyX1_ok nmX1 X.1.2.2.2.1 X.2.1 Y.1 Y.2.1 Y.2.2 q0 he rfl 10 (by decide) (X.1.2.2.2.2 _ q158) (fun _ h => h) rfl hin2 rfl (by decide +kernel) rfl rfl hl hdg (fun H1 locs1 hP hD hS => kk H1 locs1 ⟨hP, hD, hS⟩)
theorem g1_resting (X : z_C p R s m args c cc nL RX1 D d dz A fr lo mc ms) (Y : z_W D A s ws H locs) (q0 : Nat) {fs : List Value} (he : ws[q0]? = some (a, .inr (1, fs))) {v : Value} (hv : fs[11]? = some v) (hdg : decode cc pc = .ok (.getfield 57, 3)) (kk : W p l e R s m args below meth c H locs cells slots Q (F0 m (pc + 3) ls (v :: rest))) : W p l e R s m args below meth c H locs cells slots Q (F0 m pc ls (.ref a :: rest)) :=
  va_get (C := RX1) (T := TX1) (N := 12) (ci := 1) X.1.1 X.1.2.1 X.1.2.2.2.2 in_X1 X.1.2.2.2.1 X.2.1 Y.1 q0 he rfl 11 (by decide) (X.1.2.2.2.2 _ q159) (fun _ h => h) hv hdg kk
theorem p1_resting (X : z_C p R s m args c cc nL RX1 D d dz A fr lo mc ms) (Y : z_W D A s ws H locs) (q0 : Nat) {fs : List Value} (he : ws[q0]? = some (a, .inr (1, fs))) (hl : 11 < fs.length) {x : Int32} (hdg : decode cc pc = .ok (.putfield 57, 3)) (kk : ∀ (H1 : Heap) (locs1 : List Loc), z_W D A s (ws.set q0 (a, .inr (1, fs.set 11 (.int x)))) H1 locs1 → W p l e R s m args below meth c H1 locs1 cells slots Q (F0 m (pc + 3) ls rest)) : W p l e R s m args below meth c H locs cells slots Q (F0 m pc ls (.int x :: .ref a :: rest)) :=
  va_put (C := RX1) (T := TX1) (N := 12) (ci := 1) (ty := .int) X.1.1 X.1.2.1 X.1.2.2.2.2 in_X1 tyX1 tyX1_ok nmX1 X.1.2.2.2.1 X.2.1 Y.1 Y.2.1 Y.2.2 q0 he rfl 11 (by decide) (X.1.2.2.2.2 _ q159) (fun _ h => h) rfl (by decide +kernel) rfl rfl hl hdg (fun H1 locs1 hP hD hS => kk H1 locs1 ⟨hP, hD, hS⟩)
end ZR
end
section
/-! ===== pure: what the loops keep ===== -/
theorem fc_step {k : Nat} (h : 2 ≤ k) : fc (k - 1) * k = fc (k + 1 - 1) := by
  obtain ⟨m, rfl⟩ : ∃ m, k = m + 1 := ⟨k - 1, by omega⟩
  rfl
/-! orders: SuitDesk keeps what is left behind what is taken, in one row -/
def OrdI (n k0 i k : Nat) (rw : Nat → Nat) : Prop := k = oK n k0 i ∧ (∀ j, j < i → rw j = oP n k0 j) ∧ ∀ j, j < n - i → rw (i + j) = oQ n k0 i j
def ShI (i a : Nat) (r0 : Nat → Nat) (j : Nat) (r : Nat → Nat) : Prop := i ≤ j ∧ j ≤ a ∧ (∀ t, t ≤ j ∨ a < t → r t = r0 t) ∧ ∀ t, j < t → t ≤ a → r t = r0 (t - 1)
theorem OrdI.start {n k : Nat} {rw : Nat → Nat} (h : ∀ j, j < n → rw j = j) : OrdI n k 0 k rw := ⟨rfl, fun j hj => absurd hj (Nat.not_lt_zero j), fun j hj => by rw [Nat.zero_add]; exact h j (by omega)⟩
theorem OrdI.le {n k0 i k : Nat} {rw : Nat → Nat} (h : OrdI n k0 i k rw) : k ≤ k0 := by
  rw [h.1, oK_div]
  exact Nat.div_le_self _ _
theorem ShI.start {i a : Nat} {r : Nat → Nat} (h : i ≤ a) : ShI i a r a r := ⟨h, Nat.le_refl a, fun _ _ => rfl, fun t h1 h2 => by omega⟩
theorem ShI.step {i a j : Nat} {r0 r : Nat → Nat} (h : ShI i a r0 j r) (hj : i < j) : ShI i a r0 (j - 1) (va_up r j (r (j - 1))) := by
  obtain ⟨h1, h2, h3, h4⟩ := h
  refine ⟨by omega, by omega, fun t ht => ?_, fun t ht1 ht2 => ?_⟩
  · rw [va_up_ne _ _ (show t ≠ j by omega)]
    exact h3 t (by omega)
  · by_cases e : t = j
    · rw [e, va_up_self]
      exact h3 (j - 1) (Or.inl (by omega))
    · rw [va_up_ne _ _ e]
      exact h4 t (by omega) ht2
theorem OrdI.step {n k0 i k j : Nat} {r0 r : Nat → Nat} (h : OrdI n k0 i k r0) (hi : i < n) (hs : ShI i (i + k % (n - i)) r0 j r) (hj : j ≤ i) : OrdI n k0 (i + 1) (k / (n - i)) (va_up r i (r0 (i + k % (n - i)))) := by
  obtain ⟨h1, h2, h3⟩ := h
  obtain ⟨s1, s2, s3, s4⟩ := hs
  have ej : j = i := by omega
  subst ej
  have hd : k % (n - j) = oD n k0 j := by rw [h1]; rfl
  have hdl := oD_lt (k := k0) hi
  rw [hd] at s2 s3 s4 ⊢
  refine ⟨by rw [h1]; rfl, fun t ht => ?_, fun t ht => ?_⟩
  · by_cases e : t = j
    · rw [e, va_up_self]
      exact h3 _ hdl
    · rw [va_up_ne _ _ e, s3 t (Or.inl (by omega))]
      exact h2 t (by omega)
  · rw [va_up_ne _ _ (show j + 1 + t ≠ j by omega)]
    show r (j + 1 + t) = (if t < oD n k0 j then oQ n k0 j t else oQ n k0 j (t + 1))
    by_cases e : t < oD n k0 j
    · rw [if_pos e, s4 _ (by omega) (by omega), show j + 1 + t - 1 = j + t by omega]
      exact h3 t (by omega)
    · rw [if_neg e, s3 _ (Or.inr (by omega)), show j + 1 + t = j + (t + 1) by omega]
      exact h3 (t + 1) (by omega)
/-! orders: the reference takes out of 'left' into 'p' -/
def OrdM (n k0 i k : Nat) (pp le : Nat → Nat) : Prop := k = oK n k0 i ∧ (∀ j, j < i → pp j = oP n k0 j) ∧ ∀ j, j < n - i → le j = oQ n k0 i j
def ShM (dd : Nat) (r0 : Nat → Nat) (j : Nat) (r : Nat → Nat) : Prop := dd ≤ j ∧ (∀ t, t < dd ∨ j ≤ t → r t = r0 t) ∧ ∀ t, dd ≤ t → t < j → r t = r0 (t + 1)
theorem OrdM.start {n k : Nat} {pp le : Nat → Nat} (h : ∀ j, j < n → le j = j) : OrdM n k 0 k pp le := ⟨rfl, fun j hj => absurd hj (Nat.not_lt_zero j), fun j hj => h j (by omega)⟩
theorem OrdM.le {n k0 i k : Nat} {pp le : Nat → Nat} (h : OrdM n k0 i k pp le) : k ≤ k0 := by
  rw [h.1, oK_div]
  exact Nat.div_le_self _ _
theorem ShM.start {dd : Nat} {r : Nat → Nat} : ShM dd r dd r := ⟨Nat.le_refl dd, fun _ _ => rfl, fun t h1 h2 => by omega⟩
theorem ShM.step {dd j : Nat} {r0 r : Nat → Nat} (h : ShM dd r0 j r) : ShM dd r0 (j + 1) (va_up r j (r (j + 1))) := by
  obtain ⟨h1, h3, h4⟩ := h
  refine ⟨by omega, fun t ht => ?_, fun t ht1 ht2 => ?_⟩
  · rw [va_up_ne _ _ (show t ≠ j by omega)]
    exact h3 t (by omega)
  · by_cases e : t = j
    · rw [e, va_up_self]
      exact h3 (j + 1) (Or.inr (by omega))
    · rw [va_up_ne _ _ e]
      exact h4 t ht1 (by omega)
theorem OrdM.step {n k0 i k j : Nat} {pp le r : Nat → Nat} (h : OrdM n k0 i k pp le) (hi : i < n) (hs : ShM (k % (n - i)) le j r) (hj : n - i ≤ j + 1) : OrdM n k0 (i + 1) (k / (n - i)) (va_up pp i (le (k % (n - i)))) r := by
  obtain ⟨h1, h2, h3⟩ := h
  obtain ⟨s1, s3, s4⟩ := hs
  have hd : k % (n - i) = oD n k0 i := by rw [h1]; rfl
  have hdl := oD_lt (k := k0) hi
  rw [hd] at s1 s3 s4 ⊢
  refine ⟨by rw [h1]; rfl, fun t ht => ?_, fun t ht => ?_⟩
  · by_cases e : t = i
    · rw [e, va_up_self]
      exact h3 _ hdl
    · rw [va_up_ne _ _ e]
      exact h2 t (by omega)
  · show r t = (if t < oD n k0 i then oQ n k0 i t else oQ n k0 i (t + 1))
    by_cases e : t < oD n k0 i
    · rw [if_pos e, s3 t (Or.inl e)]
      exact h3 t (by omega)
    · rw [if_neg e, s4 t (by omega) (by omega)]
      exact h3 (t + 1) (by omega)
/-! an order comes into a list and its places -/
def TkI (n k who : Nat) (f0 q0 : Nat → Nat) (i : Nat) (f q : Nat → Nat) : Prop := (∀ j, j < i → f (6 * who + j) = oP n k j) ∧ (∀ j, j < i → q (6 * who + oP n k j) = j) ∧ ∀ t, t < 6 * who ∨ 6 * who + 6 ≤ t → f t = f0 t ∧ q t = q0 t
theorem TkI.start {n k who : Nat} {f q : Nat → Nat} : TkI n k who f q 0 f q := ⟨fun j hj => absurd hj (Nat.not_lt_zero j), fun j hj => absurd hj (Nat.not_lt_zero j), fun _ _ => ⟨rfl, rfl⟩⟩
theorem TkI.step {n k who i v : Nat} {f0 q0 f q : Nat → Nat} (h : TkI n k who f0 q0 i f q) (hn : n ≤ 6) (hi : i < n) (hv : v = oP n k i) : TkI n k who f0 q0 (i + 1) (va_up f (6 * who + i) v) (va_up q (6 * who + v) i) := by
  obtain ⟨h1, h2, h3⟩ := h
  have hl := oP_lt (k := k) hi
  rw [hv]
  refine ⟨fun j hj => ?_, fun j hj => ?_, fun t ht => ?_⟩
  · by_cases e : j = i
    · rw [e, va_up_self]
    · rw [va_up_ne _ _ (show 6 * who + j ≠ 6 * who + i by omega)]
      exact h1 j (by omega)
  · by_cases e : j = i
    · rw [e, va_up_self]
    · have hne : oP n k j ≠ oP n k i := fun q => e (oP_inj (by omega) hi q)
      rw [va_up_ne _ _ (show 6 * who + oP n k j ≠ 6 * who + oP n k i by omega)]
      exact h2 j (by omega)
  · rw [va_up_ne _ _ (show t ≠ 6 * who + i by omega), va_up_ne _ _ (show t ≠ 6 * who + oP n k i by omega)]
    exact h3 t ht
theorem TkI.pf {n k who : Nat} {f0 q0 f q : Nat → Nat} (hn : n ≤ 6) (hw : who < n) (hp : PfL n f0 q0) (h : TkI n k who f0 q0 n f q) : PfL n f q := by
  obtain ⟨h1, h2, h3⟩ := h
  intro a ha i hi
  by_cases e : a = who
  · subst e
    have hl := oP_lt (k := k) hi
    obtain ⟨c, hc1, hc2⟩ := oP_sur (k := k) hi
    refine ⟨⟨by rw [h1 i hi]; exact hl, by rw [h1 i hi]; exact h2 i hi⟩, ?_⟩
    have q2 := h2 c hc1
    rw [hc2] at q2
    rw [q2]
    exact ⟨hc1, by rw [h1 c hc1]; exact hc2⟩
  · have hpa := hp a ha i hi
    have e1 := h3 (6 * a + i) (by omega)
    rw [e1.1, e1.2, (h3 (6 * a + f0 (6 * a + i)) (by omega)).2, (h3 (6 * a + q0 (6 * a + i)) (by omega)).1]
    exact hpa
/-- what 'take' leaves: the row of 'who' is the order number k -/
theorem TkI.ag {n k who : Nat} {f0 q0 f q f0' q0' f' q' : Nat → Nat} (hn : n ≤ 6) (hw : who < n) (h : TkI n k who f0 q0 n f q) (h' : TkI n k who f0' q0' n f' q') (hf : Ag n f0 f0') (hq : Ag n q0 q0') : Ag n f f' ∧ Ag n q q' := by
  obtain ⟨h1, h2, h3⟩ := h
  obtain ⟨g1, g2, g3⟩ := h'
  refine ⟨fun a ha i hi => ?_, fun a ha i hi => ?_⟩
  · by_cases e : a = who
    · subst e
      rw [h1 i hi, g1 i hi]
    · rw [(h3 (6 * a + i) (by omega)).1, (g3 (6 * a + i) (by omega)).1]
      exact hf a ha i hi
  · by_cases e : a = who
    · subst e
      obtain ⟨c, hc1, hc2⟩ := oP_sur (k := k) hi
      have q2 := h2 c hc1
      have q2' := g2 c hc1
      rw [hc2] at q2 q2'
      rw [q2, q2']
    · rw [(h3 (6 * a + i) (by omega)).2, (g3 (6 * a + i) (by omega)).2]
      exact hq a ha i hi
/-! all lists anew -/
def FrI (n i : Nat) (f q : Nat → Nat) : Prop := ∀ a, a < i → ∀ j, j < n → f (6 * a + j) = j ∧ q (6 * a + j) = j
theorem FrI.step {n i : Nat} {f q f' q' : Nat → Nat} (hn : n ≤ 6) (h : FrI n i f q) (ht : TkI n 0 i f q n f' q') : FrI n (i + 1) f' q' := by
  intro a ha j hj
  by_cases e : a = i
  · subst e
    have h1 := ht.1 j hj
    have h2 := ht.2.1 j hj
    rw [oP_id hj] at h1 h2
    exact ⟨h1, h2⟩
  · have h3 := ht.2.2 (6 * a + j) (by omega)
    rw [h3.1, h3.2]
    exact h a (by omega) j hj
theorem FrI.pf {n : Nat} {f q : Nat → Nat} (h : FrI n n f q) : PfL n f q := by
  intro a ha i hi
  have h1 := h a ha i hi
  exact ⟨⟨by rw [h1.1]; exact hi, by rw [h1.1]; exact h1.2⟩, by rw [h1.2]; exact hi, by rw [h1.2]; exact h1.1⟩
/-! a pairing comes back -/
def BkI (n k : Nat) (lp : Nat → Nat) (i : Nat) (fa ha : Nat → Nat) : Prop := ∀ j, j < i → fa j = lp (6 * j + oP n k j) ∧ ha (oP n k j) = j
theorem BkI.step {n k i v : Nat} {lp fa ha : Nat → Nat} (h : BkI n k lp i fa ha) (hi : i < n) (hv : v = oP n k i) : BkI n k lp (i + 1) (va_up fa i (lp (6 * i + v))) (va_up ha v i) := by
  intro j hj
  rw [hv]
  by_cases e : j = i
  · rw [e, va_up_self, va_up_self]
    exact ⟨rfl, rfl⟩
  · have hne : oP n k j ≠ oP n k i := fun q => e (oP_inj (by omega) hi q)
    rw [va_up_ne _ _ e, va_up_ne _ _ hne]
    exact h j (by omega)
/-! the number of a pairing: who is used, by bits -/
def ub (p : Nat → Nat) : Nat → Nat
  | 0 => 0
  | i + 1 => ub p i ||| 1 * 2 ^ p i
theorem ub_lt {p : Nat → Nat} : ∀ i, (∀ t, t < i → p t < 6) → ub p i < 2 ^ 6 := by
  intro i
  induction i with
  | zero => intro _; show 0 < 2 ^ 6; decide
  | succ i ih =>
    intro h
    have h1 := ih (fun t ht => h t (by omega))
    have h2 : 2 ^ p i < 2 ^ 6 := Nat.pow_lt_pow_right (by decide) (h i (by omega))
    show ub p i ||| 1 * 2 ^ p i < 2 ^ 6
    rw [Nat.one_mul]
    exact Nat.or_lt_two_pow h1 h2
theorem ub_bit {p : Nat → Nat} {v : Nat} : ∀ i, ub p i / 2 ^ v % 2 = if usd p i v = true then 1 else 0 := by
  have key : ∀ i, (ub p i).testBit v = usd p i v := by
    intro i
    induction i with
    | zero => exact Nat.zero_testBit v
    | succ i ih =>
      show (ub p i ||| 1 * 2 ^ p i).testBit v = (usd p i v || (p i == v))
      rw [Nat.one_mul, Nat.testBit_or, ih, Nat.testBit_two_pow]
      congr 1
  intro i
  have h := key i
  rw [Nat.testBit_eq_decide_div_mod_eq] at h
  rw [← h]
  by_cases e : ub p i / 2 ^ v % 2 = 1
  · rw [if_pos (decide_eq_true e)]
    exact e
  · rw [if_neg (fun q => e (of_decide_eq_true q))]
    omega
def NumI (n v i k t u : Nat) : Prop := k = oS n (oP n v) i ∧ t = oT n i ∧ u = ub (oP n v) i
theorem NumI.start {n v : Nat} : NumI n v 0 0 1 0 := ⟨rfl, rfl, rfl⟩
theorem NumI.lt {n v i k t u : Nat} (h : NumI n v i k t u) (hn : n ≤ 6) (hi : i ≤ n) : u < 64 := by
  rw [h.2.2]
  exact ub_lt i (fun t ht => by have := oP_lt (n := n) (k := v) (i := t) (by omega); omega)
theorem NumI.cnt0 {n v i k t u j a : Nat} (h : NumI n v i k t u) (ha : a = cnt (usd (oP n v) i) j) (hb : u / 2 ^ j % 2 = 0) : a + 1 = cnt (usd (oP n v) i) (j + 1) := by
  rw [h.2.2, ub_bit] at hb
  show _ = cnt (usd (oP n v) i) j + (if usd (oP n v) i j = true then 0 else 1)
  by_cases e : usd (oP n v) i j = true
  · rw [if_pos e] at hb
    omega
  · rw [if_neg e, ha]
theorem NumI.cnt1 {n v i k t u j a : Nat} (h : NumI n v i k t u) (ha : a = cnt (usd (oP n v) i) j) (hb : u / 2 ^ j % 2 ≠ 0) : a = cnt (usd (oP n v) i) (j + 1) := by
  rw [h.2.2, ub_bit] at hb
  show _ = cnt (usd (oP n v) i) j + (if usd (oP n v) i j = true then 0 else 1)
  by_cases e : usd (oP n v) i j = true
  · rw [if_pos e, ha, Nat.add_zero]
  · rw [if_neg e] at hb
    omega
theorem NumI.step {n v i k t u a w : Nat} (h : NumI n v i k t u) (hw : w = oP n v i) (ha : a = cnt (usd (oP n v) i) w) : NumI n v (i + 1) (k + a * t) (t * (n - i)) (u ||| 1 * 2 ^ w) := by
  obtain ⟨h1, h2, h3⟩ := h
  rw [ha, hw, h1, h2, h3]
  exact ⟨rfl, rfl, rfl⟩
/-! the reference's look at one pairing -/
def okP (n v : Nat) (lp rp : Nat → Nat) (a b : Nat) : Prop := lp (6 * a + b) < lp (6 * a + oP n v a) → rp (6 * b + iv n v b) ≤ rp (6 * b + a)
theorem okP_RN {n v : Nat} {lp rp : Nat → Nat} (h : ∀ a, a < n → ∀ b, b < n → okP n v lp rp a b) : RN n lp rp v := by
  intro a ha b hb c hc e hlt
  have h1 := h a ha b hb hlt
  have h2 : iv n v b = c := by rw [← e]; exact iv_oP hc
  rw [h2] at h1
  exact h1
theorem RN_okP {n v : Nat} {lp rp : Nat → Nat} (h : RN n lp rp v) {a b : Nat} (ha : a < n) (hb : b < n) : okP n v lp rp a b := by
  intro hlt
  obtain ⟨h1, h2⟩ := iv_lt (k := v) hb
  exact h a ha b hb _ h1 h2 hlt
theorem up_id {i : Nat} {r : Nat → Nat} (h : ∀ j, j < i → r j = j) : ∀ j, j < i + 1 → va_up r i i j = j := by
  intro j hj
  by_cases e : j = i
  · rw [e, va_up_self]
  · rw [va_up_ne _ _ e]
    exact h j (by omega)
theorem up_all {i v : Nat} {r : Nat → Nat} (h : ∀ j, j < i → r j = v) : ∀ j, j < i + 1 → va_up r i v j = v := by
  intro j hj
  by_cases e : j = i
  · rw [e, va_up_self]
  · rw [va_up_ne _ _ e]
    exact h j (by omega)
end
section
/-! ===== SuitDesk: its world and its contracts ===== -/
abbrev WX (ad : Nat → Nat) (d dz : ClassId) (n : Nat) (lf rt lp rp rw fa ha me wt : Nat → Nat) (my : Nat) : va_W :=
  [(ad 0, .inr (0, [.int (nI n), .ref (ad 1), .ref (ad 2), .ref (ad 3), .ref (ad 4), .ref (ad 5), .ref (ad 6), .ref (ad 7), .ref (ad 8), .ref (ad 9), .int (nI my)])),
   (ad 1, .inl (d, 36, .inl (nA lf))), (ad 2, .inl (d, 36, .inl (nA rt))), (ad 3, .inl (d, 36, .inl (nA lp))), (ad 4, .inl (d, 36, .inl (nA rp))), (ad 5, .inl (d, 6, .inl (nA rw))), (ad 6, .inl (d, 6, .inl (nA fa))), (ad 7, .inl (d, 6, .inl (nA ha))), (ad 8, .inl (dz, 720, .inl (nA me))), (ad 9, .inl (d, 720, .inl (nA wt)))]
set_option maxHeartbeats 4000000 in
set_option maxRecDepth 100000 in
/-- one(x): its low bits by n -/
theorem c_one (l : Launch) (D : va_G) (d dz : ClassId) (ad : Nat → Nat) (n : Nat) (lf rt lp rp rw fa ha me wt : Nat → Nat) (my : Nat) (x : Int32) (hn0 : 0 < n) (hn : n ≤ 6) : CI l yX0_one cX0_one 2 .int 0 0 0 0 D d dz [.ref (ad 0), .int x] (WX ad d dz n lf rt lp rp rw fa ha me wt my) (S := Unit) (fun k _ => k = mx x % n) (fun _ => WX ad d dz n lf rt lp rp rw fa ha me wt my) := by
  refine CI.start (own := RX0) rfl (by decide) (Nat.le_of_ble_eq_true rfl) (fun p e R s m args below meth c A Q X hnm hret H locs ls Y hl => ?_)
  have hx := X.1.1
  have hb := X.1.2.1
  have hl : lv_has ls 2 [(0, .ref (ad 0)), (1, .int x)] := hl
  refine lv_iload_n hx hb dX0_one_0 rfl (lv_at hl 1 rfl) ?_
  refine lv_ldc (v := 2147483647) hx hb X.1.2.2.2.1 (X.1.2.2.2.2 _ q78) dX0_one_1 ?_
  refine z_iand hx hb dX0_one_3 ?_
  refine lv_aload_n hx hb dX0_one_4 rfl (lv_at hl 0 rfl) ?_
  refine g0_n X Y 0 rfl rfl dX0_one_5 ?_
  refine z_irem hx hb dX0_one_8 (mx_lt x) (by omega) (by omega) ?_
  exact hret ((mx x) % n) () H locs _ ls rfl Y rfl dX0_one_9
set_option maxHeartbeats 4000000 in
set_option maxRecDepth 100000 in
/-- orders(): n! -/
theorem c_orders (l : Launch) (D : va_G) (d dz : ClassId) (ad : Nat → Nat) (n : Nat) (lf rt lp rp rw fa ha me wt : Nat → Nat) (my : Nat) (hn0 : 0 < n) (hn : n ≤ 6) : CI l yX0_orders cX0_orders 3 .int 0 0 0 0 D d dz [.ref (ad 0)] (WX ad d dz n lf rt lp rp rw fa ha me wt my) (S := Unit) (fun k _ => k = fc n) (fun _ => WX ad d dz n lf rt lp rp rw fa ha me wt my) := by
  refine CI.start (own := RX0) rfl (by decide) (Nat.le_of_ble_eq_true rfl) (fun p e R s m args below meth c A Q X hnm hret H locs ls Y hl => ?_)
  have hx := X.1.1
  have hb := X.1.2.1
  have hl : lv_has ls 3 [(0, .ref (ad 0))] := hl
  refine lv_iconst (v := nI 1) hx hb dX0_orders_0 (by decide) ?_
  refine lv_istore_n (lv' := [(1, .int (nI 1)), (0, .ref (ad 0))]) hx hb dX0_orders_1 rfl hl (by decide) rfl (fun ls hl => ?_)
  refine lv_iconst (v := nI 2) hx hb dX0_orders_2 (by decide) ?_
  refine lv_istore_n (lv' := [(2, .int (nI 2)), (1, .int (nI 1)), (0, .ref (ad 0))]) hx hb dX0_orders_3 rfl hl (by decide) rfl (fun ls hl => ?_)
  have L4 : ∀ (N : Nat) (a : Nat) (k : Nat), 2 ≤ k → k ≤ n + 1 → a = fc (k - 1) → n + 1 - k < N → ∀ (H : Heap) (locs : List Loc) (ls : Array Slot), z_W D A s (WX ad d dz n lf rt lp rp rw fa ha me wt my) H locs → lv_has ls 3 [(0, .ref (ad 0)), (1, .int (nI a)), (2, .int (nI k))] → W p l e R s m args below meth c H locs 0 0 Q (F0 m 4 ls []) := by
    intro N
    induction N with
    | zero =>
      intro a k h1 h2 h3 hm
      exact absurd hm (Nat.not_lt_zero _)
    | succ N ih4 =>
      intro a k h1 h2 h3 hm H locs ls Y hl
      refine lv_iload_n hx hb dX0_orders_4 rfl (lv_at hl 2 rfl) ?_
      refine lv_aload_n hx hb dX0_orders_5 rfl (lv_at hl 0 rfl) ?_
      refine g0_n X Y 0 rfl rfl dX0_orders_6 ?_
      refine z_icgt (tgt := 22) hx hb dX0_orders_9 (by decide) (by omega) (by omega) (fun c9 => ?_) (fun c9 => ?_)
      · refine lv_iload_n hx hb dX0_orders_22 rfl (lv_at hl 1 rfl) ?_
        exact hret a () H locs _ ls (by rw [h3, show k - 1 = n by omega]) Y rfl dX0_orders_23
      · refine lv_iload_n hx hb dX0_orders_12 rfl (lv_at hl 1 rfl) ?_
        refine lv_iload_n hx hb dX0_orders_13 rfl (lv_at hl 2 rfl) ?_
        refine z_imul hx hb dX0_orders_14 ?_
        refine lv_istore_n (lv' := [(1, .int (nI (a * k))), (0, .ref (ad 0)), (2, .int (nI k))]) hx hb dX0_orders_15 rfl hl (by decide) rfl (fun ls hl => ?_)
        refine lv_iinc (v := nI (k + 1)) (lv' := [(2, .int (nI (k + 1))), (1, .int (nI (a * k))), (0, .ref (ad 0))]) hx hb dX0_orders_16 hl (k := 2) rfl (z_inc _) (by decide) rfl (fun ls hl => ?_)
        refine lv_goto (tgt := 4) hx hb dX0_orders_19 (by decide) ?_
        exact ih4 (a * k) (k + 1) (by omega) (by omega) (by rw [h3]; exact fc_step h1) (by omega) H locs ls Y (lv_sub hl [2, 1, 0] rfl)
  exact L4 _ 1 2 (by omega) (by omega) (by decide) (Nat.lt_succ_self _) H locs ls Y (lv_sub hl [2, 1, 0] rfl)
set_option maxHeartbeats 4000000 in
set_option maxRecDepth 100000 in
/-- order(k): the row is the order number k -/
theorem c_order (l : Launch) (D : va_G) (d dz : ClassId) (ad : Nat → Nat) (n : Nat) (lf rt lp rp rw fa ha me wt : Nat → Nat) (my : Nat) (k : Nat) (hn : n ≤ 6) (hk : k < 2 ^ 31) : CV l yX0_order cX0_order 7 0 0 0 0 D d dz [.ref (ad 0), .int (nI k)] (WX ad d dz n lf rt lp rp rw fa ha me wt my) (S := Nat → Nat) (fun r => ∀ i, i < n → r i = oP n k i) (fun r => WX ad d dz n lf rt lp rp r fa ha me wt my) := by
  refine CV.start (own := RX0) rfl (by decide) (Nat.le_of_ble_eq_true rfl) (fun p e R s m args below meth c A Q X hnm hret H locs ls Y hl => ?_)
  have hx := X.1.1
  have hb := X.1.2.1
  have hl : lv_has ls 7 [(0, .ref (ad 0)), (1, .int (nI k))] := hl
  refine lv_iload_n hx hb dX0_order_0 rfl (lv_at hl 1 rfl) ?_
  refine lv_istore_n (lv' := [(2, .int (nI k)), (0, .ref (ad 0)), (1, .int (nI k))]) hx hb dX0_order_1 rfl hl (by decide) rfl (fun ls hl => ?_)
  refine lv_iconst (v := nI 0) hx hb dX0_order_2 (by decide) ?_
  refine lv_istore_n (lv' := [(3, .int (nI 0)), (2, .int (nI k)), (0, .ref (ad 0)), (1, .int (nI k))]) hx hb dX0_order_3 rfl hl (by decide) rfl (fun ls hl => ?_)
  have L4 : ∀ (N : Nat) (i : Nat) (rw : Nat → Nat), i ≤ n → (∀ j, j < i → rw j = j) → n - i < N → ∀ (H : Heap) (locs : List Loc) (ls : Array Slot), z_W D A s (WX ad d dz n lf rt lp rp rw fa ha me wt my) H locs → lv_has ls 7 [(0, .ref (ad 0)), (2, .int (nI k)), (3, .int (nI i))] → W p l e R s m args below meth c H locs 0 0 Q (F0 m 4 ls []) := by
    intro N
    induction N with
    | zero =>
      intro i rw h1 h2 hm
      exact absurd hm (Nat.not_lt_zero _)
    | succ N ih4 =>
      intro i rw h1 h2 hm H locs ls Y hl
      refine lv_iload_n hx hb dX0_order_4 rfl (lv_at hl 2 rfl) ?_
      refine lv_aload_n hx hb dX0_order_5 rfl (lv_at hl 0 rfl) ?_
      refine g0_n X Y 0 rfl rfl dX0_order_6 ?_
      refine z_icge (tgt := 25) hx hb dX0_order_9 (by decide) (by omega) (by omega) (fun c9 => ?_) (fun c9 => ?_)
      · refine lv_iconst (v := nI 0) hx hb dX0_order_25 (by decide) ?_
        refine lv_istore_n (lv' := [(3, .int (nI 0)), (0, .ref (ad 0)), (2, .int (nI k))]) hx hb dX0_order_26 rfl hl (by decide) rfl (fun ls hl => ?_)
        have L27 : ∀ (N : Nat) (q : Nat) (i : Nat) (rv : Nat → Nat), i ≤ n → OrdI n k i q rv → n - i < N → ∀ (H : Heap) (locs : List Loc) (ls : Array Slot), z_W D A s (WX ad d dz n lf rt lp rp rv fa ha me wt my) H locs → lv_has ls 7 [(0, .ref (ad 0)), (2, .int (nI q)), (3, .int (nI i))] → W p l e R s m args below meth c H locs 0 0 Q (F0 m 27 ls []) := by
          intro N
          induction N with
          | zero =>
            intro q i rv g1 g2 hm
            exact absurd hm (Nat.not_lt_zero _)
          | succ N ih27 =>
            intro q i rv g1 g2 hm H locs ls Y hl
            refine lv_iload_n hx hb dX0_order_27 rfl (lv_at hl 2 rfl) ?_
            refine lv_aload_n hx hb dX0_order_28 rfl (lv_at hl 0 rfl) ?_
            refine g0_n X Y 0 rfl rfl dX0_order_29 ?_
            refine z_icge (tgt := 111) hx hb dX0_order_32 (by decide) (by omega) (by omega) (fun c32 => ?_) (fun c32 => ?_)
            · exact hret rv H locs _ ls (fun t ht => g2.2.1 t (by omega)) Y dX0_order_111
            · have hq := g2.le
              have hm : q % (n - i) < n - i := Nat.mod_lt _ (by omega)
              refine lv_iload_n hx hb dX0_order_35 rfl (lv_at hl 2 rfl) ?_
              refine lv_iload_n hx hb dX0_order_36 rfl (lv_at hl 1 rfl) ?_
              refine lv_aload_n hx hb dX0_order_37 rfl (lv_at hl 0 rfl) ?_
              refine g0_n X Y 0 rfl rfl dX0_order_38 ?_
              refine lv_iload_n hx hb dX0_order_41 rfl (lv_at hl 2 rfl) ?_
              refine z_isub hx hb dX0_order_42 (by omega) ?_
              refine z_irem hx hb dX0_order_43 (by omega) (by omega) (by omega) ?_
              refine z_iadd hx hb dX0_order_44 ?_
              refine lv_istore (lv' := [(4, .int (nI (i + (q % (n - i))))), (0, .ref (ad 0)), (2, .int (nI q)), (3, .int (nI i))]) hx hb dX0_order_45 hl (by decide) rfl (fun ls hl => ?_)
              refine lv_aload_n hx hb dX0_order_47 rfl (lv_at hl 1 rfl) ?_
              refine g0_row X Y 0 rfl rfl dX0_order_48 ?_
              refine lv_iload hx hb dX0_order_51 (lv_at hl 0 rfl) ?_
              refine z_iald X Y 5 rfl (by omega) dX0_order_53 ?_
              refine lv_istore (lv' := [(5, .int (nI (rv (i + (q % (n - i)))))), (4, .int (nI (i + (q % (n - i))))), (0, .ref (ad 0)), (2, .int (nI q)), (3, .int (nI i))]) hx hb dX0_order_54 hl (by decide) rfl (fun ls hl => ?_)
              refine lv_iload_n hx hb dX0_order_56 rfl (lv_at hl 3 rfl) ?_
              refine lv_aload_n hx hb dX0_order_57 rfl (lv_at hl 2 rfl) ?_
              refine g0_n X Y 0 rfl rfl dX0_order_58 ?_
              refine lv_iload_n hx hb dX0_order_61 rfl (lv_at hl 4 rfl) ?_
              refine z_isub hx hb dX0_order_62 (by omega) ?_
              refine z_idiv hx hb dX0_order_63 (by omega) (by omega) (by omega) ?_
              refine lv_istore_n (lv' := [(2, .int (nI (q / (n - i)))), (5, .int (nI (rv (i + (q % (n - i)))))), (4, .int (nI (i + (q % (n - i))))), (0, .ref (ad 0)), (3, .int (nI i))]) hx hb dX0_order_64 rfl hl (by decide) rfl (fun ls hl => ?_)
              refine lv_iload hx hb dX0_order_65 (lv_at hl 2 rfl) ?_
              refine lv_istore (lv' := [(6, .int (nI (i + (q % (n - i))))), (2, .int (nI (q / (n - i)))), (5, .int (nI (rv (i + (q % (n - i)))))), (4, .int (nI (i + (q % (n - i))))), (0, .ref (ad 0)), (3, .int (nI i))]) hx hb dX0_order_67 hl (by decide) rfl (fun ls hl => ?_)
              have L69 : ∀ (N : Nat) (j : Nat) (rq : Nat → Nat), ShI i (i + q % (n - i)) rv j rq → j - i < N → ∀ (H : Heap) (locs : List Loc) (ls : Array Slot), z_W D A s (WX ad d dz n lf rt lp rp rq fa ha me wt my) H locs → lv_has ls 7 [(0, .ref (ad 0)), (2, .int (nI (q / (n - i)))), (3, .int (nI i)), (5, .int (nI (rv (i + q % (n - i))))), (6, .int (nI j))] → W p l e R s m args below meth c H locs 0 0 Q (F0 m 69 ls []) := by
                intro N
                induction N with
                | zero =>
                  intro j rq s1 hm
                  exact absurd hm (Nat.not_lt_zero _)
                | succ N ih69 =>
                  intro j rq s1 hm H locs ls Y hl
                  have hj := s1.2.1
                  refine lv_iload hx hb dX0_order_69 (lv_at hl 4 rfl) ?_
                  refine lv_iload_n hx hb dX0_order_71 rfl (lv_at hl 2 rfl) ?_
                  refine z_icle (tgt := 97) hx hb dX0_order_72 (by decide) (by omega) (by omega) (fun c72 => ?_) (fun c72 => ?_)
                  · refine lv_aload_n hx hb dX0_order_97 rfl (lv_at hl 0 rfl) ?_
                    refine g0_row X Y 0 rfl rfl dX0_order_98 ?_
                    refine lv_iload_n hx hb dX0_order_101 rfl (lv_at hl 2 rfl) ?_
                    refine lv_iload hx hb dX0_order_102 (lv_at hl 3 rfl) ?_
                    refine z_iast X Y 5 rfl (by omega) dX0_order_104 (fun H locs Y => ?_)
                    have Y : z_W D A s (WX ad d dz n lf rt lp rp (va_up rq i (rv (i + q % (n - i)))) fa ha me wt my) H locs := Y
                    refine lv_iinc (v := nI (i + 1)) (lv' := [(3, .int (nI (i + 1))), (0, .ref (ad 0)), (2, .int (nI (q / (n - i)))), (5, .int (nI (rv (i + q % (n - i))))), (6, .int (nI j))]) hx hb dX0_order_105 hl (k := 2) rfl (z_inc _) (by decide) rfl (fun ls hl => ?_)
                    refine lv_goto (tgt := 27) hx hb dX0_order_108 (by decide) ?_
                    exact ih27 (q / (n - i)) (i + 1) (va_up rq i (rv (i + q % (n - i)))) c32 (g2.step c32 s1 c72) (by omega) H locs ls Y (lv_sub hl [1, 2, 0] rfl)
                  · refine lv_aload_n hx hb dX0_order_75 rfl (lv_at hl 0 rfl) ?_
                    refine g0_row X Y 0 rfl rfl dX0_order_76 ?_
                    refine lv_iload hx hb dX0_order_79 (lv_at hl 4 rfl) ?_
                    refine lv_aload_n hx hb dX0_order_81 rfl (lv_at hl 0 rfl) ?_
                    refine g0_row X Y 0 rfl rfl dX0_order_82 ?_
                    refine lv_iload hx hb dX0_order_85 (lv_at hl 4 rfl) ?_
                    refine lv_iconst (v := nI 1) hx hb dX0_order_87 (by decide) ?_
                    refine z_isub hx hb dX0_order_88 (by omega) ?_
                    refine z_iald X Y 5 rfl (by omega) dX0_order_89 ?_
                    refine z_iast X Y 5 rfl (by omega) dX0_order_90 (fun H locs Y => ?_)
                    have Y : z_W D A s (WX ad d dz n lf rt lp rp (va_up rq j (rq (j - 1))) fa ha me wt my) H locs := Y
                    refine lv_iinc (v := nI (j - 1)) (lv' := [(6, .int (nI (j - 1))), (0, .ref (ad 0)), (2, .int (nI (q / (n - i)))), (3, .int (nI i)), (5, .int (nI (rv (i + q % (n - i)))))]) hx hb dX0_order_91 hl (k := 4) rfl (z_dec (by omega)) (by decide) rfl (fun ls hl => ?_)
                    refine lv_goto (tgt := 69) hx hb dX0_order_94 (by decide) ?_
                    exact ih69 (j - 1) (va_up rq j (rq (j - 1))) (s1.step c72) (by omega) H locs ls Y (lv_sub hl [1, 2, 3, 4, 0] rfl)
              exact L69 _ (i + (q % (n - i))) rv (ShI.start (Nat.le_add_right _ _)) (Nat.lt_succ_self _) H locs ls Y (lv_sub hl [4, 1, 5, 2, 0] rfl)
        exact L27 _ k 0 rw (Nat.zero_le n) (OrdI.start (fun j hj => h2 j (by omega))) (Nat.lt_succ_self _) H locs ls Y (lv_sub hl [1, 2, 0] rfl)
      · refine lv_aload_n hx hb dX0_order_12 rfl (lv_at hl 0 rfl) ?_
        refine g0_row X Y 0 rfl rfl dX0_order_13 ?_
        refine lv_iload_n hx hb dX0_order_16 rfl (lv_at hl 2 rfl) ?_
        refine lv_iload_n hx hb dX0_order_17 rfl (lv_at hl 2 rfl) ?_
        refine z_iast X Y 5 rfl (by omega) dX0_order_18 (fun H locs Y => ?_)
        have Y : z_W D A s (WX ad d dz n lf rt lp rp (va_up rw i i) fa ha me wt my) H locs := Y
        refine lv_iinc (v := nI (i + 1)) (lv' := [(3, .int (nI (i + 1))), (0, .ref (ad 0)), (2, .int (nI k))]) hx hb dX0_order_19 hl (k := 2) rfl (z_inc _) (by decide) rfl (fun ls hl => ?_)
        refine lv_goto (tgt := 4) hx hb dX0_order_22 (by decide) ?_
        exact ih4 (i + 1) (va_up rw i i) c9 (up_id h2) (by omega) H locs ls Y (lv_sub hl [1, 2, 0] rfl)
  exact L4 _ 0 rw (Nat.zero_le n) (fun j hj => absurd hj (Nat.not_lt_zero j)) (Nat.lt_succ_self _) H locs ls Y (lv_sub hl [2, 1, 0] rfl)
end
section
/-! ===== pure: measures, the search's own steps ===== -/
def mu (w : Nat) : Nat := if w = nb then 0 else 1
theorem mu_nb {w : Nat} (h : w = nb) : mu w = 0 := if_pos h
theorem mu_1 {w : Nat} (h : w ≠ nb) : mu w = 1 := if_neg h
theorem mu_le (w : Nat) : mu w ≤ 1 := by
  by_cases h : w = nb
  · rw [mu_nb h]; omega
  · rw [mu_1 h]; omega
theorem ask_mu {n F k w w' N : Nat} {A P g h : Nat → Nat} (hk : k < F) (I : AskI n A P F w' (va_up g k (g k + 1)) h) (hm : 2 * (F * n - sm g F) + mu w < N + 1) (hw : w ≠ nb) : 2 * (F * n - sm (va_up g k (g k + 1)) F) + mu w' < N := by
  have h1 := sm_up (g := g) hk
  have h2 := sm_bound F I.2.2.2.2
  have h3 := mu_le w'
  rw [mu_1 hw] at hm
  omega
theorem ask_mu0 {n F w w' N : Nat} {g : Nat → Nat} (hm : 2 * (F * n - sm g F) + mu w < N + 1) (hw : w ≠ nb) (hw' : w' = nb) : 2 * (F * n - sm g F) + mu w' < N := by
  rw [mu_1 hw] at hm
  rw [mu_nb hw']
  omega
theorem part_mu {n w N : Nat} {g : Nat → Nat} (hw : w < n) (hg : ∀ i, i < n → g i < n) (hm : n * n - sm g n < N + 1) : n * n - sm (va_up g w (g w + 1)) n < N := by
  have h1 := sm_up (g := g) hw
  have h2 := sm_bound (g := va_up g w (g w + 1)) (b := n) n (fun i hi => by
    by_cases e : i = w
    · rw [e, va_up_self]; exact hg w hw
    · rw [va_up_ne _ _ e]; exact Nat.le_of_lt (hg i hi))
  omega
theorem Bk_St {n v : Nat} {lf lp rp g h : Nat → Nat} (hL : PfL n lf lp) (hb : BkI n v lp n g h) (R : RN n lp rp v) : StM n lf rp g h :=
  ((RN_St (rt := lf) hL (fun c hc => (hb c hc).2)).mp R).congr hL (fun i hi => (hb i hi).1) (fun _ _ => rfl)
theorem PartQ.congr {n he r : Nat} {A P g0 g0' g h : Nat → Nat} (hhe : he < n) (hg : ∀ i, i < n → g0 i = g0' i) (Q : PartQ n A P g0 he r g h) : PartQ n A P g0' he r g h := by
  have hs : sm g0' n ≤ sm g0 n := sm_le n (fun i hi => by rw [hg i hi]; exact Nat.le_refl _)
  rcases Q with ⟨q0, q1, q2, q3⟩ | ⟨q0, q⟩
  · refine Or.inl ⟨q0, q1, by omega, fun g' h' S h1 h2 => q3 g' h' S (fun i hi => by rw [hg i hi]; exact h1 i hi) (by rw [hg he hhe]; exact h2)⟩
  · exact Or.inr ⟨q0, fun g' h' S h1 h2 => q g' h' S (fun i hi => by rw [hg i hi]; exact h1 i hi) (by rw [hg he hhe]; exact h2)⟩
def SrD (n : Nat) (lp rp me wt : Nat → Nat) (k he v0 : Nat) : Prop := me v0 = 1 ∧ (∀ j, j < k → ∀ t, t < n → SrC n lp rp me (wt j) t) ∧ ∀ t, t < he → SrC n lp rp me (wt k) t
theorem SrD.keep {n k he v0 : Nat} {lp rp me wt : Nat → Nat} (h : SrD n lp rp me wt k he v0) (hc : SrC n lp rp me (wt k) he) : SrD n lp rp me wt k (he + 1) v0 := by
  obtain ⟨h1, h2, h3⟩ := h
  refine ⟨h1, h2, fun t ht => ?_⟩
  by_cases e : t = he
  · rw [e]; exact hc
  · exact h3 t (by omega)
theorem SrD.grow {n k he v0 v1 my : Nat} {lp rp me wt : Nat → Nat} (h : SrD n lp rp me wt k he v0) (hk : k < my) : SrD n lp rp (va_up me v1 1) (va_up wt my v1) k he v0 := by
  obtain ⟨h1, h2, h3⟩ := h
  have hm : ∀ v, me v = 1 → va_up me v1 1 v = 1 := by
    intro v hv
    by_cases e : v = v1
    · rw [e, va_up_self]
    · rw [va_up_ne _ _ e]; exact hv
  refine ⟨hm v0 h1, fun j hj t ht => ?_, fun t ht => ?_⟩
  · rw [va_up_ne _ _ (show j ≠ my by omega)]
    exact (h2 j hj t ht).mono (fun v _ hv => hm v hv)
  · rw [va_up_ne _ _ (show k ≠ my by omega)]
    exact (h3 t ht).mono (fun v _ hv => hm v hv)
theorem SrD.next {n k v0 : Nat} {lp rp me wt : Nat → Nat} (h : SrD n lp rp me wt k n v0) : SrD n lp rp me wt (k + 1) 0 v0 := by
  obtain ⟨h1, h2, h3⟩ := h
  refine ⟨h1, fun j hj t ht => ?_, fun t ht => absurd ht (Nat.not_lt_zero t)⟩
  by_cases e : j = k
  · rw [e]; exact h3 t ht
  · exact h2 j (by omega) t ht
/-- what 'meet' does with the number v -/
def MtQ (me wt : Nat → Nat) (my v : Nat) (me' wt' : Nat → Nat) (my' : Nat) : Prop := (me v ≠ 0 ∧ me' = me ∧ wt' = wt ∧ my' = my) ∨ (me v = 0 ∧ me' = va_up me v 1 ∧ wt' = va_up wt my v ∧ my' = my + 1)
theorem MtQ.first {n v my' : Nat} {lp rp me wt me' wt' : Nat → Nat} (I : SrI n lp rp me wt 0) (hz : ∀ v, v < fc n → me v = 0) (hv : v < fc n) (hr : RN n lp rp v) (Q : MtQ me wt 0 v me' wt' my') : SrI n lp rp me' wt' my' ∧ SrD n lp rp me' wt' 0 0 v := by
  have h0 := hz v hv
  rcases Q with ⟨q, _⟩ | ⟨q, rfl, rfl, rfl⟩
  · exact absurd h0 q
  · exact ⟨(I.add hv hr h0).2, va_up_self _ _ _, fun j hj => absurd hj (Nat.not_lt_zero j), fun t ht => absurd ht (Nat.not_lt_zero t)⟩
theorem SrI.le {n my : Nat} {lp rp me wt : Nat → Nat} (I : SrI n lp rp me wt my) : my ≤ fc n := by
  rw [I.2.2.2]
  exact cT_le _ _
/-- parting gave a pairing, which was then met -/
theorem MtQ.step {n v1 my my' k he r v0 : Nat} {lf lp rp me wt me' wt' g h : Nat → Nat} (hL : PfL n lf lp) (I : SrI n lp rp me wt my) (J : SrD n lp rp me wt k he v0) (hk : k < my) (Q : PartQ n lf rp (gk n lp (wt k)) he r g h) (hv : v1 < fc n) (hg : ∀ i, i < n → gk n lp v1 i = g i) (hr : RN n lp rp v1) (M : MtQ me wt my v1 me' wt' my') : SrI n lp rp me' wt' my' ∧ SrD n lp rp me' wt' k (he + 1) v0 ∧ k < my' := by
  rcases M with ⟨m0, rfl, rfl, rfl⟩ | ⟨m0, rfl, rfl, rfl⟩
  · have h1 : me' v1 = 1 := by
      rcases I.1 v1 hv with q | q
      · exact absurd q m0
      · exact q
    exact ⟨I, J.keep (SrC.of hL Q (fun _ => ⟨hv, h1, hg⟩)), hk⟩
  · refine ⟨(I.add hv hr m0).2, (J.grow hk).keep ?_, by omega⟩
    rw [va_up_ne _ _ (show k ≠ my by omega)]
    exact SrC.of hL Q (fun _ => ⟨hv, va_up_self _ _ _, hg⟩)
theorem MtQ.none {n k he v0 : Nat} {lf lp rp me wt g h : Nat → Nat} (hL : PfL n lf lp) (J : SrD n lp rp me wt k he v0) (Q : PartQ n lf rp (gk n lp (wt k)) he 0 g h) : SrD n lp rp me wt k (he + 1) v0 := J.keep (SrC.of (v1 := 0) hL Q (fun q => absurd q (by decide)))
end
section
set_option maxHeartbeats 4000000 in
set_option maxRecDepth 100000 in
/-- fill -/
theorem c_fill (l : Launch) (D : va_G) (d dz : ClassId) (a : Nat) (f : Nat → Nat) (v : Nat) : CV l yJ0_fill cJ0_fill 4 0 0 0 0 D d dz [.ref a, .int (nI v)] ([(a, .inl (d, 6, .inl (nA f)))]) (S := Nat → Nat) (fun g => ∀ j, j < 6 → g j = v) (fun g => [(a, .inl (d, 6, .inl (nA g)))]) := by
  refine CV.start (own := RJ0) rfl (by decide) (Nat.le_of_ble_eq_true rfl) (fun p e R s m args below meth c A Q X hnm hret H locs ls Y hl => ?_)
  have hx := X.1.1
  have hb := X.1.2.1
  have hl : lv_has ls 4 [(0, .ref a), (1, .int (nI v))] := hl
  refine lv_iconst (v := nI 0) hx hb dJ0_fill_0 (by decide) ?_
  refine lv_istore_n (lv' := [(2, .int (nI 0)), (0, .ref a), (1, .int (nI v))]) hx hb dJ0_fill_1 rfl hl (by decide) rfl (fun ls hl => ?_)
  refine lv_aload_n hx hb dJ0_fill_2 rfl (lv_at hl 1 rfl) ?_
  refine z_alen X Y 0 rfl dJ0_fill_3 ?_
  refine lv_istore_n (lv' := [(3, .int (nI 6)), (2, .int (nI 0)), (0, .ref a), (1, .int (nI v))]) hx hb dJ0_fill_4 rfl hl (by decide) rfl (fun ls hl => ?_)
  have L5 : ∀ (N : Nat) (i : Nat) (g : Nat → Nat), i ≤ 6 → (∀ j, j < i → g j = v) → 6 - i < N → ∀ (H : Heap) (locs : List Loc) (ls : Array Slot), z_W D A s ([(a, .inl (d, 6, .inl (nA g)))]) H locs → lv_has ls 4 [(0, .ref a), (1, .int (nI v)), (2, .int (nI i)), (3, .int (nI 6))] → W p l e R s m args below meth c H locs 0 0 Q (F0 m 5 ls []) := by
    intro N
    induction N with
    | zero =>
      intro i g h1 h2 hm
      exact absurd hm (Nat.not_lt_zero _)
    | succ N ih5 =>
      intro i g h1 h2 hm H locs ls Y hl
      refine lv_iload_n hx hb dJ0_fill_5 rfl (lv_at hl 2 rfl) ?_
      refine lv_iload_n hx hb dJ0_fill_6 rfl (lv_at hl 3 rfl) ?_
      refine z_icge (tgt := 20) hx hb dJ0_fill_7 (by decide) (by omega) (by omega) (fun c7 => ?_) (fun c7 => ?_)
      · exact hret g H locs _ ls (fun j hj => h2 j (by omega)) Y dJ0_fill_20
      · refine lv_aload_n hx hb dJ0_fill_10 rfl (lv_at hl 0 rfl) ?_
        refine lv_iload_n hx hb dJ0_fill_11 rfl (lv_at hl 2 rfl) ?_
        refine lv_iload_n hx hb dJ0_fill_12 rfl (lv_at hl 1 rfl) ?_
        refine z_iast X Y 0 rfl (by omega) dJ0_fill_13 (fun H locs Y => ?_)
        have Y : z_W D A s ([(a, .inl (d, 6, .inl (nA (va_up g i v))))]) H locs := Y
        refine lv_iinc (v := nI (i + 1)) (lv' := [(2, .int (nI (i + 1))), (0, .ref a), (1, .int (nI v)), (3, .int (nI 6))]) hx hb dJ0_fill_14 hl (k := 2) rfl (z_inc _) (by decide) rfl (fun ls hl => ?_)
        refine lv_goto (tgt := 5) hx hb dJ0_fill_17 (by decide) ?_
        exact ih5 (i + 1) (va_up g i v) c7 (up_all h2) (by omega) H locs ls Y (lv_sub hl [1, 2, 0, 3] rfl)
  exact L5 _ 0 f (Nat.zero_le _) (fun j hj => absurd hj (Nat.not_lt_zero j)) (Nat.lt_succ_self _) H locs ls Y (lv_sub hl [2, 3, 1, 0] rfl)
set_option maxHeartbeats 4000000 in
set_option maxRecDepth 100000 in
/-- fill -/
theorem c_fillz (l : Launch) (D : va_G) (d dz : ClassId) (a : Nat) (f : Nat → Nat) : CV l yJ0_fill_2 cJ0_fill_2 4 0 0 0 0 D d dz [.ref a, .int (nI 0)] ([(a, .inl (dz, 720, .inl (nA f)))]) (S := Nat → Nat) (fun g => ∀ j, j < 720 → g j = 0) (fun g => [(a, .inl (dz, 720, .inl (nA g)))]) := by
  refine CV.start (own := RJ0) rfl (by decide) (Nat.le_of_ble_eq_true rfl) (fun p e R s m args below meth c A Q X hnm hret H locs ls Y hl => ?_)
  have hx := X.1.1
  have hb := X.1.2.1
  have hl : lv_has ls 4 [(0, .ref a), (1, .int (nI 0))] := hl
  refine lv_iconst (v := nI 0) hx hb dJ0_fill_2_0 (by decide) ?_
  refine lv_istore_n (lv' := [(2, .int (nI 0)), (0, .ref a), (1, .int (nI 0))]) hx hb dJ0_fill_2_1 rfl hl (by decide) rfl (fun ls hl => ?_)
  refine lv_aload_n hx hb dJ0_fill_2_2 rfl (lv_at hl 1 rfl) ?_
  refine z_zlen X Y 0 rfl dJ0_fill_2_3 ?_
  refine lv_istore_n (lv' := [(3, .int (nI 720)), (2, .int (nI 0)), (0, .ref a), (1, .int (nI 0))]) hx hb dJ0_fill_2_4 rfl hl (by decide) rfl (fun ls hl => ?_)
  have L5 : ∀ (N : Nat) (i : Nat) (g : Nat → Nat), i ≤ 720 → (∀ j, j < i → g j = 0) → 720 - i < N → ∀ (H : Heap) (locs : List Loc) (ls : Array Slot), z_W D A s ([(a, .inl (dz, 720, .inl (nA g)))]) H locs → lv_has ls 4 [(0, .ref a), (1, .int (nI 0)), (2, .int (nI i)), (3, .int (nI 720))] → W p l e R s m args below meth c H locs 0 0 Q (F0 m 5 ls []) := by
    intro N
    induction N with
    | zero =>
      intro i g h1 h2 hm
      exact absurd hm (Nat.not_lt_zero _)
    | succ N ih5 =>
      intro i g h1 h2 hm H locs ls Y hl
      refine lv_iload_n hx hb dJ0_fill_2_5 rfl (lv_at hl 2 rfl) ?_
      refine lv_iload_n hx hb dJ0_fill_2_6 rfl (lv_at hl 3 rfl) ?_
      refine z_icge (tgt := 20) hx hb dJ0_fill_2_7 (by decide) (by omega) (by omega) (fun c7 => ?_) (fun c7 => ?_)
      · exact hret g H locs _ ls (fun j hj => h2 j (by omega)) Y dJ0_fill_2_20
      · refine lv_aload_n hx hb dJ0_fill_2_10 rfl (lv_at hl 0 rfl) ?_
        refine lv_iload_n hx hb dJ0_fill_2_11 rfl (lv_at hl 2 rfl) ?_
        refine lv_iload_n hx hb dJ0_fill_2_12 rfl (lv_at hl 1 rfl) ?_
        refine z_zast X Y 0 rfl (by omega) rfl dJ0_fill_2_13 (fun H locs Y => ?_)
        have Y : z_W D A s ([(a, .inl (dz, 720, .inl (nA (va_up g i 0))))]) H locs := Y
        refine lv_iinc (v := nI (i + 1)) (lv' := [(2, .int (nI (i + 1))), (0, .ref a), (1, .int (nI 0)), (3, .int (nI 720))]) hx hb dJ0_fill_2_14 hl (k := 2) rfl (z_inc _) (by decide) rfl (fun ls hl => ?_)
        refine lv_goto (tgt := 5) hx hb dJ0_fill_2_17 (by decide) ?_
        exact ih5 (i + 1) (va_up g i 0) c7 (up_all h2) (by omega) H locs ls Y (lv_sub hl [1, 2, 0, 3] rfl)
  exact L5 _ 0 f (Nat.zero_le _) (fun j hj => absurd hj (Nat.not_lt_zero j)) (Nat.lt_succ_self _) H locs ls Y (lv_sub hl [2, 3, 1, 0] rfl)
set_option maxHeartbeats 4000000 in
set_option maxRecDepth 100000 in
/-- take: the list of who is the order number k -/
theorem c_takel (l : Launch) (D : va_G) (d dz : ClassId) (ad : Nat → Nat) (n : Nat) (lf rt lp rp rw fa ha me wt : Nat → Nat) (my : Nat) (who k : Nat) (hn : n ≤ 6) (hw : who < n) (hk : k < 2 ^ 31) : CV l yX0_take cX0_take 6 1 26 0 0 D d dz [.ref (ad 0), .ref (ad 1), .ref (ad 3), .int (nI who), .int (nI k)] (WX ad d dz n lf rt lp rp rw fa ha me wt my) (S := (Nat → Nat) × (Nat → Nat) × (Nat → Nat)) (fun u => TkI n k who lf lp n u.2.1 u.2.2) (fun u => WX ad d dz n (u.2.1) rt (u.2.2) rp (u.1) fa ha me wt my) := by
  refine CV.start (own := RX0) rfl (by decide) (Nat.le_of_ble_eq_true rfl) (fun p e R s m args below meth c A Q X hnm hret H locs ls Y hl => ?_)
  have hx := X.1.1
  have hb := X.1.2.1
  have hl : lv_has ls 6 [(0, .ref (ad 0)), (1, .ref (ad 1)), (2, .ref (ad 3)), (3, .int (nI who)), (4, .int (nI k))] := hl
  refine lv_aload_n hx hb dX0_take_0 rfl (lv_at hl 0 rfl) ?_
  refine lv_iload hx hb dX0_take_1 (lv_at hl 4 rfl) ?_
  refine z_cv (n := 1) (q0 := 0) (ci := 0) (rest := []) X Y (c_order l D d dz ad n lf rt lp rp rw fa ha me wt my k hn hk) (lw_V q34 q36 qs2 q15 q37) (by decide +kernel) ⟨by decide, by decide⟩ rfl rfl rfl rfl hl.1 rfl (Nat.le_of_ble_eq_true rfl) dX0_take_3 ⟨Nat.zero_le _, Nat.zero_le _⟩ (fun r1 H locs hp Y => ?_)
  have Y : z_W D A s (WX ad d dz n lf rt lp rp r1 fa ha me wt my) H locs := Y
  refine lv_iconst (v := nI 0) hx hb dX0_take_6 (by decide) ?_
  refine lv_istore (lv' := [(5, .int (nI 0)), (0, .ref (ad 0)), (1, .ref (ad 1)), (2, .ref (ad 3)), (3, .int (nI who)), (4, .int (nI k))]) hx hb dX0_take_7 hl (by decide) rfl (fun ls hl => ?_)
  have L9 : ∀ (N : Nat) (i : Nat) (f1 : Nat → Nat) (q1 : Nat → Nat), i ≤ n → TkI n k who lf lp i f1 q1 → n - i < N → ∀ (H : Heap) (locs : List Loc) (ls : Array Slot), z_W D A s (WX ad d dz n f1 rt q1 rp r1 fa ha me wt my) H locs → lv_has ls 6 [(0, .ref (ad 0)), (1, .ref (ad 1)), (2, .ref (ad 3)), (3, .int (nI who)), (5, .int (nI i))] → W p l e R s m args below meth c H locs 0 0 Q (F0 m 9 ls []) := by
    intro N
    induction N with
    | zero =>
      intro i f1 q1 h1 h2 hm
      exact absurd hm (Nat.not_lt_zero _)
    | succ N ih9 =>
      intro i f1 q1 h1 h2 hm H locs ls Y hl
      refine lv_iload hx hb dX0_take_9 (lv_at hl 4 rfl) ?_
      refine lv_aload_n hx hb dX0_take_11 rfl (lv_at hl 0 rfl) ?_
      refine g0_n X Y 0 rfl rfl dX0_take_12 ?_
      refine z_icge (tgt := 56) hx hb dX0_take_15 (by decide) (by omega) (by omega) (fun c15 => ?_) (fun c15 => ?_)
      · have e : i = n := by omega
        rw [e] at h2
        exact hret (r1, f1, q1) H locs _ ls h2 Y dX0_take_56
      · have hr := hp i c15
        have ho := oP_lt (k := k) c15
        refine lv_aload_n hx hb dX0_take_18 rfl (lv_at hl 1 rfl) ?_
        refine lv_bipush (v := nI 6) hx hb dX0_take_19 (by decide) ?_
        refine lv_iload_n hx hb dX0_take_21 rfl (lv_at hl 3 rfl) ?_
        refine z_imul hx hb dX0_take_22 ?_
        refine lv_iload hx hb dX0_take_23 (lv_at hl 4 rfl) ?_
        refine z_iadd hx hb dX0_take_25 ?_
        refine lv_aload_n hx hb dX0_take_26 rfl (lv_at hl 0 rfl) ?_
        refine g0_row X Y 0 rfl rfl dX0_take_27 ?_
        refine lv_iload hx hb dX0_take_30 (lv_at hl 4 rfl) ?_
        refine z_iald X Y 5 rfl (by omega) dX0_take_32 ?_
        refine z_iast X Y 1 rfl (by omega) dX0_take_33 (fun H locs Y => ?_)
        have Y : z_W D A s (WX ad d dz n (va_up f1 ((6 * who) + i) (r1 i)) rt q1 rp r1 fa ha me wt my) H locs := Y
        refine lv_aload_n hx hb dX0_take_34 rfl (lv_at hl 2 rfl) ?_
        refine lv_bipush (v := nI 6) hx hb dX0_take_35 (by decide) ?_
        refine lv_iload_n hx hb dX0_take_37 rfl (lv_at hl 3 rfl) ?_
        refine z_imul hx hb dX0_take_38 ?_
        refine lv_aload_n hx hb dX0_take_39 rfl (lv_at hl 0 rfl) ?_
        refine g0_row X Y 0 rfl rfl dX0_take_40 ?_
        refine lv_iload hx hb dX0_take_43 (lv_at hl 4 rfl) ?_
        refine z_iald X Y 5 rfl (by omega) dX0_take_45 ?_
        refine z_iadd hx hb dX0_take_46 ?_
        refine lv_iload hx hb dX0_take_47 (lv_at hl 4 rfl) ?_
        refine z_iast X Y 3 rfl (by omega) dX0_take_49 (fun H locs Y => ?_)
        have Y : z_W D A s (WX ad d dz n (va_up f1 ((6 * who) + i) (r1 i)) rt (va_up q1 ((6 * who) + (r1 i)) i) rp r1 fa ha me wt my) H locs := Y
        refine lv_iinc (v := nI (i + 1)) (lv' := [(5, .int (nI (i + 1))), (0, .ref (ad 0)), (1, .ref (ad 1)), (2, .ref (ad 3)), (3, .int (nI who))]) hx hb dX0_take_50 hl (k := 4) rfl (z_inc _) (by decide) rfl (fun ls hl => ?_)
        refine lv_goto (tgt := 9) hx hb dX0_take_53 (by decide) ?_
        exact ih9 (i + 1) (va_up f1 ((6 * who) + i) (r1 i)) (va_up q1 ((6 * who) + (r1 i)) i) c15 (h2.step hn c15 hr) (by omega) H locs ls Y (lv_sub hl [1, 2, 3, 4, 0] rfl)
  exact L9 _ 0 lf lp (Nat.zero_le n) (TkI.start) (Nat.lt_succ_self _) H locs ls Y (lv_sub hl [1, 2, 3, 4, 0] rfl)
set_option maxHeartbeats 4000000 in
set_option maxRecDepth 100000 in
/-- take: the list of who is the order number k -/
theorem c_taker (l : Launch) (D : va_G) (d dz : ClassId) (ad : Nat → Nat) (n : Nat) (lf rt lp rp rw fa ha me wt : Nat → Nat) (my : Nat) (who k : Nat) (hn : n ≤ 6) (hw : who < n) (hk : k < 2 ^ 31) : CV l yX0_take cX0_take 6 1 26 0 0 D d dz [.ref (ad 0), .ref (ad 2), .ref (ad 4), .int (nI who), .int (nI k)] (WX ad d dz n lf rt lp rp rw fa ha me wt my) (S := (Nat → Nat) × (Nat → Nat) × (Nat → Nat)) (fun u => TkI n k who rt rp n u.2.1 u.2.2) (fun u => WX ad d dz n lf (u.2.1) lp (u.2.2) (u.1) fa ha me wt my) := by
  refine CV.start (own := RX0) rfl (by decide) (Nat.le_of_ble_eq_true rfl) (fun p e R s m args below meth c A Q X hnm hret H locs ls Y hl => ?_)
  have hx := X.1.1
  have hb := X.1.2.1
  have hl : lv_has ls 6 [(0, .ref (ad 0)), (1, .ref (ad 2)), (2, .ref (ad 4)), (3, .int (nI who)), (4, .int (nI k))] := hl
  refine lv_aload_n hx hb dX0_take_0 rfl (lv_at hl 0 rfl) ?_
  refine lv_iload hx hb dX0_take_1 (lv_at hl 4 rfl) ?_
  refine z_cv (n := 1) (q0 := 0) (ci := 0) (rest := []) X Y (c_order l D d dz ad n lf rt lp rp rw fa ha me wt my k hn hk) (lw_V q34 q36 qs2 q15 q37) (by decide +kernel) ⟨by decide, by decide⟩ rfl rfl rfl rfl hl.1 rfl (Nat.le_of_ble_eq_true rfl) dX0_take_3 ⟨Nat.zero_le _, Nat.zero_le _⟩ (fun r1 H locs hp Y => ?_)
  have Y : z_W D A s (WX ad d dz n lf rt lp rp r1 fa ha me wt my) H locs := Y
  refine lv_iconst (v := nI 0) hx hb dX0_take_6 (by decide) ?_
  refine lv_istore (lv' := [(5, .int (nI 0)), (0, .ref (ad 0)), (1, .ref (ad 2)), (2, .ref (ad 4)), (3, .int (nI who)), (4, .int (nI k))]) hx hb dX0_take_7 hl (by decide) rfl (fun ls hl => ?_)
  have L9 : ∀ (N : Nat) (i : Nat) (f1 : Nat → Nat) (q1 : Nat → Nat), i ≤ n → TkI n k who rt rp i f1 q1 → n - i < N → ∀ (H : Heap) (locs : List Loc) (ls : Array Slot), z_W D A s (WX ad d dz n lf f1 lp q1 r1 fa ha me wt my) H locs → lv_has ls 6 [(0, .ref (ad 0)), (1, .ref (ad 2)), (2, .ref (ad 4)), (3, .int (nI who)), (5, .int (nI i))] → W p l e R s m args below meth c H locs 0 0 Q (F0 m 9 ls []) := by
    intro N
    induction N with
    | zero =>
      intro i f1 q1 h1 h2 hm
      exact absurd hm (Nat.not_lt_zero _)
    | succ N ih9 =>
      intro i f1 q1 h1 h2 hm H locs ls Y hl
      refine lv_iload hx hb dX0_take_9 (lv_at hl 4 rfl) ?_
      refine lv_aload_n hx hb dX0_take_11 rfl (lv_at hl 0 rfl) ?_
      refine g0_n X Y 0 rfl rfl dX0_take_12 ?_
      refine z_icge (tgt := 56) hx hb dX0_take_15 (by decide) (by omega) (by omega) (fun c15 => ?_) (fun c15 => ?_)
      · have e : i = n := by omega
        rw [e] at h2
        exact hret (r1, f1, q1) H locs _ ls h2 Y dX0_take_56
      · have hr := hp i c15
        have ho := oP_lt (k := k) c15
        refine lv_aload_n hx hb dX0_take_18 rfl (lv_at hl 1 rfl) ?_
        refine lv_bipush (v := nI 6) hx hb dX0_take_19 (by decide) ?_
        refine lv_iload_n hx hb dX0_take_21 rfl (lv_at hl 3 rfl) ?_
        refine z_imul hx hb dX0_take_22 ?_
        refine lv_iload hx hb dX0_take_23 (lv_at hl 4 rfl) ?_
        refine z_iadd hx hb dX0_take_25 ?_
        refine lv_aload_n hx hb dX0_take_26 rfl (lv_at hl 0 rfl) ?_
        refine g0_row X Y 0 rfl rfl dX0_take_27 ?_
        refine lv_iload hx hb dX0_take_30 (lv_at hl 4 rfl) ?_
        refine z_iald X Y 5 rfl (by omega) dX0_take_32 ?_
        refine z_iast X Y 2 rfl (by omega) dX0_take_33 (fun H locs Y => ?_)
        have Y : z_W D A s (WX ad d dz n lf (va_up f1 ((6 * who) + i) (r1 i)) lp q1 r1 fa ha me wt my) H locs := Y
        refine lv_aload_n hx hb dX0_take_34 rfl (lv_at hl 2 rfl) ?_
        refine lv_bipush (v := nI 6) hx hb dX0_take_35 (by decide) ?_
        refine lv_iload_n hx hb dX0_take_37 rfl (lv_at hl 3 rfl) ?_
        refine z_imul hx hb dX0_take_38 ?_
        refine lv_aload_n hx hb dX0_take_39 rfl (lv_at hl 0 rfl) ?_
        refine g0_row X Y 0 rfl rfl dX0_take_40 ?_
        refine lv_iload hx hb dX0_take_43 (lv_at hl 4 rfl) ?_
        refine z_iald X Y 5 rfl (by omega) dX0_take_45 ?_
        refine z_iadd hx hb dX0_take_46 ?_
        refine lv_iload hx hb dX0_take_47 (lv_at hl 4 rfl) ?_
        refine z_iast X Y 4 rfl (by omega) dX0_take_49 (fun H locs Y => ?_)
        have Y : z_W D A s (WX ad d dz n lf (va_up f1 ((6 * who) + i) (r1 i)) lp (va_up q1 ((6 * who) + (r1 i)) i) r1 fa ha me wt my) H locs := Y
        refine lv_iinc (v := nI (i + 1)) (lv' := [(5, .int (nI (i + 1))), (0, .ref (ad 0)), (1, .ref (ad 2)), (2, .ref (ad 4)), (3, .int (nI who))]) hx hb dX0_take_50 hl (k := 4) rfl (z_inc _) (by decide) rfl (fun ls hl => ?_)
        refine lv_goto (tgt := 9) hx hb dX0_take_53 (by decide) ?_
        exact ih9 (i + 1) (va_up f1 ((6 * who) + i) (r1 i)) (va_up q1 ((6 * who) + (r1 i)) i) c15 (h2.step hn c15 hr) (by omega) H locs ls Y (lv_sub hl [1, 2, 3, 4, 0] rfl)
  exact L9 _ 0 rt rp (Nat.zero_le n) (TkI.start) (Nat.lt_succ_self _) H locs ls Y (lv_sub hl [1, 2, 3, 4, 0] rfl)
set_option maxHeartbeats 4000000 in
set_option maxRecDepth 100000 in
/-- fresh: every list is 0 .. n-1 -/
theorem c_fresh (l : Launch) (D : va_G) (d dz : ClassId) (ad : Nat → Nat) (n : Nat) (lf rt lp rp rw fa ha me wt : Nat → Nat) (my : Nat) (hn : n ≤ 6) : CV l yX0_fresh cX0_fresh 2 2 51 0 0 D d dz [.ref (ad 0)] (WX ad d dz n lf rt lp rp rw fa ha me wt my) (S := (Nat → Nat) × (Nat → Nat) × (Nat → Nat) × (Nat → Nat) × (Nat → Nat)) (fun u => FrI n n u.2.1 u.2.2.1 ∧ FrI n n u.2.2.2.1 u.2.2.2.2) (fun u => WX ad d dz n (u.2.1) (u.2.2.2.1) (u.2.2.1) (u.2.2.2.2) (u.1) fa ha me wt my) := by
  refine CV.start (own := RX0) rfl (by decide) (Nat.le_of_ble_eq_true rfl) (fun p e R s m args below meth c A Q X hnm hret H locs ls Y hl => ?_)
  have hx := X.1.1
  have hb := X.1.2.1
  have hl : lv_has ls 2 [(0, .ref (ad 0))] := hl
  refine lv_iconst (v := nI 0) hx hb dX0_fresh_0 (by decide) ?_
  refine lv_istore_n (lv' := [(1, .int (nI 0)), (0, .ref (ad 0))]) hx hb dX0_fresh_1 rfl hl (by decide) rfl (fun ls hl => ?_)
  have L2 : ∀ (N : Nat) (i : Nat) (r : Nat → Nat) (f1 : Nat → Nat) (q1 : Nat → Nat) (f2 : Nat → Nat) (q2 : Nat → Nat), i ≤ n → FrI n i f1 q1 → FrI n i f2 q2 → n - i < N → ∀ (H : Heap) (locs : List Loc) (ls : Array Slot), z_W D A s (WX ad d dz n f1 f2 q1 q2 r fa ha me wt my) H locs → lv_has ls 2 [(0, .ref (ad 0)), (1, .int (nI i))] → W p l e R s m args below meth c H locs 0 0 Q (F0 m 2 ls []) := by
    intro N
    induction N with
    | zero =>
      intro i r f1 q1 f2 q2 h1 h2 h3 hm
      exact absurd hm (Nat.not_lt_zero _)
    | succ N ih2 =>
      intro i r f1 q1 f2 q2 h1 h2 h3 hm H locs ls Y hl
      refine lv_iload_n hx hb dX0_fresh_2 rfl (lv_at hl 1 rfl) ?_
      refine lv_aload_n hx hb dX0_fresh_3 rfl (lv_at hl 0 rfl) ?_
      refine g0_n X Y 0 rfl rfl dX0_fresh_4 ?_
      refine z_icge (tgt := 44) hx hb dX0_fresh_7 (by decide) (by omega) (by omega) (fun c7 => ?_) (fun c7 => ?_)
      · have e : i = n := by omega
        rw [e] at h2 h3
        exact hret (r, f1, q1, f2, q2) H locs _ ls (⟨h2, h3⟩) Y dX0_fresh_44
      · refine lv_aload_n hx hb dX0_fresh_10 rfl (lv_at hl 0 rfl) ?_
        refine lv_aload_n hx hb dX0_fresh_11 rfl (lv_at hl 0 rfl) ?_
        refine g0_left X Y 0 rfl rfl dX0_fresh_12 ?_
        refine lv_aload_n hx hb dX0_fresh_15 rfl (lv_at hl 0 rfl) ?_
        refine g0_leftPlace X Y 0 rfl rfl dX0_fresh_16 ?_
        refine lv_iload_n hx hb dX0_fresh_19 rfl (lv_at hl 1 rfl) ?_
        refine lv_iconst (v := nI 0) hx hb dX0_fresh_20 (by decide) ?_
        refine z_cv (n := 4) (q0 := 0) (ci := 0) (rest := []) X Y (c_takel l D d dz ad n f1 f2 q1 q2 r fa ha me wt my i 0 hn c7 (by decide)) (lw_V q30 q32 qs1 q15 q33) (by decide +kernel) ⟨by decide, by decide⟩ rfl rfl rfl rfl hl.1 rfl (Nat.le_of_ble_eq_true rfl) dX0_fresh_21 ⟨Nat.zero_le _, Nat.zero_le _⟩ (fun u1 H locs hp1 Y => ?_)
        have Y : z_W D A s (WX ad d dz n (u1.2.1) f2 (u1.2.2) q2 (u1.1) fa ha me wt my) H locs := Y
        refine lv_aload_n hx hb dX0_fresh_24 rfl (lv_at hl 0 rfl) ?_
        refine lv_aload_n hx hb dX0_fresh_25 rfl (lv_at hl 0 rfl) ?_
        refine g0_right X Y 0 rfl rfl dX0_fresh_26 ?_
        refine lv_aload_n hx hb dX0_fresh_29 rfl (lv_at hl 0 rfl) ?_
        refine g0_rightPlace X Y 0 rfl rfl dX0_fresh_30 ?_
        refine lv_iload_n hx hb dX0_fresh_33 rfl (lv_at hl 1 rfl) ?_
        refine lv_iconst (v := nI 0) hx hb dX0_fresh_34 (by decide) ?_
        refine z_cv (n := 4) (q0 := 0) (ci := 0) (rest := []) X Y (c_taker l D d dz ad n (u1.2.1) f2 (u1.2.2) q2 (u1.1) fa ha me wt my i 0 hn c7 (by decide)) (lw_V q30 q32 qs1 q15 q33) (by decide +kernel) ⟨by decide, by decide⟩ rfl rfl rfl rfl hl.1 rfl (Nat.le_of_ble_eq_true rfl) dX0_fresh_35 ⟨Nat.zero_le _, Nat.zero_le _⟩ (fun u2 H locs hp2 Y => ?_)
        have Y : z_W D A s (WX ad d dz n (u1.2.1) (u2.2.1) (u1.2.2) (u2.2.2) (u2.1) fa ha me wt my) H locs := Y
        refine lv_iinc (v := nI (i + 1)) (lv' := [(1, .int (nI (i + 1))), (0, .ref (ad 0))]) hx hb dX0_fresh_38 hl (k := 1) rfl (z_inc _) (by decide) rfl (fun ls hl => ?_)
        refine lv_goto (tgt := 2) hx hb dX0_fresh_41 (by decide) ?_
        exact ih2 (i + 1) (u2.1) (u1.2.1) (u1.2.2) (u2.2.1) (u2.2.2) c7 (h2.step hn hp1) (h3.step hn hp2) (by omega) H locs ls Y (lv_sub hl [1, 0] rfl)
  exact L2 _ 0 rw lf lp rt rp (Nat.zero_le n) (fun a ha => absurd ha (Nat.not_lt_zero a)) (fun a ha => absurd ha (Nat.not_lt_zero a)) (Nat.lt_succ_self _) H locs ls Y (lv_sub hl [1, 0] rfl)
set_option maxHeartbeats 4000000 in
set_option maxRecDepth 100000 in
/-- size(x) -/
theorem c_size (l : Launch) (D : va_G) (d dz : ClassId) (ad : Nat → Nat) (n : Nat) (lf rt lp rp rw fa ha me wt : Nat → Nat) (my : Nat) (x : Int32) : CV l yX0_size cX0_size 2 3 72 0 0 D d dz [.ref (ad 0), .int x] (WX ad d dz n lf rt lp rp rw fa ha me wt my) (S := (Nat → Nat) × (Nat → Nat) × (Nat → Nat) × (Nat → Nat) × (Nat → Nat)) (fun u => FrI (1 + mx x % 6) (1 + mx x % 6) u.2.1 u.2.2.1 ∧ FrI (1 + mx x % 6) (1 + mx x % 6) u.2.2.2.1 u.2.2.2.2) (fun u => WX ad d dz (1 + mx x % 6) (u.2.1) (u.2.2.2.1) (u.2.2.1) (u.2.2.2.2) (u.1) fa ha me wt my) := by
  refine CV.start (own := RX0) rfl (by decide) (Nat.le_of_ble_eq_true rfl) (fun p e R s m args below meth c A Q X hnm hret H locs ls Y hl => ?_)
  have hx := X.1.1
  have hb := X.1.2.1
  have hl : lv_has ls 2 [(0, .ref (ad 0)), (1, .int x)] := hl
  refine lv_aload_n hx hb dX0_size_0 rfl (lv_at hl 0 rfl) ?_
  refine lv_iconst (v := nI 1) hx hb dX0_size_1 (by decide) ?_
  refine lv_iload_n hx hb dX0_size_2 rfl (lv_at hl 1 rfl) ?_
  refine lv_ldc (v := 2147483647) hx hb X.1.2.2.2.1 (X.1.2.2.2.2 _ q78) dX0_size_3 ?_
  refine z_iand hx hb dX0_size_5 ?_
  refine lv_bipush (v := nI 6) hx hb dX0_size_6 (by decide) ?_
  refine z_irem hx hb dX0_size_8 (mx_lt x) (by omega) (by omega) ?_
  refine z_iadd hx hb dX0_size_9 ?_
  refine p0_n X Y 0 rfl (Nat.le_of_ble_eq_true rfl) dX0_size_10 (fun H locs Y => ?_)
  have Y : z_W D A s (WX ad d dz (1 + ((mx x) % 6)) lf rt lp rp rw fa ha me wt my) H locs := Y
  refine lv_aload_n hx hb dX0_size_13 rfl (lv_at hl 0 rfl) ?_
  refine z_cv (n := 0) (q0 := 0) (ci := 0) (rest := []) X Y (c_fresh l D d dz ad (1 + ((mx x) % 6)) lf rt lp rp rw fa ha me wt my (by omega)) (lw_V q26 q28 qs0 q15 q29) (by decide +kernel) ⟨by decide, by decide⟩ rfl rfl rfl rfl hl.1 rfl (Nat.le_of_ble_eq_true rfl) dX0_size_14 ⟨Nat.zero_le _, Nat.zero_le _⟩ (fun u H locs hp Y => ?_)
  have Y : z_W D A s (WX ad d dz (1 + ((mx x) % 6)) (u.2.1) (u.2.2.2.1) (u.2.2.1) (u.2.2.2.2) (u.1) fa ha me wt my) H locs := Y
  exact hret u H locs _ ls hp Y dX0_size_17
set_option maxHeartbeats 4000000 in
set_option maxRecDepth 100000 in
/-- left(x, y) -/
theorem c_left (l : Launch) (D : va_G) (d dz : ClassId) (ad : Nat → Nat) (n : Nat) (lf rt lp rp rw fa ha me wt : Nat → Nat) (my : Nat) (x y : Int32) (hn0 : 0 < n) (hn : n ≤ 6) : CV l yX0_left cX0_left 3 2 51 0 0 D d dz [.ref (ad 0), .int x, .int y] (WX ad d dz n lf rt lp rp rw fa ha me wt my) (S := (Nat → Nat) × (Nat → Nat) × (Nat → Nat)) (fun u => TkI n (mx y % fc n) (mx x % n) lf lp n u.2.1 u.2.2) (fun u => WX ad d dz n (u.2.1) rt (u.2.2) rp (u.1) fa ha me wt my) := by
  refine CV.start (own := RX0) rfl (by decide) (Nat.le_of_ble_eq_true rfl) (fun p e R s m args below meth c A Q X hnm hret H locs ls Y hl => ?_)
  have hx := X.1.1
  have hb := X.1.2.1
  have hl : lv_has ls 3 [(0, .ref (ad 0)), (1, .int x), (2, .int y)] := hl
  refine lv_aload_n hx hb dX0_left_0 rfl (lv_at hl 0 rfl) ?_
  refine lv_aload_n hx hb dX0_left_1 rfl (lv_at hl 0 rfl) ?_
  refine g0_left X Y 0 rfl rfl dX0_left_2 ?_
  refine lv_aload_n hx hb dX0_left_5 rfl (lv_at hl 0 rfl) ?_
  refine g0_leftPlace X Y 0 rfl rfl dX0_left_6 ?_
  refine lv_aload_n hx hb dX0_left_9 rfl (lv_at hl 0 rfl) ?_
  refine lv_iload_n hx hb dX0_left_10 rfl (lv_at hl 1 rfl) ?_
  refine z_ci (n := 1) (q0 := 0) (ci := 0) (rest := [.ref (ad 3), .ref (ad 1), .ref (ad 0)]) X Y (c_one l D d dz ad n lf rt lp rp rw fa ha me wt my x hn0 hn) (lw_V q83 q85 qs3 q15 q86) (by decide +kernel) ⟨by decide, by decide⟩ rfl rfl rfl rfl hl.1 rfl (Nat.le_of_ble_eq_true rfl) dX0_left_11 ⟨Nat.zero_le _, Nat.zero_le _⟩ (fun a1 _u H locs hp Y => ?_)
  subst a1
  have Y : z_W D A s (WX ad d dz n lf rt lp rp rw fa ha me wt my) H locs := Y
  refine lv_iload_n hx hb dX0_left_14 rfl (lv_at hl 2 rfl) ?_
  refine lv_ldc (v := 2147483647) hx hb X.1.2.2.2.1 (X.1.2.2.2.2 _ q78) dX0_left_15 ?_
  refine z_iand hx hb dX0_left_17 ?_
  refine lv_aload_n hx hb dX0_left_18 rfl (lv_at hl 0 rfl) ?_
  refine z_ci (n := 0) (q0 := 0) (ci := 0) (rest := [.int (nI (mx y)), .int (nI (mx x % n)), .ref (ad 3), .ref (ad 1), .ref (ad 0)]) X Y (c_orders l D d dz ad n lf rt lp rp rw fa ha me wt my hn0 hn) (lw_V q87 q89 qs4 q15 q90) (by decide +kernel) ⟨by decide, by decide⟩ rfl rfl rfl rfl hl.1 rfl (Nat.le_of_ble_eq_true rfl) dX0_left_19 ⟨Nat.zero_le _, Nat.zero_le _⟩ (fun a2 _u H locs hp Y => ?_)
  subst a2
  have Y : z_W D A s (WX ad d dz n lf rt lp rp rw fa ha me wt my) H locs := Y
  have hf := fc_le n (by omega)
  refine z_irem hx hb dX0_left_22 (mx_lt y) (fc_pos n) (by omega) ?_
  refine z_cv (n := 4) (q0 := 0) (ci := 0) (rest := []) X Y (c_takel l D d dz ad n lf rt lp rp rw fa ha me wt my (mx x % n) (mx y % fc n) hn (Nat.mod_lt _ hn0) (Nat.lt_of_le_of_lt (Nat.mod_le _ _) (mx_lt y))) (lw_V q30 q32 qs1 q15 q33) (by decide +kernel) ⟨by decide, by decide⟩ rfl rfl rfl rfl hl.1 rfl (Nat.le_of_ble_eq_true rfl) dX0_left_23 ⟨Nat.zero_le _, Nat.zero_le _⟩ (fun u H locs hq Y => ?_)
  have Y : z_W D A s (WX ad d dz n (u.2.1) rt (u.2.2) rp (u.1) fa ha me wt my) H locs := Y
  exact hret u H locs _ ls hq Y dX0_left_26
set_option maxHeartbeats 4000000 in
set_option maxRecDepth 100000 in
/-- right(x, y) -/
theorem c_right (l : Launch) (D : va_G) (d dz : ClassId) (ad : Nat → Nat) (n : Nat) (lf rt lp rp rw fa ha me wt : Nat → Nat) (my : Nat) (x y : Int32) (hn0 : 0 < n) (hn : n ≤ 6) : CV l yX0_right cX0_right 3 2 51 0 0 D d dz [.ref (ad 0), .int x, .int y] (WX ad d dz n lf rt lp rp rw fa ha me wt my) (S := (Nat → Nat) × (Nat → Nat) × (Nat → Nat)) (fun u => TkI n (mx y % fc n) (mx x % n) rt rp n u.2.1 u.2.2) (fun u => WX ad d dz n lf (u.2.1) lp (u.2.2) (u.1) fa ha me wt my) := by
  refine CV.start (own := RX0) rfl (by decide) (Nat.le_of_ble_eq_true rfl) (fun p e R s m args below meth c A Q X hnm hret H locs ls Y hl => ?_)
  have hx := X.1.1
  have hb := X.1.2.1
  have hl : lv_has ls 3 [(0, .ref (ad 0)), (1, .int x), (2, .int y)] := hl
  refine lv_aload_n hx hb dX0_right_0 rfl (lv_at hl 0 rfl) ?_
  refine lv_aload_n hx hb dX0_right_1 rfl (lv_at hl 0 rfl) ?_
  refine g0_right X Y 0 rfl rfl dX0_right_2 ?_
  refine lv_aload_n hx hb dX0_right_5 rfl (lv_at hl 0 rfl) ?_
  refine g0_rightPlace X Y 0 rfl rfl dX0_right_6 ?_
  refine lv_aload_n hx hb dX0_right_9 rfl (lv_at hl 0 rfl) ?_
  refine lv_iload_n hx hb dX0_right_10 rfl (lv_at hl 1 rfl) ?_
  refine z_ci (n := 1) (q0 := 0) (ci := 0) (rest := [.ref (ad 4), .ref (ad 2), .ref (ad 0)]) X Y (c_one l D d dz ad n lf rt lp rp rw fa ha me wt my x hn0 hn) (lw_V q83 q85 qs3 q15 q86) (by decide +kernel) ⟨by decide, by decide⟩ rfl rfl rfl rfl hl.1 rfl (Nat.le_of_ble_eq_true rfl) dX0_right_11 ⟨Nat.zero_le _, Nat.zero_le _⟩ (fun a1 _u H locs hp Y => ?_)
  subst a1
  have Y : z_W D A s (WX ad d dz n lf rt lp rp rw fa ha me wt my) H locs := Y
  refine lv_iload_n hx hb dX0_right_14 rfl (lv_at hl 2 rfl) ?_
  refine lv_ldc (v := 2147483647) hx hb X.1.2.2.2.1 (X.1.2.2.2.2 _ q78) dX0_right_15 ?_
  refine z_iand hx hb dX0_right_17 ?_
  refine lv_aload_n hx hb dX0_right_18 rfl (lv_at hl 0 rfl) ?_
  refine z_ci (n := 0) (q0 := 0) (ci := 0) (rest := [.int (nI (mx y)), .int (nI (mx x % n)), .ref (ad 4), .ref (ad 2), .ref (ad 0)]) X Y (c_orders l D d dz ad n lf rt lp rp rw fa ha me wt my hn0 hn) (lw_V q87 q89 qs4 q15 q90) (by decide +kernel) ⟨by decide, by decide⟩ rfl rfl rfl rfl hl.1 rfl (Nat.le_of_ble_eq_true rfl) dX0_right_19 ⟨Nat.zero_le _, Nat.zero_le _⟩ (fun a2 _u H locs hp Y => ?_)
  subst a2
  have Y : z_W D A s (WX ad d dz n lf rt lp rp rw fa ha me wt my) H locs := Y
  have hf := fc_le n (by omega)
  refine z_irem hx hb dX0_right_22 (mx_lt y) (fc_pos n) (by omega) ?_
  refine z_cv (n := 4) (q0 := 0) (ci := 0) (rest := []) X Y (c_taker l D d dz ad n lf rt lp rp rw fa ha me wt my (mx x % n) (mx y % fc n) hn (Nat.mod_lt _ hn0) (Nat.lt_of_le_of_lt (Nat.mod_le _ _) (mx_lt y))) (lw_V q30 q32 qs1 q15 q33) (by decide +kernel) ⟨by decide, by decide⟩ rfl rfl rfl rfl hl.1 rfl (Nat.le_of_ble_eq_true rfl) dX0_right_23 ⟨Nat.zero_le _, Nat.zero_le _⟩ (fun u H locs hq Y => ?_)
  have Y : z_W D A s (WX ad d dz n lf (u.2.1) lp (u.2.2) (u.1) fa ha me wt my) H locs := Y
  exact hret u H locs _ ls hq Y dX0_right_26
end
section
set_option maxHeartbeats 4000000 in
set_option maxRecDepth 100000 in
/-- ask: what rests is the best for those who ask -/
theorem c_askl (l : Launch) (D : va_G) (d dz : ClassId) (ad : Nat → Nat) (n : Nat) (lf rt lp rp rw fa ha me wt : Nat → Nat) (my : Nat) (hn0 : 0 < n) (hn : n ≤ 6) (hL : PfL n lf lp) (hR : PfL n rt rp) : CV l yX0_ask cX0_ask 7 1 23 0 0 D d dz [.ref (ad 0), .ref (ad 1), .ref (ad 4)] (WX ad d dz n lf rt lp rp rw fa ha me wt my) (S := (Nat → Nat) × (Nat → Nat)) (fun u => StM n lf rp u.1 u.2 ∧ ∀ g' h', StM n lf rp g' h' → ∀ i, i < n → u.1 i ≤ g' i) (fun u => WX ad d dz n lf rt lp rp rw (u.1) (u.2) me wt my) := by
  refine CV.start (own := RX0) rfl (by decide) (Nat.le_of_ble_eq_true rfl) (fun p e R s m args below meth c A Q X hnm hret H locs ls Y hl => ?_)
  have hx := X.1.1
  have hb := X.1.2.1
  have hl : lv_has ls 7 [(0, .ref (ad 0)), (1, .ref (ad 1)), (2, .ref (ad 4))] := hl
  refine lv_aload_n hx hb dX0_ask_0 rfl (lv_at hl 0 rfl) ?_
  refine g0_has X Y 0 rfl rfl dX0_ask_1 ?_
  refine lv_iconst (v := nI nb) hx hb dX0_ask_4 (by decide) ?_
  refine z_csS (n := 2) (wr := (WX ad d dz n lf rt lp rp rw fa ha me wt my).eraseIdx 7) (rest := []) X Y [7] [0, 1, 2, 3, 4, 5, 6, 8, 9] rfl rfl (by decide) (by decide) (by decide) (c_fill l D d dz (ad 7) ha nb) (lw_S q103 q104 q17 q105) (by decide +kernel) ⟨by decide, by decide⟩ rfl hl.1 rfl (Nat.le_of_ble_eq_true rfl) dX0_ask_5 ⟨Nat.zero_le _, Nat.zero_le _⟩ (fun h0 H locs hp Y => ?_)
  have Y : z_W D A s (WX ad d dz n lf rt lp rp rw fa h0 me wt my) H locs := Y.sub [0, 1, 2, 3, 4, 5, 6, 9, 7, 8] (by decide) rfl
  refine lv_iconst (v := nI 0) hx hb dX0_ask_8 (by decide) ?_
  refine lv_istore_n (lv' := [(3, .int (nI 0)), (0, .ref (ad 0)), (1, .ref (ad 1)), (2, .ref (ad 4))]) hx hb dX0_ask_9 rfl hl (by decide) rfl (fun ls hl => ?_)
  have L10 : ∀ (N : Nat) (F : Nat) (g : Nat → Nat) (h : Nat → Nat), F ≤ n → AskI n lf rp F nb g h → n - F < N → ∀ (H : Heap) (locs : List Loc) (ls : Array Slot), z_W D A s (WX ad d dz n lf rt lp rp rw g h me wt my) H locs → lv_has ls 7 [(0, .ref (ad 0)), (1, .ref (ad 1)), (2, .ref (ad 4)), (3, .int (nI F))] → W p l e R s m args below meth c H locs 0 0 Q (F0 m 10 ls []) := by
    intro N
    induction N with
    | zero =>
      intro F g h i1 i2 hm
      exact absurd hm (Nat.not_lt_zero _)
    | succ N ih10 =>
      intro F g h i1 i2 hm H locs ls Y hl
      refine lv_iload_n hx hb dX0_ask_10 rfl (lv_at hl 3 rfl) ?_
      refine lv_aload_n hx hb dX0_ask_11 rfl (lv_at hl 0 rfl) ?_
      refine g0_n X Y 0 rfl rfl dX0_ask_12 ?_
      refine z_icge (tgt := 126) hx hb dX0_ask_15 (by decide) (by omega) (by omega) (fun c15 => ?_) (fun c15 => ?_)
      · have e : F = n := by omega
        rw [e] at i2
        exact hret (g, h) H locs _ ls (i2.done (by omega)) Y dX0_ask_126
      · refine lv_iload_n hx hb dX0_ask_18 rfl (lv_at hl 3 rfl) ?_
        refine lv_istore (lv' := [(4, .int (nI F)), (0, .ref (ad 0)), (1, .ref (ad 1)), (2, .ref (ad 4)), (3, .int (nI F))]) hx hb dX0_ask_19 hl (by decide) rfl (fun ls hl => ?_)
        refine lv_aload_n hx hb dX0_ask_21 rfl (lv_at hl 1 rfl) ?_
        refine g0_far X Y 0 rfl rfl dX0_ask_22 ?_
        refine lv_iload hx hb dX0_ask_25 (lv_at hl 0 rfl) ?_
        refine lv_iconst (v := nI 0) hx hb dX0_ask_27 (by decide) ?_
        refine z_iast X Y 6 rfl (by omega) dX0_ask_28 (fun H locs Y => ?_)
        have Y : z_W D A s (WX ad d dz n lf rt lp rp rw (va_up g F 0) h me wt my) H locs := Y
        have L29 : ∀ (N : Nat) (w : Nat) (g1 : Nat → Nat) (h1 : Nat → Nat), AskI n lf rp (F + 1) w g1 h1 → w = nb ∨ w < F + 1 → 2 * ((F + 1) * n - sm g1 (F + 1)) + mu w < N → ∀ (H : Heap) (locs : List Loc) (ls : Array Slot), z_W D A s (WX ad d dz n lf rt lp rp rw g1 h1 me wt my) H locs → lv_has ls 7 [(0, .ref (ad 0)), (1, .ref (ad 1)), (2, .ref (ad 4)), (3, .int (nI F)), (4, .int (nI w))] → W p l e R s m args below meth c H locs 0 0 Q (F0 m 29 ls []) := by
          intro N
          induction N with
          | zero =>
            intro w g1 h1 j1 j2 hm
            exact absurd hm (Nat.not_lt_zero _)
          | succ N ih29 =>
            intro w g1 h1 j1 j2 hm H locs ls Y hl
            refine lv_iload hx hb dX0_ask_29 (lv_at hl 4 rfl) ?_
            refine z_iflt (tgt := 120) hx hb dX0_ask_31 (by decide) (j2.elim Or.inr (fun q => Or.inl (by omega))) (fun c31 => ?_) (fun c31 => ?_)
            · refine lv_iinc (v := nI (F + 1)) (lv' := [(3, .int (nI (F + 1))), (0, .ref (ad 0)), (1, .ref (ad 1)), (2, .ref (ad 4)), (4, .int (nI w))]) hx hb dX0_ask_120 hl (k := 3) rfl (z_inc _) (by decide) rfl (fun ls hl => ?_)
              refine lv_goto (tgt := 10) hx hb dX0_ask_123 (by decide) ?_
              rw [c31] at j1
              exact ih10 (F + 1) g1 h1 c15 j1 (by omega) H locs ls Y (lv_sub hl [1, 2, 3, 0] rfl)
            · have hw : w < F + 1 := j2.resolve_left c31.2
              have hg := j1.lt hL (by omega) hw
              have hT := (hL w (by omega) (g1 w) hg).1.1
              refine lv_aload_n hx hb dX0_ask_34 rfl (lv_at hl 1 rfl) ?_
              refine lv_bipush (v := nI 6) hx hb dX0_ask_35 (by decide) ?_
              refine lv_iload hx hb dX0_ask_37 (lv_at hl 4 rfl) ?_
              refine z_imul hx hb dX0_ask_39 ?_
              refine lv_aload_n hx hb dX0_ask_40 rfl (lv_at hl 0 rfl) ?_
              refine g0_far X Y 0 rfl rfl dX0_ask_41 ?_
              refine lv_iload hx hb dX0_ask_44 (lv_at hl 4 rfl) ?_
              refine z_iald X Y 6 rfl (by omega) dX0_ask_46 ?_
              refine z_iadd hx hb dX0_ask_47 ?_
              refine z_iald X Y 1 rfl (by omega) dX0_ask_48 ?_
              refine lv_istore (lv' := [(5, .int (nI (lf ((6 * w) + (g1 w))))), (0, .ref (ad 0)), (1, .ref (ad 1)), (2, .ref (ad 4)), (3, .int (nI F)), (4, .int (nI w))]) hx hb dX0_ask_49 hl (by decide) rfl (fun ls hl => ?_)
              refine lv_aload_n hx hb dX0_ask_51 rfl (lv_at hl 1 rfl) ?_
              refine g0_has X Y 0 rfl rfl dX0_ask_52 ?_
              refine lv_iload hx hb dX0_ask_55 (lv_at hl 0 rfl) ?_
              refine z_iald X Y 7 rfl (by omega) dX0_ask_57 ?_
              refine lv_istore (lv' := [(6, .int (nI (h1 (lf ((6 * w) + (g1 w)))))), (5, .int (nI (lf ((6 * w) + (g1 w))))), (0, .ref (ad 0)), (1, .ref (ad 1)), (2, .ref (ad 4)), (3, .int (nI F)), (4, .int (nI w))]) hx hb dX0_ask_58 hl (by decide) rfl (fun ls hl => ?_)
              have hr0 := j1.2.1 (lf (6 * w + g1 w)) hT
              refine lv_iload hx hb dX0_ask_60 (lv_at hl 0 rfl) ?_
              refine z_iflt (tgt := 88) hx hb dX0_ask_62 (by decide) (hr0.elim Or.inr (fun q => Or.inl (by omega))) (fun c62 => ?_) (fun c62 => ?_)
              · refine lv_aload_n hx hb dX0_ask_88 rfl (lv_at hl 2 rfl) ?_
                refine g0_has X Y 0 rfl rfl dX0_ask_89 ?_
                refine lv_iload hx hb dX0_ask_92 (lv_at hl 1 rfl) ?_
                refine lv_iload hx hb dX0_ask_94 (lv_at hl 6 rfl) ?_
                refine z_iast X Y 7 rfl (by omega) dX0_ask_96 (fun H locs Y => ?_)
                have Y : z_W D A s (WX ad d dz n lf rt lp rp rw g1 (va_up h1 (lf ((6 * w) + (g1 w))) w) me wt my) H locs := Y
                refine lv_iload hx hb dX0_ask_97 (lv_at hl 0 rfl) ?_
                refine lv_istore (lv' := [(4, .int (nI (h1 (lf ((6 * w) + (g1 w)))))), (6, .int (nI (h1 (lf ((6 * w) + (g1 w)))))), (5, .int (nI (lf ((6 * w) + (g1 w))))), (0, .ref (ad 0)), (1, .ref (ad 1)), (2, .ref (ad 4)), (3, .int (nI F))]) hx hb dX0_ask_99 hl (by decide) rfl (fun ls hl => ?_)
                refine lv_iload hx hb dX0_ask_101 (lv_at hl 0 rfl) ?_
                refine z_iflt (tgt := 117) hx hb dX0_ask_103 (by decide) (Or.inr c62) (fun c103 => ?_) (fun c103 => ?_)
                · refine lv_goto (tgt := 29) hx hb dX0_ask_117 (by decide) ?_
                  exact ih29 (h1 (lf ((6 * w) + (g1 w)))) g1 (va_up h1 (lf ((6 * w) + (g1 w))) w) (by rw [c62]; exact j1.free hL (by omega) (by omega) hw hg rfl c62) (Or.inl c62) (ask_mu0 hm c31.2 c62) H locs ls Y (lv_sub hl [3, 4, 5, 6, 0] rfl)
                · exact absurd c62 c103.2
              · have hrv := j1.rival hL (by omega) hw hg rfl rfl c62.2
                have hb1 := (hR (lf (6 * w + g1 w)) hT w (by omega)).2.1
                have hb2 := (hR (lf (6 * w + g1 w)) hT (h1 (lf (6 * w + g1 w))) (by omega)).2.1
                refine lv_aload_n hx hb dX0_ask_65 rfl (lv_at hl 4 rfl) ?_
                refine lv_bipush (v := nI 6) hx hb dX0_ask_66 (by decide) ?_
                refine lv_iload hx hb dX0_ask_68 (lv_at hl 1 rfl) ?_
                refine z_imul hx hb dX0_ask_70 ?_
                refine lv_iload hx hb dX0_ask_71 (lv_at hl 6 rfl) ?_
                refine z_iadd hx hb dX0_ask_73 ?_
                refine z_iald X Y 4 rfl (by omega) dX0_ask_74 ?_
                refine lv_aload_n hx hb dX0_ask_75 rfl (lv_at hl 4 rfl) ?_
                refine lv_bipush (v := nI 6) hx hb dX0_ask_76 (by decide) ?_
                refine lv_iload hx hb dX0_ask_78 (lv_at hl 1 rfl) ?_
                refine z_imul hx hb dX0_ask_80 ?_
                refine lv_iload hx hb dX0_ask_81 (lv_at hl 0 rfl) ?_
                refine z_iadd hx hb dX0_ask_83 ?_
                refine z_iald X Y 4 rfl (by omega) dX0_ask_84 ?_
                refine z_icge (tgt := 101) hx hb dX0_ask_85 (by decide) (by omega) (by omega) (fun c85 => ?_) (fun c85 => ?_)
                · refine lv_iload hx hb dX0_ask_101 (lv_at hl 6 rfl) ?_
                  refine z_iflt (tgt := 117) hx hb dX0_ask_103 (by decide) (Or.inl c31.1) (fun c103 => ?_) (fun c103 => ?_)
                  · exact absurd c103 c31.2
                  · refine lv_aload_n hx hb dX0_ask_106 rfl (lv_at hl 2 rfl) ?_
                    refine g0_far X Y 0 rfl rfl dX0_ask_107 ?_
                    refine lv_iload hx hb dX0_ask_110 (lv_at hl 6 rfl) ?_
                    refine lv_dup2_11 hx hb dX0_ask_112 rfl rfl ?_
                    refine z_iald X Y 6 rfl (by omega) dX0_ask_113 ?_
                    refine lv_iconst (v := nI 1) hx hb dX0_ask_114 (by decide) ?_
                    refine z_iadd hx hb dX0_ask_115 ?_
                    refine z_iast X Y 6 rfl (by omega) dX0_ask_116 (fun H locs Y => ?_)
                    have Y : z_W D A s (WX ad d dz n lf rt lp rp rw (va_up g1 w ((g1 w) + 1)) h1 me wt my) H locs := Y
                    refine lv_goto (tgt := 29) hx hb dX0_ask_117 (by decide) ?_
                    have j3 := j1.rej hL hR (by omega) (by omega) hw hg rfl rfl c62.2 c85
                    exact ih29 w (va_up g1 w ((g1 w) + 1)) h1 j3 (Or.inr hw) (ask_mu hw j3 hm c31.2) H locs ls Y (lv_sub hl [2, 3, 4, 5, 6] rfl)
                · refine lv_aload_n hx hb dX0_ask_88 rfl (lv_at hl 2 rfl) ?_
                  refine g0_has X Y 0 rfl rfl dX0_ask_89 ?_
                  refine lv_iload hx hb dX0_ask_92 (lv_at hl 1 rfl) ?_
                  refine lv_iload hx hb dX0_ask_94 (lv_at hl 6 rfl) ?_
                  refine z_iast X Y 7 rfl (by omega) dX0_ask_96 (fun H locs Y => ?_)
                  have Y : z_W D A s (WX ad d dz n lf rt lp rp rw g1 (va_up h1 (lf ((6 * w) + (g1 w))) w) me wt my) H locs := Y
                  refine lv_iload hx hb dX0_ask_97 (lv_at hl 0 rfl) ?_
                  refine lv_istore (lv' := [(4, .int (nI (h1 (lf ((6 * w) + (g1 w)))))), (6, .int (nI (h1 (lf ((6 * w) + (g1 w)))))), (5, .int (nI (lf ((6 * w) + (g1 w))))), (0, .ref (ad 0)), (1, .ref (ad 1)), (2, .ref (ad 4)), (3, .int (nI F))]) hx hb dX0_ask_99 hl (by decide) rfl (fun ls hl => ?_)
                  refine lv_iload hx hb dX0_ask_101 (lv_at hl 0 rfl) ?_
                  refine z_iflt (tgt := 117) hx hb dX0_ask_103 (by decide) (Or.inl c62.1) (fun c103 => ?_) (fun c103 => ?_)
                  · exact absurd c103 c62.2
                  · refine lv_aload_n hx hb dX0_ask_106 rfl (lv_at hl 3 rfl) ?_
                    refine g0_far X Y 0 rfl rfl dX0_ask_107 ?_
                    refine lv_iload hx hb dX0_ask_110 (lv_at hl 0 rfl) ?_
                    refine lv_dup2_11 hx hb dX0_ask_112 rfl rfl ?_
                    refine z_iald X Y 6 rfl (by omega) dX0_ask_113 ?_
                    refine lv_iconst (v := nI 1) hx hb dX0_ask_114 (by decide) ?_
                    refine z_iadd hx hb dX0_ask_115 ?_
                    refine z_iast X Y 6 rfl (by omega) dX0_ask_116 (fun H locs Y => ?_)
                    have Y : z_W D A s (WX ad d dz n lf rt lp rp rw (va_up g1 (h1 (lf ((6 * w) + (g1 w)))) ((g1 (h1 (lf ((6 * w) + (g1 w))))) + 1)) (va_up h1 (lf ((6 * w) + (g1 w))) w) me wt my) H locs := Y
                    refine lv_goto (tgt := 29) hx hb dX0_ask_117 (by decide) ?_
                    have j3 := j1.swap hL (by omega) (by omega) hw hg rfl rfl c62.2 c85
                    exact ih29 (h1 (lf ((6 * w) + (g1 w)))) (va_up g1 (h1 (lf ((6 * w) + (g1 w)))) ((g1 (h1 (lf ((6 * w) + (g1 w))))) + 1)) (va_up h1 (lf ((6 * w) + (g1 w))) w) j3 (Or.inr hrv.2.1) (ask_mu hrv.2.1 j3 hm c31.2) H locs ls Y (lv_sub hl [3, 4, 5, 6, 0] rfl)
        exact L29 _ F (va_up g F 0) h (i2.next (by omega) c15) (Or.inr (Nat.lt_succ_self F)) (Nat.lt_succ_self _) H locs ls Y (lv_sub hl [1, 2, 3, 4, 0] rfl)
  exact L10 _ 0 fa h0 (Nat.zero_le n) (AskI.start (fun w hw => hp w (by omega))) (Nat.lt_succ_self _) H locs ls Y (lv_sub hl [1, 2, 3, 0] rfl)
set_option maxHeartbeats 4000000 in
set_option maxRecDepth 100000 in
/-- ask: what rests is the best for those who ask -/
theorem c_askr (l : Launch) (D : va_G) (d dz : ClassId) (ad : Nat → Nat) (n : Nat) (lf rt lp rp rw fa ha me wt : Nat → Nat) (my : Nat) (hn0 : 0 < n) (hn : n ≤ 6) (hL : PfL n lf lp) (hR : PfL n rt rp) : CV l yX0_ask cX0_ask 7 1 23 0 0 D d dz [.ref (ad 0), .ref (ad 2), .ref (ad 3)] (WX ad d dz n lf rt lp rp rw fa ha me wt my) (S := (Nat → Nat) × (Nat → Nat)) (fun u => StM n rt lp u.1 u.2 ∧ ∀ g' h', StM n rt lp g' h' → ∀ i, i < n → u.1 i ≤ g' i) (fun u => WX ad d dz n lf rt lp rp rw (u.1) (u.2) me wt my) := by
  refine CV.start (own := RX0) rfl (by decide) (Nat.le_of_ble_eq_true rfl) (fun p e R s m args below meth c A Q X hnm hret H locs ls Y hl => ?_)
  have hx := X.1.1
  have hb := X.1.2.1
  have hl : lv_has ls 7 [(0, .ref (ad 0)), (1, .ref (ad 2)), (2, .ref (ad 3))] := hl
  refine lv_aload_n hx hb dX0_ask_0 rfl (lv_at hl 0 rfl) ?_
  refine g0_has X Y 0 rfl rfl dX0_ask_1 ?_
  refine lv_iconst (v := nI nb) hx hb dX0_ask_4 (by decide) ?_
  refine z_csS (n := 2) (wr := (WX ad d dz n lf rt lp rp rw fa ha me wt my).eraseIdx 7) (rest := []) X Y [7] [0, 1, 2, 3, 4, 5, 6, 8, 9] rfl rfl (by decide) (by decide) (by decide) (c_fill l D d dz (ad 7) ha nb) (lw_S q103 q104 q17 q105) (by decide +kernel) ⟨by decide, by decide⟩ rfl hl.1 rfl (Nat.le_of_ble_eq_true rfl) dX0_ask_5 ⟨Nat.zero_le _, Nat.zero_le _⟩ (fun h0 H locs hp Y => ?_)
  have Y : z_W D A s (WX ad d dz n lf rt lp rp rw fa h0 me wt my) H locs := Y.sub [0, 1, 2, 3, 4, 5, 6, 9, 7, 8] (by decide) rfl
  refine lv_iconst (v := nI 0) hx hb dX0_ask_8 (by decide) ?_
  refine lv_istore_n (lv' := [(3, .int (nI 0)), (0, .ref (ad 0)), (1, .ref (ad 2)), (2, .ref (ad 3))]) hx hb dX0_ask_9 rfl hl (by decide) rfl (fun ls hl => ?_)
  have L10 : ∀ (N : Nat) (F : Nat) (g : Nat → Nat) (h : Nat → Nat), F ≤ n → AskI n rt lp F nb g h → n - F < N → ∀ (H : Heap) (locs : List Loc) (ls : Array Slot), z_W D A s (WX ad d dz n lf rt lp rp rw g h me wt my) H locs → lv_has ls 7 [(0, .ref (ad 0)), (1, .ref (ad 2)), (2, .ref (ad 3)), (3, .int (nI F))] → W p l e R s m args below meth c H locs 0 0 Q (F0 m 10 ls []) := by
    intro N
    induction N with
    | zero =>
      intro F g h i1 i2 hm
      exact absurd hm (Nat.not_lt_zero _)
    | succ N ih10 =>
      intro F g h i1 i2 hm H locs ls Y hl
      refine lv_iload_n hx hb dX0_ask_10 rfl (lv_at hl 3 rfl) ?_
      refine lv_aload_n hx hb dX0_ask_11 rfl (lv_at hl 0 rfl) ?_
      refine g0_n X Y 0 rfl rfl dX0_ask_12 ?_
      refine z_icge (tgt := 126) hx hb dX0_ask_15 (by decide) (by omega) (by omega) (fun c15 => ?_) (fun c15 => ?_)
      · have e : F = n := by omega
        rw [e] at i2
        exact hret (g, h) H locs _ ls (i2.done (by omega)) Y dX0_ask_126
      · refine lv_iload_n hx hb dX0_ask_18 rfl (lv_at hl 3 rfl) ?_
        refine lv_istore (lv' := [(4, .int (nI F)), (0, .ref (ad 0)), (1, .ref (ad 2)), (2, .ref (ad 3)), (3, .int (nI F))]) hx hb dX0_ask_19 hl (by decide) rfl (fun ls hl => ?_)
        refine lv_aload_n hx hb dX0_ask_21 rfl (lv_at hl 1 rfl) ?_
        refine g0_far X Y 0 rfl rfl dX0_ask_22 ?_
        refine lv_iload hx hb dX0_ask_25 (lv_at hl 0 rfl) ?_
        refine lv_iconst (v := nI 0) hx hb dX0_ask_27 (by decide) ?_
        refine z_iast X Y 6 rfl (by omega) dX0_ask_28 (fun H locs Y => ?_)
        have Y : z_W D A s (WX ad d dz n lf rt lp rp rw (va_up g F 0) h me wt my) H locs := Y
        have L29 : ∀ (N : Nat) (w : Nat) (g1 : Nat → Nat) (h1 : Nat → Nat), AskI n rt lp (F + 1) w g1 h1 → w = nb ∨ w < F + 1 → 2 * ((F + 1) * n - sm g1 (F + 1)) + mu w < N → ∀ (H : Heap) (locs : List Loc) (ls : Array Slot), z_W D A s (WX ad d dz n lf rt lp rp rw g1 h1 me wt my) H locs → lv_has ls 7 [(0, .ref (ad 0)), (1, .ref (ad 2)), (2, .ref (ad 3)), (3, .int (nI F)), (4, .int (nI w))] → W p l e R s m args below meth c H locs 0 0 Q (F0 m 29 ls []) := by
          intro N
          induction N with
          | zero =>
            intro w g1 h1 j1 j2 hm
            exact absurd hm (Nat.not_lt_zero _)
          | succ N ih29 =>
            intro w g1 h1 j1 j2 hm H locs ls Y hl
            refine lv_iload hx hb dX0_ask_29 (lv_at hl 4 rfl) ?_
            refine z_iflt (tgt := 120) hx hb dX0_ask_31 (by decide) (j2.elim Or.inr (fun q => Or.inl (by omega))) (fun c31 => ?_) (fun c31 => ?_)
            · refine lv_iinc (v := nI (F + 1)) (lv' := [(3, .int (nI (F + 1))), (0, .ref (ad 0)), (1, .ref (ad 2)), (2, .ref (ad 3)), (4, .int (nI w))]) hx hb dX0_ask_120 hl (k := 3) rfl (z_inc _) (by decide) rfl (fun ls hl => ?_)
              refine lv_goto (tgt := 10) hx hb dX0_ask_123 (by decide) ?_
              rw [c31] at j1
              exact ih10 (F + 1) g1 h1 c15 j1 (by omega) H locs ls Y (lv_sub hl [1, 2, 3, 0] rfl)
            · have hw : w < F + 1 := j2.resolve_left c31.2
              have hg := j1.lt hR (by omega) hw
              have hT := (hR w (by omega) (g1 w) hg).1.1
              refine lv_aload_n hx hb dX0_ask_34 rfl (lv_at hl 1 rfl) ?_
              refine lv_bipush (v := nI 6) hx hb dX0_ask_35 (by decide) ?_
              refine lv_iload hx hb dX0_ask_37 (lv_at hl 4 rfl) ?_
              refine z_imul hx hb dX0_ask_39 ?_
              refine lv_aload_n hx hb dX0_ask_40 rfl (lv_at hl 0 rfl) ?_
              refine g0_far X Y 0 rfl rfl dX0_ask_41 ?_
              refine lv_iload hx hb dX0_ask_44 (lv_at hl 4 rfl) ?_
              refine z_iald X Y 6 rfl (by omega) dX0_ask_46 ?_
              refine z_iadd hx hb dX0_ask_47 ?_
              refine z_iald X Y 2 rfl (by omega) dX0_ask_48 ?_
              refine lv_istore (lv' := [(5, .int (nI (rt ((6 * w) + (g1 w))))), (0, .ref (ad 0)), (1, .ref (ad 2)), (2, .ref (ad 3)), (3, .int (nI F)), (4, .int (nI w))]) hx hb dX0_ask_49 hl (by decide) rfl (fun ls hl => ?_)
              refine lv_aload_n hx hb dX0_ask_51 rfl (lv_at hl 1 rfl) ?_
              refine g0_has X Y 0 rfl rfl dX0_ask_52 ?_
              refine lv_iload hx hb dX0_ask_55 (lv_at hl 0 rfl) ?_
              refine z_iald X Y 7 rfl (by omega) dX0_ask_57 ?_
              refine lv_istore (lv' := [(6, .int (nI (h1 (rt ((6 * w) + (g1 w)))))), (5, .int (nI (rt ((6 * w) + (g1 w))))), (0, .ref (ad 0)), (1, .ref (ad 2)), (2, .ref (ad 3)), (3, .int (nI F)), (4, .int (nI w))]) hx hb dX0_ask_58 hl (by decide) rfl (fun ls hl => ?_)
              have hr0 := j1.2.1 (rt (6 * w + g1 w)) hT
              refine lv_iload hx hb dX0_ask_60 (lv_at hl 0 rfl) ?_
              refine z_iflt (tgt := 88) hx hb dX0_ask_62 (by decide) (hr0.elim Or.inr (fun q => Or.inl (by omega))) (fun c62 => ?_) (fun c62 => ?_)
              · refine lv_aload_n hx hb dX0_ask_88 rfl (lv_at hl 2 rfl) ?_
                refine g0_has X Y 0 rfl rfl dX0_ask_89 ?_
                refine lv_iload hx hb dX0_ask_92 (lv_at hl 1 rfl) ?_
                refine lv_iload hx hb dX0_ask_94 (lv_at hl 6 rfl) ?_
                refine z_iast X Y 7 rfl (by omega) dX0_ask_96 (fun H locs Y => ?_)
                have Y : z_W D A s (WX ad d dz n lf rt lp rp rw g1 (va_up h1 (rt ((6 * w) + (g1 w))) w) me wt my) H locs := Y
                refine lv_iload hx hb dX0_ask_97 (lv_at hl 0 rfl) ?_
                refine lv_istore (lv' := [(4, .int (nI (h1 (rt ((6 * w) + (g1 w)))))), (6, .int (nI (h1 (rt ((6 * w) + (g1 w)))))), (5, .int (nI (rt ((6 * w) + (g1 w))))), (0, .ref (ad 0)), (1, .ref (ad 2)), (2, .ref (ad 3)), (3, .int (nI F))]) hx hb dX0_ask_99 hl (by decide) rfl (fun ls hl => ?_)
                refine lv_iload hx hb dX0_ask_101 (lv_at hl 0 rfl) ?_
                refine z_iflt (tgt := 117) hx hb dX0_ask_103 (by decide) (Or.inr c62) (fun c103 => ?_) (fun c103 => ?_)
                · refine lv_goto (tgt := 29) hx hb dX0_ask_117 (by decide) ?_
                  exact ih29 (h1 (rt ((6 * w) + (g1 w)))) g1 (va_up h1 (rt ((6 * w) + (g1 w))) w) (by rw [c62]; exact j1.free hR (by omega) (by omega) hw hg rfl c62) (Or.inl c62) (ask_mu0 hm c31.2 c62) H locs ls Y (lv_sub hl [3, 4, 5, 6, 0] rfl)
                · exact absurd c62 c103.2
              · have hrv := j1.rival hR (by omega) hw hg rfl rfl c62.2
                have hb1 := (hL (rt (6 * w + g1 w)) hT w (by omega)).2.1
                have hb2 := (hL (rt (6 * w + g1 w)) hT (h1 (rt (6 * w + g1 w))) (by omega)).2.1
                refine lv_aload_n hx hb dX0_ask_65 rfl (lv_at hl 4 rfl) ?_
                refine lv_bipush (v := nI 6) hx hb dX0_ask_66 (by decide) ?_
                refine lv_iload hx hb dX0_ask_68 (lv_at hl 1 rfl) ?_
                refine z_imul hx hb dX0_ask_70 ?_
                refine lv_iload hx hb dX0_ask_71 (lv_at hl 6 rfl) ?_
                refine z_iadd hx hb dX0_ask_73 ?_
                refine z_iald X Y 3 rfl (by omega) dX0_ask_74 ?_
                refine lv_aload_n hx hb dX0_ask_75 rfl (lv_at hl 4 rfl) ?_
                refine lv_bipush (v := nI 6) hx hb dX0_ask_76 (by decide) ?_
                refine lv_iload hx hb dX0_ask_78 (lv_at hl 1 rfl) ?_
                refine z_imul hx hb dX0_ask_80 ?_
                refine lv_iload hx hb dX0_ask_81 (lv_at hl 0 rfl) ?_
                refine z_iadd hx hb dX0_ask_83 ?_
                refine z_iald X Y 3 rfl (by omega) dX0_ask_84 ?_
                refine z_icge (tgt := 101) hx hb dX0_ask_85 (by decide) (by omega) (by omega) (fun c85 => ?_) (fun c85 => ?_)
                · refine lv_iload hx hb dX0_ask_101 (lv_at hl 6 rfl) ?_
                  refine z_iflt (tgt := 117) hx hb dX0_ask_103 (by decide) (Or.inl c31.1) (fun c103 => ?_) (fun c103 => ?_)
                  · exact absurd c103 c31.2
                  · refine lv_aload_n hx hb dX0_ask_106 rfl (lv_at hl 2 rfl) ?_
                    refine g0_far X Y 0 rfl rfl dX0_ask_107 ?_
                    refine lv_iload hx hb dX0_ask_110 (lv_at hl 6 rfl) ?_
                    refine lv_dup2_11 hx hb dX0_ask_112 rfl rfl ?_
                    refine z_iald X Y 6 rfl (by omega) dX0_ask_113 ?_
                    refine lv_iconst (v := nI 1) hx hb dX0_ask_114 (by decide) ?_
                    refine z_iadd hx hb dX0_ask_115 ?_
                    refine z_iast X Y 6 rfl (by omega) dX0_ask_116 (fun H locs Y => ?_)
                    have Y : z_W D A s (WX ad d dz n lf rt lp rp rw (va_up g1 w ((g1 w) + 1)) h1 me wt my) H locs := Y
                    refine lv_goto (tgt := 29) hx hb dX0_ask_117 (by decide) ?_
                    have j3 := j1.rej hR hL (by omega) (by omega) hw hg rfl rfl c62.2 c85
                    exact ih29 w (va_up g1 w ((g1 w) + 1)) h1 j3 (Or.inr hw) (ask_mu hw j3 hm c31.2) H locs ls Y (lv_sub hl [2, 3, 4, 5, 6] rfl)
                · refine lv_aload_n hx hb dX0_ask_88 rfl (lv_at hl 2 rfl) ?_
                  refine g0_has X Y 0 rfl rfl dX0_ask_89 ?_
                  refine lv_iload hx hb dX0_ask_92 (lv_at hl 1 rfl) ?_
                  refine lv_iload hx hb dX0_ask_94 (lv_at hl 6 rfl) ?_
                  refine z_iast X Y 7 rfl (by omega) dX0_ask_96 (fun H locs Y => ?_)
                  have Y : z_W D A s (WX ad d dz n lf rt lp rp rw g1 (va_up h1 (rt ((6 * w) + (g1 w))) w) me wt my) H locs := Y
                  refine lv_iload hx hb dX0_ask_97 (lv_at hl 0 rfl) ?_
                  refine lv_istore (lv' := [(4, .int (nI (h1 (rt ((6 * w) + (g1 w)))))), (6, .int (nI (h1 (rt ((6 * w) + (g1 w)))))), (5, .int (nI (rt ((6 * w) + (g1 w))))), (0, .ref (ad 0)), (1, .ref (ad 2)), (2, .ref (ad 3)), (3, .int (nI F))]) hx hb dX0_ask_99 hl (by decide) rfl (fun ls hl => ?_)
                  refine lv_iload hx hb dX0_ask_101 (lv_at hl 0 rfl) ?_
                  refine z_iflt (tgt := 117) hx hb dX0_ask_103 (by decide) (Or.inl c62.1) (fun c103 => ?_) (fun c103 => ?_)
                  · exact absurd c103 c62.2
                  · refine lv_aload_n hx hb dX0_ask_106 rfl (lv_at hl 3 rfl) ?_
                    refine g0_far X Y 0 rfl rfl dX0_ask_107 ?_
                    refine lv_iload hx hb dX0_ask_110 (lv_at hl 0 rfl) ?_
                    refine lv_dup2_11 hx hb dX0_ask_112 rfl rfl ?_
                    refine z_iald X Y 6 rfl (by omega) dX0_ask_113 ?_
                    refine lv_iconst (v := nI 1) hx hb dX0_ask_114 (by decide) ?_
                    refine z_iadd hx hb dX0_ask_115 ?_
                    refine z_iast X Y 6 rfl (by omega) dX0_ask_116 (fun H locs Y => ?_)
                    have Y : z_W D A s (WX ad d dz n lf rt lp rp rw (va_up g1 (h1 (rt ((6 * w) + (g1 w)))) ((g1 (h1 (rt ((6 * w) + (g1 w))))) + 1)) (va_up h1 (rt ((6 * w) + (g1 w))) w) me wt my) H locs := Y
                    refine lv_goto (tgt := 29) hx hb dX0_ask_117 (by decide) ?_
                    have j3 := j1.swap hR (by omega) (by omega) hw hg rfl rfl c62.2 c85
                    exact ih29 (h1 (rt ((6 * w) + (g1 w)))) (va_up g1 (h1 (rt ((6 * w) + (g1 w)))) ((g1 (h1 (rt ((6 * w) + (g1 w))))) + 1)) (va_up h1 (rt ((6 * w) + (g1 w))) w) j3 (Or.inr hrv.2.1) (ask_mu hrv.2.1 j3 hm c31.2) H locs ls Y (lv_sub hl [3, 4, 5, 6, 0] rfl)
        exact L29 _ F (va_up g F 0) h (i2.next (by omega) c15) (Or.inr (Nat.lt_succ_self F)) (Nat.lt_succ_self _) H locs ls Y (lv_sub hl [1, 2, 3, 4, 0] rfl)
  exact L10 _ 0 fa h0 (Nat.zero_le n) (AskI.start (fun w hw => hp w (by omega))) (Nat.lt_succ_self _) H locs ls Y (lv_sub hl [1, 2, 3, 0] rfl)
set_option maxHeartbeats 4000000 in
set_option maxRecDepth 100000 in
/-- partner(x) -/
theorem c_partner (l : Launch) (D : va_G) (d dz : ClassId) (ad : Nat → Nat) (n : Nat) (lf rt lp rp rw fa ha me wt : Nat → Nat) (my : Nat) (x : Int32) (hn0 : 0 < n) (hn : n ≤ 6) (hL : PfL n lf lp) (hR : PfL n rt rp) : CI l yX0_partner cX0_partner 2 .int 2 49 0 0 D d dz [.ref (ad 0), .int x] (WX ad d dz n lf rt lp rp rw fa ha me wt my) (S := (Nat → Nat) × (Nat → Nat)) (fun k u => k = lf (6 * (mx x % n) + u.1 (mx x % n)) ∧ StM n lf rp u.1 u.2 ∧ ∀ g' h', StM n lf rp g' h' → ∀ i, i < n → u.1 i ≤ g' i) (fun u => WX ad d dz n lf rt lp rp rw (u.1) (u.2) me wt my) := by
  refine CI.start (own := RX0) rfl (by decide) (Nat.le_of_ble_eq_true rfl) (fun p e R s m args below meth c A Q X hnm hret H locs ls Y hl => ?_)
  have hx := X.1.1
  have hb := X.1.2.1
  have hl : lv_has ls 2 [(0, .ref (ad 0)), (1, .int x)] := hl
  refine lv_aload_n hx hb dX0_partner_0 rfl (lv_at hl 0 rfl) ?_
  refine lv_aload_n hx hb dX0_partner_1 rfl (lv_at hl 0 rfl) ?_
  refine g0_left X Y 0 rfl rfl dX0_partner_2 ?_
  refine lv_aload_n hx hb dX0_partner_5 rfl (lv_at hl 0 rfl) ?_
  refine g0_rightPlace X Y 0 rfl rfl dX0_partner_6 ?_
  refine z_cv (n := 2) (q0 := 0) (ci := 0) (rest := []) X Y (c_askl l D d dz ad n lf rt lp rp rw fa ha me wt my hn0 hn hL hR) (lw_V q99 q101 qs5 q15 q102) (by decide +kernel) ⟨by decide, by decide⟩ rfl rfl rfl rfl hl.1 rfl (Nat.le_of_ble_eq_true rfl) dX0_partner_9 ⟨Nat.zero_le _, Nat.zero_le _⟩ (fun u H locs hp Y => ?_)
  have Y : z_W D A s (WX ad d dz n lf rt lp rp rw (u.1) (u.2) me wt my) H locs := Y
  refine lv_aload_n hx hb dX0_partner_12 rfl (lv_at hl 0 rfl) ?_
  refine g0_left X Y 0 rfl rfl dX0_partner_13 ?_
  refine lv_bipush (v := nI 6) hx hb dX0_partner_16 (by decide) ?_
  refine lv_aload_n hx hb dX0_partner_18 rfl (lv_at hl 0 rfl) ?_
  refine lv_iload_n hx hb dX0_partner_19 rfl (lv_at hl 1 rfl) ?_
  refine z_ci (n := 1) (q0 := 0) (ci := 0) (rest := [.int (nI 6), .ref (ad 1)]) X Y (c_one l D d dz ad n lf rt lp rp rw (u.1) (u.2) me wt my x hn0 hn) (lw_V q83 q85 qs3 q15 q86) (by decide +kernel) ⟨by decide, by decide⟩ rfl rfl rfl rfl hl.1 rfl (Nat.le_of_ble_eq_true rfl) dX0_partner_20 ⟨Nat.zero_le _, Nat.zero_le _⟩ (fun a1 _u H locs hq Y => ?_)
  subst a1
  have Y : z_W D A s (WX ad d dz n lf rt lp rp rw (u.1) (u.2) me wt my) H locs := Y
  refine z_imul hx hb dX0_partner_23 ?_
  refine lv_aload_n hx hb dX0_partner_24 rfl (lv_at hl 0 rfl) ?_
  refine g0_far X Y 0 rfl rfl dX0_partner_25 ?_
  refine lv_aload_n hx hb dX0_partner_28 rfl (lv_at hl 0 rfl) ?_
  refine lv_iload_n hx hb dX0_partner_29 rfl (lv_at hl 1 rfl) ?_
  refine z_ci (n := 1) (q0 := 0) (ci := 0) (rest := [.ref (ad 6), .int (nI (6 * (mx x % n))), .ref (ad 1)]) X Y (c_one l D d dz ad n lf rt lp rp rw (u.1) (u.2) me wt my x hn0 hn) (lw_V q83 q85 qs3 q15 q86) (by decide +kernel) ⟨by decide, by decide⟩ rfl rfl rfl rfl hl.1 rfl (Nat.le_of_ble_eq_true rfl) dX0_partner_30 ⟨Nat.zero_le _, Nat.zero_le _⟩ (fun a1 _u H locs hq Y => ?_)
  subst a1
  have Y : z_W D A s (WX ad d dz n lf rt lp rp rw (u.1) (u.2) me wt my) H locs := Y
  have hm : mx x % n < n := Nat.mod_lt _ hn0
  have hg := (hp.1.1 _ hm).1
  refine z_iald X Y 6 rfl (by omega) dX0_partner_33 ?_
  refine z_iadd hx hb dX0_partner_34 ?_
  refine z_iald X Y 1 rfl (by omega) dX0_partner_35 ?_
  exact hret (lf ((6 * (mx x % n)) + ((u.1) (mx x % n)))) u H locs _ ls (⟨rfl, hp⟩) Y rfl dX0_partner_36
set_option maxHeartbeats 4000000 in
set_option maxRecDepth 100000 in
/-- other(x) -/
theorem c_other (l : Launch) (D : va_G) (d dz : ClassId) (ad : Nat → Nat) (n : Nat) (lf rt lp rp rw fa ha me wt : Nat → Nat) (my : Nat) (x : Int32) (hn0 : 0 < n) (hn : n ≤ 6) (hL : PfL n lf lp) (hR : PfL n rt rp) : CI l yX0_other cX0_other 2 .int 2 49 0 0 D d dz [.ref (ad 0), .int x] (WX ad d dz n lf rt lp rp rw fa ha me wt my) (S := (Nat → Nat) × (Nat → Nat)) (fun k u => k = rt (6 * (mx x % n) + u.1 (mx x % n)) ∧ StM n rt lp u.1 u.2 ∧ ∀ g' h', StM n rt lp g' h' → ∀ i, i < n → u.1 i ≤ g' i) (fun u => WX ad d dz n lf rt lp rp rw (u.1) (u.2) me wt my) := by
  refine CI.start (own := RX0) rfl (by decide) (Nat.le_of_ble_eq_true rfl) (fun p e R s m args below meth c A Q X hnm hret H locs ls Y hl => ?_)
  have hx := X.1.1
  have hb := X.1.2.1
  have hl : lv_has ls 2 [(0, .ref (ad 0)), (1, .int x)] := hl
  refine lv_aload_n hx hb dX0_other_0 rfl (lv_at hl 0 rfl) ?_
  refine lv_aload_n hx hb dX0_other_1 rfl (lv_at hl 0 rfl) ?_
  refine g0_right X Y 0 rfl rfl dX0_other_2 ?_
  refine lv_aload_n hx hb dX0_other_5 rfl (lv_at hl 0 rfl) ?_
  refine g0_leftPlace X Y 0 rfl rfl dX0_other_6 ?_
  refine z_cv (n := 2) (q0 := 0) (ci := 0) (rest := []) X Y (c_askr l D d dz ad n lf rt lp rp rw fa ha me wt my hn0 hn hL hR) (lw_V q99 q101 qs5 q15 q102) (by decide +kernel) ⟨by decide, by decide⟩ rfl rfl rfl rfl hl.1 rfl (Nat.le_of_ble_eq_true rfl) dX0_other_9 ⟨Nat.zero_le _, Nat.zero_le _⟩ (fun u H locs hp Y => ?_)
  have Y : z_W D A s (WX ad d dz n lf rt lp rp rw (u.1) (u.2) me wt my) H locs := Y
  refine lv_aload_n hx hb dX0_other_12 rfl (lv_at hl 0 rfl) ?_
  refine g0_right X Y 0 rfl rfl dX0_other_13 ?_
  refine lv_bipush (v := nI 6) hx hb dX0_other_16 (by decide) ?_
  refine lv_aload_n hx hb dX0_other_18 rfl (lv_at hl 0 rfl) ?_
  refine lv_iload_n hx hb dX0_other_19 rfl (lv_at hl 1 rfl) ?_
  refine z_ci (n := 1) (q0 := 0) (ci := 0) (rest := [.int (nI 6), .ref (ad 2)]) X Y (c_one l D d dz ad n lf rt lp rp rw (u.1) (u.2) me wt my x hn0 hn) (lw_V q83 q85 qs3 q15 q86) (by decide +kernel) ⟨by decide, by decide⟩ rfl rfl rfl rfl hl.1 rfl (Nat.le_of_ble_eq_true rfl) dX0_other_20 ⟨Nat.zero_le _, Nat.zero_le _⟩ (fun a1 _u H locs hq Y => ?_)
  subst a1
  have Y : z_W D A s (WX ad d dz n lf rt lp rp rw (u.1) (u.2) me wt my) H locs := Y
  refine z_imul hx hb dX0_other_23 ?_
  refine lv_aload_n hx hb dX0_other_24 rfl (lv_at hl 0 rfl) ?_
  refine g0_far X Y 0 rfl rfl dX0_other_25 ?_
  refine lv_aload_n hx hb dX0_other_28 rfl (lv_at hl 0 rfl) ?_
  refine lv_iload_n hx hb dX0_other_29 rfl (lv_at hl 1 rfl) ?_
  refine z_ci (n := 1) (q0 := 0) (ci := 0) (rest := [.ref (ad 6), .int (nI (6 * (mx x % n))), .ref (ad 2)]) X Y (c_one l D d dz ad n lf rt lp rp rw (u.1) (u.2) me wt my x hn0 hn) (lw_V q83 q85 qs3 q15 q86) (by decide +kernel) ⟨by decide, by decide⟩ rfl rfl rfl rfl hl.1 rfl (Nat.le_of_ble_eq_true rfl) dX0_other_30 ⟨Nat.zero_le _, Nat.zero_le _⟩ (fun a1 _u H locs hq Y => ?_)
  subst a1
  have Y : z_W D A s (WX ad d dz n lf rt lp rp rw (u.1) (u.2) me wt my) H locs := Y
  have hm : mx x % n < n := Nat.mod_lt _ hn0
  have hg := (hp.1.1 _ hm).1
  refine z_iald X Y 6 rfl (by omega) dX0_other_33 ?_
  refine z_iadd hx hb dX0_other_34 ?_
  refine z_iald X Y 2 rfl (by omega) dX0_other_35 ?_
  exact hret (rt ((6 * (mx x % n)) + ((u.1) (mx x % n)))) u H locs _ ls (⟨rfl, hp⟩) Y rfl dX0_other_36
set_option maxHeartbeats 4000000 in
set_option maxRecDepth 100000 in
/-- number: of the pairing in far -/
theorem c_number (l : Launch) (D : va_G) (d dz : ClassId) (ad : Nat → Nat) (n : Nat) (lf rt lp rp rw fa ha me wt : Nat → Nat) (my : Nat) (v : Nat) (hn : n ≤ 6) (hv : v < fc n) (hg : ∀ i, i < n → fa i < n) (hp : ∀ i, i < n → oP n v i = lf (6 * i + fa i)) : CI l yX0_number cX0_number 8 .int 0 0 0 0 D d dz [.ref (ad 0)] (WX ad d dz n lf rt lp rp rw fa ha me wt my) (S := Unit) (fun k _ => k = v) (fun _ => WX ad d dz n lf rt lp rp rw fa ha me wt my) := by
  refine CI.start (own := RX0) rfl (by decide) (Nat.le_of_ble_eq_true rfl) (fun p e R s m args below meth c A Q X hnm hret H locs ls Y hl => ?_)
  have hx := X.1.1
  have hb := X.1.2.1
  have hl : lv_has ls 8 [(0, .ref (ad 0))] := hl
  refine lv_iconst (v := nI 0) hx hb dX0_number_0 (by decide) ?_
  refine lv_istore_n (lv' := [(1, .int (nI 0)), (0, .ref (ad 0))]) hx hb dX0_number_1 rfl hl (by decide) rfl (fun ls hl => ?_)
  refine lv_iconst (v := nI 1) hx hb dX0_number_2 (by decide) ?_
  refine lv_istore_n (lv' := [(2, .int (nI 1)), (1, .int (nI 0)), (0, .ref (ad 0))]) hx hb dX0_number_3 rfl hl (by decide) rfl (fun ls hl => ?_)
  refine lv_iconst (v := nI 0) hx hb dX0_number_4 (by decide) ?_
  refine lv_istore_n (lv' := [(3, .int (nI 0)), (2, .int (nI 1)), (1, .int (nI 0)), (0, .ref (ad 0))]) hx hb dX0_number_5 rfl hl (by decide) rfl (fun ls hl => ?_)
  refine lv_iconst (v := nI 0) hx hb dX0_number_6 (by decide) ?_
  refine lv_istore (lv' := [(4, .int (nI 0)), (3, .int (nI 0)), (2, .int (nI 1)), (1, .int (nI 0)), (0, .ref (ad 0))]) hx hb dX0_number_7 hl (by decide) rfl (fun ls hl => ?_)
  have L9 : ∀ (N : Nat) (k : Nat) (t : Nat) (u : Nat) (i : Nat), i ≤ n → NumI n v i k t u → n - i < N → ∀ (H : Heap) (locs : List Loc) (ls : Array Slot), z_W D A s (WX ad d dz n lf rt lp rp rw fa ha me wt my) H locs → lv_has ls 8 [(0, .ref (ad 0)), (1, .int (nI k)), (2, .int (nI t)), (3, .int (nI u)), (4, .int (nI i))] → W p l e R s m args below meth c H locs 0 0 Q (F0 m 9 ls []) := by
    intro N
    induction N with
    | zero =>
      intro k t u i g1 g2 hm
      exact absurd hm (Nat.not_lt_zero _)
    | succ N ih9 =>
      intro k t u i g1 g2 hm H locs ls Y hl
      refine lv_iload hx hb dX0_number_9 (lv_at hl 4 rfl) ?_
      refine lv_aload_n hx hb dX0_number_11 rfl (lv_at hl 0 rfl) ?_
      refine g0_n X Y 0 rfl rfl dX0_number_12 ?_
      refine z_icge (tgt := 99) hx hb dX0_number_15 (by decide) (by omega) (by omega) (fun c15 => ?_) (fun c15 => ?_)
      · refine lv_iload_n hx hb dX0_number_99 rfl (lv_at hl 1 rfl) ?_
        exact hret k () H locs _ ls (by rw [g2.1, show i = n by omega]; exact oS_eq (by rw [← fc_oT n (by omega)]; exact hv)) Y rfl dX0_number_100
      · have ho := oP_lt (k := v) c15
        have hto := hp i c15
        have hfi := hg i c15
        have hu := g2.lt hn g1
        refine lv_aload_n hx hb dX0_number_18 rfl (lv_at hl 0 rfl) ?_
        refine g0_left X Y 0 rfl rfl dX0_number_19 ?_
        refine lv_bipush (v := nI 6) hx hb dX0_number_22 (by decide) ?_
        refine lv_iload hx hb dX0_number_24 (lv_at hl 4 rfl) ?_
        refine z_imul hx hb dX0_number_26 ?_
        refine lv_aload_n hx hb dX0_number_27 rfl (lv_at hl 0 rfl) ?_
        refine g0_far X Y 0 rfl rfl dX0_number_28 ?_
        refine lv_iload hx hb dX0_number_31 (lv_at hl 4 rfl) ?_
        refine z_iald X Y 6 rfl (by omega) dX0_number_33 ?_
        refine z_iadd hx hb dX0_number_34 ?_
        refine z_iald X Y 1 rfl (by omega) dX0_number_35 ?_
        refine lv_istore (lv' := [(5, .int (nI (lf ((6 * i) + (fa i))))), (0, .ref (ad 0)), (1, .int (nI k)), (2, .int (nI t)), (3, .int (nI u)), (4, .int (nI i))]) hx hb dX0_number_36 hl (by decide) rfl (fun ls hl => ?_)
        refine lv_iconst (v := nI 0) hx hb dX0_number_38 (by decide) ?_
        refine lv_istore (lv' := [(6, .int (nI 0)), (5, .int (nI (lf ((6 * i) + (fa i))))), (0, .ref (ad 0)), (1, .int (nI k)), (2, .int (nI t)), (3, .int (nI u)), (4, .int (nI i))]) hx hb dX0_number_39 hl (by decide) rfl (fun ls hl => ?_)
        refine lv_iconst (v := nI 0) hx hb dX0_number_41 (by decide) ?_
        refine lv_istore (lv' := [(7, .int (nI 0)), (6, .int (nI 0)), (5, .int (nI (lf ((6 * i) + (fa i))))), (0, .ref (ad 0)), (1, .int (nI k)), (2, .int (nI t)), (3, .int (nI u)), (4, .int (nI i))]) hx hb dX0_number_42 hl (by decide) rfl (fun ls hl => ?_)
        have L44 : ∀ (N : Nat) (a : Nat) (j : Nat), j ≤ lf (6 * i + fa i) → a = cnt (usd (oP n v) i) j → lf (6 * i + fa i) - j < N → ∀ (H : Heap) (locs : List Loc) (ls : Array Slot), z_W D A s (WX ad d dz n lf rt lp rp rw fa ha me wt my) H locs → lv_has ls 8 [(0, .ref (ad 0)), (1, .int (nI k)), (2, .int (nI t)), (3, .int (nI u)), (4, .int (nI i)), (5, .int (nI (lf (6 * i + fa i)))), (6, .int (nI a)), (7, .int (nI j))] → W p l e R s m args below meth c H locs 0 0 Q (F0 m 44 ls []) := by
          intro N
          induction N with
          | zero =>
            intro a j s1 s2 hm
            exact absurd hm (Nat.not_lt_zero _)
          | succ N ih44 =>
            intro a j s1 s2 hm H locs ls Y hl
            refine lv_iload hx hb dX0_number_44 (lv_at hl 7 rfl) ?_
            refine lv_iload hx hb dX0_number_46 (lv_at hl 5 rfl) ?_
            refine z_icge (tgt := 69) hx hb dX0_number_48 (by decide) (by omega) (by omega) (fun c48 => ?_) (fun c48 => ?_)
            · refine lv_iload_n hx hb dX0_number_69 rfl (lv_at hl 3 rfl) ?_
              refine lv_iconst (v := nI 1) hx hb dX0_number_70 (by decide) ?_
              refine lv_iload hx hb dX0_number_71 (lv_at hl 5 rfl) ?_
              refine z_ishl hx hb dX0_number_73 (by omega) (by rw [Nat.one_mul]; exact Nat.pow_lt_pow_right (by decide) (by omega)) ?_
              refine z_ior hx hb dX0_number_74 ?_
              refine lv_istore_n (lv' := [(3, .int (nI (u ||| (1 * 2 ^ (lf (6 * i + fa i)))))), (0, .ref (ad 0)), (1, .int (nI k)), (2, .int (nI t)), (4, .int (nI i)), (5, .int (nI (lf (6 * i + fa i)))), (6, .int (nI a)), (7, .int (nI j))]) hx hb dX0_number_75 rfl hl (by decide) rfl (fun ls hl => ?_)
              refine lv_iload_n hx hb dX0_number_76 rfl (lv_at hl 2 rfl) ?_
              refine lv_iload hx hb dX0_number_77 (lv_at hl 6 rfl) ?_
              refine lv_iload_n hx hb dX0_number_79 rfl (lv_at hl 3 rfl) ?_
              refine z_imul hx hb dX0_number_80 ?_
              refine z_iadd hx hb dX0_number_81 ?_
              refine lv_istore_n (lv' := [(1, .int (nI (k + (a * t)))), (3, .int (nI (u ||| (1 * 2 ^ (lf (6 * i + fa i)))))), (0, .ref (ad 0)), (2, .int (nI t)), (4, .int (nI i)), (5, .int (nI (lf (6 * i + fa i)))), (6, .int (nI a)), (7, .int (nI j))]) hx hb dX0_number_82 rfl hl (by decide) rfl (fun ls hl => ?_)
              refine lv_iload_n hx hb dX0_number_83 rfl (lv_at hl 3 rfl) ?_
              refine lv_aload_n hx hb dX0_number_84 rfl (lv_at hl 2 rfl) ?_
              refine g0_n X Y 0 rfl rfl dX0_number_85 ?_
              refine lv_iload hx hb dX0_number_88 (lv_at hl 4 rfl) ?_
              refine z_isub hx hb dX0_number_90 (by omega) ?_
              refine z_imul hx hb dX0_number_91 ?_
              refine lv_istore_n (lv' := [(2, .int (nI (t * (n - i)))), (1, .int (nI (k + (a * t)))), (3, .int (nI (u ||| (1 * 2 ^ (lf (6 * i + fa i)))))), (0, .ref (ad 0)), (4, .int (nI i)), (5, .int (nI (lf (6 * i + fa i)))), (6, .int (nI a)), (7, .int (nI j))]) hx hb dX0_number_92 rfl hl (by decide) rfl (fun ls hl => ?_)
              refine lv_iinc (v := nI (i + 1)) (lv' := [(4, .int (nI (i + 1))), (2, .int (nI (t * (n - i)))), (1, .int (nI (k + (a * t)))), (3, .int (nI (u ||| (1 * 2 ^ (lf (6 * i + fa i)))))), (0, .ref (ad 0)), (5, .int (nI (lf (6 * i + fa i)))), (6, .int (nI a)), (7, .int (nI j))]) hx hb dX0_number_93 hl (k := 4) rfl (z_inc _) (by decide) rfl (fun ls hl => ?_)
              refine lv_goto (tgt := 9) hx hb dX0_number_96 (by decide) ?_
              exact ih9 (k + (a * t)) (t * (n - i)) (u ||| (1 * 2 ^ (lf (6 * i + fa i)))) (i + 1) c15 (g2.step hto.symm (by rw [s2, show j = lf (6 * i + fa i) by omega])) (by omega) H locs ls Y (lv_sub hl [4, 2, 1, 3, 0] rfl)
            · refine lv_iload_n hx hb dX0_number_51 rfl (lv_at hl 3 rfl) ?_
              refine lv_iload hx hb dX0_number_52 (lv_at hl 7 rfl) ?_
              refine z_ishr hx hb dX0_number_54 (by omega) (by omega) ?_
              refine lv_iconst (v := nI 1) hx hb dX0_number_55 (by decide) ?_
              refine z_and1 hx hb dX0_number_56 (Nat.lt_of_le_of_lt (Nat.div_le_self _ _) (by omega)) ?_
              refine z_ifne (tgt := 63) hx hb dX0_number_57 (by decide) (Nat.lt_trans (Nat.mod_lt _ (by decide)) (by decide)) (fun c57 => ?_) (fun c57 => ?_)
              · refine lv_iinc (v := nI (j + 1)) (lv' := [(7, .int (nI (j + 1))), (0, .ref (ad 0)), (1, .int (nI k)), (2, .int (nI t)), (3, .int (nI u)), (4, .int (nI i)), (5, .int (nI (lf (6 * i + fa i)))), (6, .int (nI a))]) hx hb dX0_number_63 hl (k := 7) rfl (z_inc _) (by decide) rfl (fun ls hl => ?_)
                refine lv_goto (tgt := 44) hx hb dX0_number_66 (by decide) ?_
                exact ih44 a (j + 1) c48 (g2.cnt1 s2 c57) (by omega) H locs ls Y (lv_sub hl [1, 2, 3, 4, 5, 6, 7, 0] rfl)
              · refine lv_iinc (v := nI (a + 1)) (lv' := [(6, .int (nI (a + 1))), (0, .ref (ad 0)), (1, .int (nI k)), (2, .int (nI t)), (3, .int (nI u)), (4, .int (nI i)), (5, .int (nI (lf (6 * i + fa i)))), (7, .int (nI j))]) hx hb dX0_number_60 hl (k := 6) rfl (z_inc _) (by decide) rfl (fun ls hl => ?_)
                refine lv_iinc (v := nI (j + 1)) (lv' := [(7, .int (nI (j + 1))), (6, .int (nI (a + 1))), (0, .ref (ad 0)), (1, .int (nI k)), (2, .int (nI t)), (3, .int (nI u)), (4, .int (nI i)), (5, .int (nI (lf (6 * i + fa i))))]) hx hb dX0_number_63 hl (k := 7) rfl (z_inc _) (by decide) rfl (fun ls hl => ?_)
                refine lv_goto (tgt := 44) hx hb dX0_number_66 (by decide) ?_
                exact ih44 (a + 1) (j + 1) c48 (g2.cnt0 s2 c57) (by omega) H locs ls Y (lv_sub hl [2, 3, 4, 5, 6, 7, 1, 0] rfl)
        exact L44 _ 0 0 (Nat.zero_le _) rfl (Nat.lt_succ_self _) H locs ls Y (lv_sub hl [3, 4, 5, 6, 7, 2, 1, 0] rfl)
  exact L9 _ 0 1 0 0 (Nat.zero_le n) (NumI.start) (Nat.lt_succ_self _) H locs ls Y (lv_sub hl [4, 3, 2, 1, 0] rfl)
set_option maxHeartbeats 4000000 in
set_option maxRecDepth 100000 in
/-- meet -/
theorem c_meet (l : Launch) (D : va_G) (d dz : ClassId) (ad : Nat → Nat) (n : Nat) (lf rt lp rp rw fa ha me wt : Nat → Nat) (my : Nat) (v : Nat) (hn : n ≤ 6) (hv : v < fc n) (hg : ∀ i, i < n → fa i < n) (hp : ∀ i, i < n → oP n v i = lf (6 * i + fa i)) (hme : me v = 0 ∨ me v = 1) (hmy : me v = 0 → my < 720) : CV l yX0_meet cX0_meet 2 1 27 0 0 D d dz [.ref (ad 0)] (WX ad d dz n lf rt lp rp rw fa ha me wt my) (S := (Nat → Nat) × (Nat → Nat) × Nat) (fun u => MtQ me wt my v u.1 u.2.1 u.2.2) (fun u => WX ad d dz n lf rt lp rp rw fa ha (u.1) (u.2.1) (u.2.2)) := by
  refine CV.start (own := RX0) rfl (by decide) (Nat.le_of_ble_eq_true rfl) (fun p e R s m args below meth c A Q X hnm hret H locs ls Y hl => ?_)
  have hx := X.1.1
  have hb := X.1.2.1
  have hl : lv_has ls 2 [(0, .ref (ad 0))] := hl
  have hf := fc_le n (by omega)
  refine lv_aload_n hx hb dX0_meet_0 rfl (lv_at hl 0 rfl) ?_
  refine z_ci (n := 0) (q0 := 0) (ci := 0) (rest := []) X Y (c_number l D d dz ad n lf rt lp rp rw fa ha me wt my v hn hv hg hp) (lw_V q121 q123 qs7 q15 q124) (by decide +kernel) ⟨by decide, by decide⟩ rfl rfl rfl rfl hl.1 rfl (Nat.le_of_ble_eq_true rfl) dX0_meet_1 ⟨Nat.zero_le _, Nat.zero_le _⟩ (fun a1 _u H locs hq Y => ?_)
  subst a1
  have Y : z_W D A s (WX ad d dz n lf rt lp rp rw fa ha me wt my) H locs := Y
  refine lv_istore_n (lv' := [(1, .int (nI v)), (0, .ref (ad 0))]) hx hb dX0_meet_4 rfl hl (by decide) rfl (fun ls hl => ?_)
  refine lv_aload_n hx hb dX0_meet_5 rfl (lv_at hl 1 rfl) ?_
  refine g0_met X Y 0 rfl rfl dX0_meet_6 ?_
  refine lv_iload_n hx hb dX0_meet_9 rfl (lv_at hl 0 rfl) ?_
  refine z_zald X Y 8 rfl (by omega) dX0_meet_10 ?_
  refine z_ifeq (tgt := 15) hx hb dX0_meet_11 (by decide) (by omega) (fun c11 => ?_) (fun c11 => ?_)
  · have hmm := hmy c11
    refine lv_aload_n hx hb dX0_meet_15 rfl (lv_at hl 1 rfl) ?_
    refine g0_met X Y 0 rfl rfl dX0_meet_16 ?_
    refine lv_iload_n hx hb dX0_meet_19 rfl (lv_at hl 0 rfl) ?_
    refine lv_iconst (v := nI 1) hx hb dX0_meet_20 (by decide) ?_
    refine z_zast X Y 8 rfl (by omega) rfl dX0_meet_21 (fun H locs Y => ?_)
    have Y : z_W D A s (WX ad d dz n lf rt lp rp rw fa ha (va_up me v 1) wt my) H locs := Y
    refine lv_aload_n hx hb dX0_meet_22 rfl (lv_at hl 1 rfl) ?_
    refine g0_waiting X Y 0 rfl rfl dX0_meet_23 ?_
    refine lv_aload_n hx hb dX0_meet_26 rfl (lv_at hl 1 rfl) ?_
    refine g0_many X Y 0 rfl rfl dX0_meet_27 ?_
    refine lv_iload_n hx hb dX0_meet_30 rfl (lv_at hl 0 rfl) ?_
    refine z_iast X Y 9 rfl (by omega) dX0_meet_31 (fun H locs Y => ?_)
    have Y : z_W D A s (WX ad d dz n lf rt lp rp rw fa ha (va_up me v 1) (va_up wt my v) my) H locs := Y
    refine lv_aload_n hx hb dX0_meet_32 rfl (lv_at hl 1 rfl) ?_
    refine lv_dup hx hb dX0_meet_33 rfl ?_
    refine g0_many X Y 0 rfl rfl dX0_meet_34 ?_
    refine lv_iconst (v := nI 1) hx hb dX0_meet_37 (by decide) ?_
    refine z_iadd hx hb dX0_meet_38 ?_
    refine p0_many X Y 0 rfl (Nat.le_of_ble_eq_true rfl) dX0_meet_39 (fun H locs Y => ?_)
    have Y : z_W D A s (WX ad d dz n lf rt lp rp rw fa ha (va_up me v 1) (va_up wt my v) (my + 1)) H locs := Y
    exact hret (va_up me v 1, va_up wt my v, my + 1) H locs _ ls (Or.inr ⟨c11, rfl, rfl, rfl⟩) Y dX0_meet_42
  · exact hret (me, wt, my) H locs _ ls (Or.inl ⟨c11, rfl, rfl, rfl⟩) Y dX0_meet_14
set_option maxHeartbeats 4000000 in
set_option maxRecDepth 100000 in
/-- back(k) -/
theorem c_back (l : Launch) (D : va_G) (d dz : ClassId) (ad : Nat → Nat) (n : Nat) (lf rt lp rp rw fa ha me wt : Nat → Nat) (my : Nat) (k : Nat) (hn : n ≤ 6) (hk : k < 2 ^ 31) : CV l yX0_back cX0_back 3 1 26 0 0 D d dz [.ref (ad 0), .int (nI k)] (WX ad d dz n lf rt lp rp rw fa ha me wt my) (S := (Nat → Nat) × (Nat → Nat) × (Nat → Nat)) (fun u => BkI n k lp n u.2.1 u.2.2) (fun u => WX ad d dz n lf rt lp rp (u.1) (u.2.1) (u.2.2) me wt my) := by
  refine CV.start (own := RX0) rfl (by decide) (Nat.le_of_ble_eq_true rfl) (fun p e R s m args below meth c A Q X hnm hret H locs ls Y hl => ?_)
  have hx := X.1.1
  have hb := X.1.2.1
  have hl : lv_has ls 3 [(0, .ref (ad 0)), (1, .int (nI k))] := hl
  refine lv_aload_n hx hb dX0_back_0 rfl (lv_at hl 0 rfl) ?_
  refine lv_iload_n hx hb dX0_back_1 rfl (lv_at hl 1 rfl) ?_
  refine z_cv (n := 1) (q0 := 0) (ci := 0) (rest := []) X Y (c_order l D d dz ad n lf rt lp rp rw fa ha me wt my k hn hk) (lw_V q34 q36 qs2 q15 q37) (by decide +kernel) ⟨by decide, by decide⟩ rfl rfl rfl rfl hl.1 rfl (Nat.le_of_ble_eq_true rfl) dX0_back_2 ⟨Nat.zero_le _, Nat.zero_le _⟩ (fun r1 H locs hp Y => ?_)
  have Y : z_W D A s (WX ad d dz n lf rt lp rp r1 fa ha me wt my) H locs := Y
  refine lv_iconst (v := nI 0) hx hb dX0_back_5 (by decide) ?_
  refine lv_istore_n (lv' := [(2, .int (nI 0)), (0, .ref (ad 0)), (1, .int (nI k))]) hx hb dX0_back_6 rfl hl (by decide) rfl (fun ls hl => ?_)
  have L7 : ∀ (N : Nat) (i : Nat) (g : Nat → Nat) (h : Nat → Nat), i ≤ n → BkI n k lp i g h → n - i < N → ∀ (H : Heap) (locs : List Loc) (ls : Array Slot), z_W D A s (WX ad d dz n lf rt lp rp r1 g h me wt my) H locs → lv_has ls 3 [(0, .ref (ad 0)), (2, .int (nI i))] → W p l e R s m args below meth c H locs 0 0 Q (F0 m 7 ls []) := by
    intro N
    induction N with
    | zero =>
      intro i g h h1 h2 hm
      exact absurd hm (Nat.not_lt_zero _)
    | succ N ih7 =>
      intro i g h h1 h2 hm H locs ls Y hl
      refine lv_iload_n hx hb dX0_back_7 rfl (lv_at hl 1 rfl) ?_
      refine lv_aload_n hx hb dX0_back_8 rfl (lv_at hl 0 rfl) ?_
      refine g0_n X Y 0 rfl rfl dX0_back_9 ?_
      refine z_icge (tgt := 55) hx hb dX0_back_12 (by decide) (by omega) (by omega) (fun c12 => ?_) (fun c12 => ?_)
      · have e : i = n := by omega
        rw [e] at h2
        exact hret (r1, g, h) H locs _ ls h2 Y dX0_back_55
      · have hr := hp i c12
        have ho := oP_lt (k := k) c12
        refine lv_aload_n hx hb dX0_back_15 rfl (lv_at hl 0 rfl) ?_
        refine g0_far X Y 0 rfl rfl dX0_back_16 ?_
        refine lv_iload_n hx hb dX0_back_19 rfl (lv_at hl 1 rfl) ?_
        refine lv_aload_n hx hb dX0_back_20 rfl (lv_at hl 0 rfl) ?_
        refine g0_leftPlace X Y 0 rfl rfl dX0_back_21 ?_
        refine lv_bipush (v := nI 6) hx hb dX0_back_24 (by decide) ?_
        refine lv_iload_n hx hb dX0_back_26 rfl (lv_at hl 1 rfl) ?_
        refine z_imul hx hb dX0_back_27 ?_
        refine lv_aload_n hx hb dX0_back_28 rfl (lv_at hl 0 rfl) ?_
        refine g0_row X Y 0 rfl rfl dX0_back_29 ?_
        refine lv_iload_n hx hb dX0_back_32 rfl (lv_at hl 1 rfl) ?_
        refine z_iald X Y 5 rfl (by omega) dX0_back_33 ?_
        refine z_iadd hx hb dX0_back_34 ?_
        refine z_iald X Y 3 rfl (by omega) dX0_back_35 ?_
        refine z_iast X Y 6 rfl (by omega) dX0_back_36 (fun H locs Y => ?_)
        have Y : z_W D A s (WX ad d dz n lf rt lp rp r1 (va_up g i (lp ((6 * i) + (r1 i)))) h me wt my) H locs := Y
        refine lv_aload_n hx hb dX0_back_37 rfl (lv_at hl 0 rfl) ?_
        refine g0_has X Y 0 rfl rfl dX0_back_38 ?_
        refine lv_aload_n hx hb dX0_back_41 rfl (lv_at hl 0 rfl) ?_
        refine g0_row X Y 0 rfl rfl dX0_back_42 ?_
        refine lv_iload_n hx hb dX0_back_45 rfl (lv_at hl 1 rfl) ?_
        refine z_iald X Y 5 rfl (by omega) dX0_back_46 ?_
        refine lv_iload_n hx hb dX0_back_47 rfl (lv_at hl 1 rfl) ?_
        refine z_iast X Y 7 rfl (by omega) dX0_back_48 (fun H locs Y => ?_)
        have Y : z_W D A s (WX ad d dz n lf rt lp rp r1 (va_up g i (lp ((6 * i) + (r1 i)))) (va_up h (r1 i) i) me wt my) H locs := Y
        refine lv_iinc (v := nI (i + 1)) (lv' := [(2, .int (nI (i + 1))), (0, .ref (ad 0))]) hx hb dX0_back_49 hl (k := 1) rfl (z_inc _) (by decide) rfl (fun ls hl => ?_)
        refine lv_goto (tgt := 7) hx hb dX0_back_52 (by decide) ?_
        exact ih7 (i + 1) (va_up g i (lp ((6 * i) + (r1 i)))) (va_up h (r1 i) i) c12 (h2.step c12 hr) (by omega) H locs ls Y (lv_sub hl [1, 0] rfl)
  exact L7 _ 0 fa ha (Nat.zero_le n) (fun j hj => absurd hj (Nat.not_lt_zero j)) (Nat.lt_succ_self _) H locs ls Y (lv_sub hl [1, 0] rfl)
set_option maxHeartbeats 4000000 in
set_option maxRecDepth 100000 in
/-- part(he) -/
theorem c_part (l : Launch) (D : va_G) (d dz : ClassId) (ad : Nat → Nat) (n : Nat) (lf rt lp rp rw fa ha me wt : Nat → Nat) (my : Nat) (he : Nat) (hn : n ≤ 6) (hL : PfL n lf lp) (hR : PfL n rt rp) (S0 : StM n lf rp fa ha) (hhe : he < n) : CI l yX0_part cX0_part 6 .boolean 0 0 0 0 D d dz [.ref (ad 0), .int (nI he)] (WX ad d dz n lf rt lp rp rw fa ha me wt my) (S := (Nat → Nat) × (Nat → Nat)) (fun r u => PartQ n lf rp fa he r u.1 u.2) (fun u => WX ad d dz n lf rt lp rp rw (u.1) (u.2) me wt my) := by
  refine CI.start (own := RX0) rfl (by decide) (Nat.le_of_ble_eq_true rfl) (fun p e R s m args below meth c A Q X hnm hret H locs ls Y hl => ?_)
  have hx := X.1.1
  have hb := X.1.2.1
  have hl : lv_has ls 6 [(0, .ref (ad 0)), (1, .int (nI he))] := hl
  have hs0 := (S0.1 he hhe).1
  have hsh := (hL he hhe _ hs0).1.1
  refine lv_aload_n hx hb dX0_part_0 rfl (lv_at hl 0 rfl) ?_
  refine g0_left X Y 0 rfl rfl dX0_part_1 ?_
  refine lv_bipush (v := nI 6) hx hb dX0_part_4 (by decide) ?_
  refine lv_iload_n hx hb dX0_part_6 rfl (lv_at hl 1 rfl) ?_
  refine z_imul hx hb dX0_part_7 ?_
  refine lv_aload_n hx hb dX0_part_8 rfl (lv_at hl 0 rfl) ?_
  refine g0_far X Y 0 rfl rfl dX0_part_9 ?_
  refine lv_iload_n hx hb dX0_part_12 rfl (lv_at hl 1 rfl) ?_
  refine z_iald X Y 6 rfl (by omega) dX0_part_13 ?_
  refine z_iadd hx hb dX0_part_14 ?_
  refine z_iald X Y 1 rfl (by omega) dX0_part_15 ?_
  refine lv_istore_n (lv' := [(2, .int (nI (lf ((6 * he) + (fa he))))), (0, .ref (ad 0)), (1, .int (nI he))]) hx hb dX0_part_16 rfl hl (by decide) rfl (fun ls hl => ?_)
  refine lv_iload_n hx hb dX0_part_17 rfl (lv_at hl 2 rfl) ?_
  refine lv_istore_n (lv' := [(3, .int (nI he)), (2, .int (nI (lf ((6 * he) + (fa he))))), (0, .ref (ad 0)), (1, .int (nI he))]) hx hb dX0_part_18 rfl hl (by decide) rfl (fun ls hl => ?_)
  have L19 : ∀ (N : Nat) (w : Nat) (g : Nat → Nat) (h : Nat → Nat), PartI n lf rp fa he w g h → n * n - sm g n < N → ∀ (H : Heap) (locs : List Loc) (ls : Array Slot), z_W D A s (WX ad d dz n lf rt lp rp rw g h me wt my) H locs → lv_has ls 6 [(0, .ref (ad 0)), (2, .int (nI (lf (6 * he + fa he)))), (3, .int (nI w))] → W p l e R s m args below meth c H locs 0 0 Q (F0 m 19 ls []) := by
    intro N
    induction N with
    | zero =>
      intro w g h g1 hm
      exact absurd hm (Nat.not_lt_zero _)
    | succ N ih19 =>
      intro w g h g1 hm H locs ls Y hl
      have hw := g1.1
      have hgw := g1.2.1 w hw
      refine lv_aload_n hx hb dX0_part_19 rfl (lv_at hl 0 rfl) ?_
      refine g0_far X Y 0 rfl rfl dX0_part_20 ?_
      refine lv_iload_n hx hb dX0_part_23 rfl (lv_at hl 2 rfl) ?_
      refine lv_dup2_11 hx hb dX0_part_24 rfl rfl ?_
      refine z_iald X Y 6 rfl (by omega) dX0_part_25 ?_
      refine lv_iconst (v := nI 1) hx hb dX0_part_26 (by decide) ?_
      refine z_iadd hx hb dX0_part_27 ?_
      refine z_iast X Y 6 rfl (by omega) dX0_part_28 (fun H locs Y => ?_)
      have Y : z_W D A s (WX ad d dz n lf rt lp rp rw (va_up g w ((g w) + 1)) h me wt my) H locs := Y
      refine lv_aload_n hx hb dX0_part_29 rfl (lv_at hl 0 rfl) ?_
      refine g0_far X Y 0 rfl rfl dX0_part_30 ?_
      refine lv_iload_n hx hb dX0_part_33 rfl (lv_at hl 2 rfl) ?_
      refine z_iald X Y 6 rfl (by omega) dX0_part_34 ?_
      rw [va_up_self]
      refine lv_aload_n hx hb dX0_part_35 rfl (lv_at hl 0 rfl) ?_
      refine g0_n X Y 0 rfl rfl dX0_part_36 ?_
      refine z_icne (tgt := 44) hx hb dX0_part_39 (by decide) (by omega) (by omega) (fun c39 => ?_) (fun c39 => ?_)
      · have hg1 : g w + 1 < n := by omega
        have hT := (hL w hw _ hg1).1.1
        have hT2 := g1.has hL hhe hT
        refine lv_aload_n hx hb dX0_part_44 rfl (lv_at hl 0 rfl) ?_
        refine g0_left X Y 0 rfl rfl dX0_part_45 ?_
        refine lv_bipush (v := nI 6) hx hb dX0_part_48 (by decide) ?_
        refine lv_iload_n hx hb dX0_part_50 rfl (lv_at hl 2 rfl) ?_
        refine z_imul hx hb dX0_part_51 ?_
        refine lv_aload_n hx hb dX0_part_52 rfl (lv_at hl 0 rfl) ?_
        refine g0_far X Y 0 rfl rfl dX0_part_53 ?_
        refine lv_iload_n hx hb dX0_part_56 rfl (lv_at hl 2 rfl) ?_
        refine z_iald X Y 6 rfl (by omega) dX0_part_57 ?_
        rw [va_up_self]
        refine z_iadd hx hb dX0_part_58 ?_
        refine z_iald X Y 1 rfl (by omega) dX0_part_59 ?_
        refine lv_istore (lv' := [(4, .int (nI (lf ((6 * w) + (g w + 1))))), (0, .ref (ad 0)), (2, .int (nI (lf (6 * he + fa he)))), (3, .int (nI w))]) hx hb dX0_part_60 hl (by decide) rfl (fun ls hl => ?_)
        refine lv_aload_n hx hb dX0_part_62 rfl (lv_at hl 1 rfl) ?_
        refine g0_has X Y 0 rfl rfl dX0_part_63 ?_
        refine lv_iload hx hb dX0_part_66 (lv_at hl 0 rfl) ?_
        refine z_iald X Y 7 rfl (by omega) dX0_part_68 ?_
        refine lv_istore (lv' := [(5, .int (nI (h (lf ((6 * w) + (g w + 1)))))), (4, .int (nI (lf ((6 * w) + (g w + 1))))), (0, .ref (ad 0)), (2, .int (nI (lf (6 * he + fa he)))), (3, .int (nI w))]) hx hb dX0_part_69 hl (by decide) rfl (fun ls hl => ?_)
        have hb1 := (hR (lf (6 * w + (g w + 1))) hT w hw).2.1
        have hb2 := (hR (lf (6 * w + (g w + 1))) hT (h (lf (6 * w + (g w + 1)))) hT2).2.1
        refine lv_aload_n hx hb dX0_part_71 rfl (lv_at hl 2 rfl) ?_
        refine g0_rightPlace X Y 0 rfl rfl dX0_part_72 ?_
        refine lv_bipush (v := nI 6) hx hb dX0_part_75 (by decide) ?_
        refine lv_iload hx hb dX0_part_77 (lv_at hl 1 rfl) ?_
        refine z_imul hx hb dX0_part_79 ?_
        refine lv_iload_n hx hb dX0_part_80 rfl (lv_at hl 4 rfl) ?_
        refine z_iadd hx hb dX0_part_81 ?_
        refine z_iald X Y 4 rfl (by omega) dX0_part_82 ?_
        refine lv_aload_n hx hb dX0_part_83 rfl (lv_at hl 2 rfl) ?_
        refine g0_rightPlace X Y 0 rfl rfl dX0_part_84 ?_
        refine lv_bipush (v := nI 6) hx hb dX0_part_87 (by decide) ?_
        refine lv_iload hx hb dX0_part_89 (lv_at hl 1 rfl) ?_
        refine z_imul hx hb dX0_part_91 ?_
        refine lv_iload hx hb dX0_part_92 (lv_at hl 0 rfl) ?_
        refine z_iadd hx hb dX0_part_94 ?_
        refine z_iald X Y 4 rfl (by omega) dX0_part_95 ?_
        refine z_icle (tgt := 102) hx hb dX0_part_96 (by decide) (by omega) (by omega) (fun c96 => ?_) (fun c96 => ?_)
        · refine lv_aload_n hx hb dX0_part_102 rfl (lv_at hl 2 rfl) ?_
          refine g0_has X Y 0 rfl rfl dX0_part_103 ?_
          refine lv_iload hx hb dX0_part_106 (lv_at hl 1 rfl) ?_
          refine lv_iload_n hx hb dX0_part_108 rfl (lv_at hl 4 rfl) ?_
          refine z_iast X Y 7 rfl (by omega) dX0_part_109 (fun H locs Y => ?_)
          have Y : z_W D A s (WX ad d dz n lf rt lp rp rw (va_up g w ((g w) + 1)) (va_up h (lf ((6 * w) + (g w + 1))) w) me wt my) H locs := Y
          refine lv_iload hx hb dX0_part_110 (lv_at hl 1 rfl) ?_
          refine lv_iload_n hx hb dX0_part_112 rfl (lv_at hl 3 rfl) ?_
          refine z_icne (tgt := 118) hx hb dX0_part_113 (by decide) (by omega) (by omega) (fun c113 => ?_) (fun c113 => ?_)
          · refine lv_iload hx hb dX0_part_118 (lv_at hl 0 rfl) ?_
            refine lv_istore_n (lv' := [(3, .int (nI (h (lf ((6 * w) + (g w + 1)))))), (5, .int (nI (h (lf ((6 * w) + (g w + 1)))))), (4, .int (nI (lf ((6 * w) + (g w + 1))))), (0, .ref (ad 0)), (2, .int (nI (lf (6 * he + fa he))))]) hx hb dX0_part_120 rfl hl (by decide) rfl (fun ls hl => ?_)
            refine lv_goto (tgt := 19) hx hb dX0_part_121 (by decide) ?_
            exact ih19 (h (lf ((6 * w) + (g w + 1)))) (va_up g w ((g w) + 1)) (va_up h (lf ((6 * w) + (g w + 1))) w) (g1.next hL hR hg1 rfl c96 c113) (part_mu hw g1.2.1 hm) H locs ls Y (lv_sub hl [3, 4, 0] rfl)
          · refine lv_iconst (v := nI 1) hx hb dX0_part_116 (by decide) ?_
            exact hret 1 (va_up g w (g w + 1), va_up h (lf (6 * w + (g w + 1))) w) H locs _ ls (Or.inl ⟨rfl, g1.done hL hg1 rfl c96 c113⟩) Y rfl dX0_part_117
        · refine lv_goto (tgt := 19) hx hb dX0_part_99 (by decide) ?_
          exact ih19 w (va_up g w ((g w) + 1)) h (g1.cont hL hhe hg1 rfl c96) (part_mu hw g1.2.1 hm) H locs ls Y (lv_sub hl [2, 3, 4] rfl)
      · refine lv_iconst (v := nI 0) hx hb dX0_part_42 (by decide) ?_
        exact hret 0 (va_up g w (g w + 1), h) H locs _ ls (Or.inr ⟨rfl, g1.fail c39⟩) Y rfl dX0_part_43
  exact L19 _ he fa ha (PartI.start hL S0 hhe) (Nat.lt_succ_self _) H locs ls Y (lv_sub hl [2, 1, 0] rfl)
end
section
/-! ===== pure: steady ===== -/
def bN (b : Bool) : Nat := if b = true then 1 else 0
theorem bN_le (b : Bool) : bN b ≤ 1 := by cases b <;> decide
theorem bN_t {n v : Nat} {lp rp : Nat → Nat} (h : RN n lp rp v) : 1 = bN (rn n lp rp v) := by
  rw [rn_iff.mpr h]
  rfl
theorem bN_f {n v : Nat} {lp rp : Nat → Nat} (h : ¬ RN n lp rp v) : 0 = bN (rn n lp rp v) := by
  rw [rn_not h]
  rfl
theorem BkI.has {n v w : Nat} {lp g h : Nat → Nat} (hb : BkI n v lp n g h) (hw : w < n) : h w < n := by
  obtain ⟨c, h1, h2⟩ := oP_sur (k := v) hw
  rw [← h2, (hb c h1).2]
  exact h1
theorem BkI.far {n v i : Nat} {lf lp g h : Nat → Nat} (hL : PfL n lf lp) (hb : BkI n v lp n g h) (hi : i < n) : g i < n := by
  rw [(hb i hi).1]
  exact (hL i hi _ (oP_lt hi)).2.1
theorem BkI.yes {n v : Nat} {lf lp rp g h : Nat → Nat} (hL : PfL n lf lp) (hb : BkI n v lp n g h) (ha : ∀ a, a < n → ∀ f, f < g a → rp (6 * lf (6 * a + f) + h (lf (6 * a + f))) ≤ rp (6 * lf (6 * a + f) + a)) : RN n lp rp v := by
  refine (RN_St (h := h) (rt := lf) hL (fun c hc => (hb c hc).2)).mpr (StM.congr (g := g) (h := h) hL ⟨fun i hi => ⟨hb.far hL hi, ?_⟩, ha⟩ (fun i hi => ((hb i hi).1).symm) (fun _ _ => rfl))
  rw [(hb i hi).1, (hL i hi _ (oP_lt hi)).2.2]
  exact (hb i hi).2
theorem BkI.no {n v i f : Nat} {lf lp rp g h : Nat → Nat} (hL : PfL n lf lp) (hb : BkI n v lp n g h) (hi : i < n) (hf : f < g i) (hlt : rp (6 * lf (6 * i + f) + i) < rp (6 * lf (6 * i + f) + h (lf (6 * i + f)))) : ¬ RN n lp rp v := by
  intro R
  have := (Bk_St hL hb R).2 i hi f hf
  omega
theorem lt_ex {i : Nat} {p : Nat → Prop} (h : ∀ a, a < i → p a) (hi : p i) : ∀ a, a < i + 1 → p a := by
  intro a ha
  by_cases e : a = i
  · rw [e]; exact hi
  · exact h a (by omega)
end
section
set_option maxHeartbeats 4000000 in
set_option maxRecDepth 100000 in
/-- steadyOnes: how many rest -/
theorem c_steadyOnes (l : Launch) (D : va_G) (d dz : ClassId) (ad : Nat → Nat) (n : Nat) (lf rt lp rp rw fa ha me wt : Nat → Nat) (my : Nat) (hn0 : 0 < n) (hn : n ≤ 6) (hL : PfL n lf lp) (hR : PfL n rt rp) : CI l yX0_steadyOnes cX0_steadyOnes 3 .int 2 49 0 0 D d dz [.ref (ad 0)] (WX ad d dz n lf rt lp rp rw fa ha me wt my) (S := (Nat → Nat) × (Nat → Nat) × (Nat → Nat) × (Nat → Nat) × (Nat → Nat) × Nat) (fun k _ => k = cT (rn n lp rp) (fc n)) (fun u => WX ad d dz n lf rt lp rp (u.1) (u.2.1) (u.2.2.1) (u.2.2.2.1) (u.2.2.2.2.1) (u.2.2.2.2.2)) := by
  refine CI.start (own := RX0) rfl (by decide) (Nat.le_of_ble_eq_true rfl) (fun p e R s m args below meth c A Q X hnm hret H locs ls Y hl => ?_)
  have hx := X.1.1
  have hb := X.1.2.1
  have hl : lv_has ls 3 [(0, .ref (ad 0))] := hl
  have hf := fc_le n (by omega)
  refine lv_aload_n hx hb dX0_steadyOnes_0 rfl (lv_at hl 0 rfl) ?_
  refine g0_met X Y 0 rfl rfl dX0_steadyOnes_1 ?_
  refine lv_iconst (v := nI 0) hx hb dX0_steadyOnes_4 (by decide) ?_
  refine z_csS (n := 2) (wr := (WX ad d dz n lf rt lp rp rw fa ha me wt my).eraseIdx 8) (rest := []) X Y [8] [0, 1, 2, 3, 4, 5, 6, 7, 9] rfl rfl (by decide) (by decide) (by decide) (c_fillz l D d dz (ad 8) me) (lw_S q114 q115 q17 q116) (by decide +kernel) ⟨by decide, by decide⟩ rfl hl.1 rfl (Nat.le_of_ble_eq_true rfl) dX0_steadyOnes_5 ⟨Nat.zero_le _, Nat.zero_le _⟩ (fun me0 H locs hz Y => ?_)
  have Y : z_W D A s (WX ad d dz n lf rt lp rp rw fa ha me0 wt my) H locs := Y.sub [0, 1, 2, 3, 4, 5, 6, 7, 9, 8] (by decide) rfl
  refine lv_aload_n hx hb dX0_steadyOnes_8 rfl (lv_at hl 0 rfl) ?_
  refine lv_iconst (v := nI 0) hx hb dX0_steadyOnes_9 (by decide) ?_
  refine p0_many X Y 0 rfl (Nat.le_of_ble_eq_true rfl) dX0_steadyOnes_10 (fun H locs Y => ?_)
  have Y : z_W D A s (WX ad d dz n lf rt lp rp rw fa ha me0 wt 0) H locs := Y
  refine lv_aload_n hx hb dX0_steadyOnes_13 rfl (lv_at hl 0 rfl) ?_
  refine lv_aload_n hx hb dX0_steadyOnes_14 rfl (lv_at hl 0 rfl) ?_
  refine g0_left X Y 0 rfl rfl dX0_steadyOnes_15 ?_
  refine lv_aload_n hx hb dX0_steadyOnes_18 rfl (lv_at hl 0 rfl) ?_
  refine g0_rightPlace X Y 0 rfl rfl dX0_steadyOnes_19 ?_
  refine z_cv (n := 2) (q0 := 0) (ci := 0) (rest := []) X Y (c_askl l D d dz ad n lf rt lp rp rw fa ha me0 wt 0 hn0 hn hL hR) (lw_V q99 q101 qs5 q15 q102) (by decide +kernel) ⟨by decide, by decide⟩ rfl rfl rfl rfl hl.1 rfl (Nat.le_of_ble_eq_true rfl) dX0_steadyOnes_22 ⟨Nat.zero_le _, Nat.zero_le _⟩ (fun u0 H locs hp Y => ?_)
  have Y : z_W D A s (WX ad d dz n lf rt lp rp rw (u0.1) (u0.2) me0 wt 0) H locs := Y
  obtain ⟨v0, hv0, hnum, hgk, hrn⟩ := hp.1.num (by omega) hL
  have hz1 : ∀ v, v < fc n → me0 v = 0 := fun v hv => hz v (by omega)
  refine lv_aload_n hx hb dX0_steadyOnes_25 rfl (lv_at hl 0 rfl) ?_
  refine z_cv (n := 0) (q0 := 0) (ci := 0) (rest := []) X Y (c_meet l D d dz ad n lf rt lp rp rw (u0.1) (u0.2) me0 wt 0 v0 hn hv0 (fun i hi => (hp.1.1 i hi).1) hnum (Or.inl (hz1 v0 hv0)) (fun _ => by decide)) (lw_V q117 q119 qs6 q15 q120) (by decide +kernel) ⟨by decide, by decide⟩ rfl rfl rfl rfl hl.1 rfl (Nat.le_of_ble_eq_true rfl) dX0_steadyOnes_26 ⟨Nat.zero_le _, Nat.zero_le _⟩ (fun u1 H locs M0 Y => ?_)
  have Y : z_W D A s (WX ad d dz n lf rt lp rp rw (u0.1) (u0.2) (u1.1) (u1.2.1) (u1.2.2)) H locs := Y
  obtain ⟨I0, J0⟩ := MtQ.first (SrI.start hz1) hz1 hv0 hrn M0
  refine lv_iconst (v := nI 0) hx hb dX0_steadyOnes_29 (by decide) ?_
  refine lv_istore_n (lv' := [(1, .int (nI 0)), (0, .ref (ad 0))]) hx hb dX0_steadyOnes_30 rfl hl (by decide) rfl (fun ls hl => ?_)
  have L31 : ∀ (N : Nat) (k : Nat) (r1 : Nat → Nat) (g1 : Nat → Nat) (h1 : Nat → Nat) (mq : Nat → Nat) (wq : Nat → Nat) (y1 : Nat), SrI n lp rp mq wq y1 → SrD n lp rp mq wq k 0 v0 → k ≤ y1 → fc n - k < N → ∀ (H : Heap) (locs : List Loc) (ls : Array Slot), z_W D A s (WX ad d dz n lf rt lp rp r1 g1 h1 mq wq y1) H locs → lv_has ls 3 [(0, .ref (ad 0)), (1, .int (nI k))] → W p l e R s m args below meth c H locs 0 0 Q (F0 m 31 ls []) := by
    intro N
    induction N with
    | zero =>
      intro k r1 g1 h1 mq wq y1 i1 i2 i3 hm
      exact absurd hm (Nat.not_lt_zero _)
    | succ N ih31 =>
      intro k r1 g1 h1 mq wq y1 i1 i2 i3 hm H locs ls Y hl
      have hy := i1.le
      refine lv_iload_n hx hb dX0_steadyOnes_31 rfl (lv_at hl 1 rfl) ?_
      refine lv_aload_n hx hb dX0_steadyOnes_32 rfl (lv_at hl 0 rfl) ?_
      refine g0_many X Y 0 rfl rfl dX0_steadyOnes_33 ?_
      refine z_icge (tgt := 83) hx hb dX0_steadyOnes_36 (by decide) (by omega) (by omega) (fun c36 => ?_) (fun c36 => ?_)
      · refine lv_aload_n hx hb dX0_steadyOnes_83 rfl (lv_at hl 0 rfl) ?_
        refine g0_many X Y 0 rfl rfl dX0_steadyOnes_84 ?_
        exact hret y1 (r1, g1, h1, mq, wq, y1) H locs _ ls (SrI.all (by omega) hL i1 hv0 i2.1 (fun v hv hr i hi => by rw [hgk i hi]; exact hp.2 _ _ ((RN_iv hL).mp hr) i hi) (fun j hj => i2.2.1 j (by omega))) Y rfl dX0_steadyOnes_87
      · refine lv_iconst (v := nI 0) hx hb dX0_steadyOnes_39 (by decide) ?_
        refine lv_istore_n (lv' := [(2, .int (nI 0)), (0, .ref (ad 0)), (1, .int (nI k))]) hx hb dX0_steadyOnes_40 rfl hl (by decide) rfl (fun ls hl => ?_)
        have L41 : ∀ (N : Nat) (he : Nat) (r2 : Nat → Nat) (g2 : Nat → Nat) (h2 : Nat → Nat) (mq2 : Nat → Nat) (wq2 : Nat → Nat) (y2 : Nat), SrI n lp rp mq2 wq2 y2 → SrD n lp rp mq2 wq2 k he v0 → k < y2 → he ≤ n → n - he < N → ∀ (H : Heap) (locs : List Loc) (ls : Array Slot), z_W D A s (WX ad d dz n lf rt lp rp r2 g2 h2 mq2 wq2 y2) H locs → lv_has ls 3 [(0, .ref (ad 0)), (1, .int (nI k)), (2, .int (nI he))] → W p l e R s m args below meth c H locs 0 0 Q (F0 m 41 ls []) := by
          intro N
          induction N with
          | zero =>
            intro he r2 g2 h2 mq2 wq2 y2 j1 j2 j3 j4 hm
            exact absurd hm (Nat.not_lt_zero _)
          | succ N ih41 =>
            intro he r2 g2 h2 mq2 wq2 y2 j1 j2 j3 j4 hm H locs ls Y hl
            have hy2 := j1.le
            refine lv_iload_n hx hb dX0_steadyOnes_41 rfl (lv_at hl 2 rfl) ?_
            refine lv_aload_n hx hb dX0_steadyOnes_42 rfl (lv_at hl 0 rfl) ?_
            refine g0_n X Y 0 rfl rfl dX0_steadyOnes_43 ?_
            refine z_icge (tgt := 77) hx hb dX0_steadyOnes_46 (by decide) (by omega) (by omega) (fun c46 => ?_) (fun c46 => ?_)
            · refine lv_iinc (v := nI (k + 1)) (lv' := [(1, .int (nI (k + 1))), (0, .ref (ad 0)), (2, .int (nI he))]) hx hb dX0_steadyOnes_77 hl (k := 1) rfl (z_inc _) (by decide) rfl (fun ls hl => ?_)
              refine lv_goto (tgt := 31) hx hb dX0_steadyOnes_80 (by decide) ?_
              have e : he = n := by omega
              rw [e] at j2
              exact ih31 (k + 1) r2 g2 h2 mq2 wq2 y2 j1 (j2.next) j3 (by omega) H locs ls Y (lv_sub hl [1, 0] rfl)
            · have hwk := j1.2.2.1 k j3
              have hrk := (j1.2.1 _ hwk.1 hwk.2).1
              refine lv_aload_n hx hb dX0_steadyOnes_49 rfl (lv_at hl 0 rfl) ?_
              refine lv_aload_n hx hb dX0_steadyOnes_50 rfl (lv_at hl 0 rfl) ?_
              refine g0_waiting X Y 0 rfl rfl dX0_steadyOnes_51 ?_
              refine lv_iload_n hx hb dX0_steadyOnes_54 rfl (lv_at hl 1 rfl) ?_
              refine z_iald X Y 9 rfl (by omega) dX0_steadyOnes_55 ?_
              refine z_cv (n := 1) (q0 := 0) (ci := 0) (rest := []) X Y (c_back l D d dz ad n lf rt lp rp r2 g2 h2 mq2 wq2 y2 (wq2 k) hn (by omega)) (lw_V q125 q127 qs8 q15 q128) (by decide +kernel) ⟨by decide, by decide⟩ rfl rfl rfl rfl hl.1 rfl (Nat.le_of_ble_eq_true rfl) dX0_steadyOnes_56 ⟨Nat.zero_le _, Nat.zero_le _⟩ (fun ub H locs hb1 Y => ?_)
              have Y : z_W D A s (WX ad d dz n lf rt lp rp (ub.1) (ub.2.1) (ub.2.2) mq2 wq2 y2) H locs := Y
              refine lv_aload_n hx hb dX0_steadyOnes_59 rfl (lv_at hl 0 rfl) ?_
              refine lv_iload_n hx hb dX0_steadyOnes_60 rfl (lv_at hl 2 rfl) ?_
              refine z_ci (n := 1) (q0 := 0) (ci := 0) (rest := []) X Y (c_part l D d dz ad n lf rt lp rp (ub.1) (ub.2.1) (ub.2.2) mq2 wq2 y2 he hn hL hR (Bk_St hL hb1 hrk) c46) (lw_V q129 q131 qs9 q15 q132) (by decide +kernel) ⟨by decide, by decide⟩ rfl rfl rfl rfl hl.1 rfl (Nat.le_of_ble_eq_true rfl) dX0_steadyOnes_61 ⟨Nat.zero_le _, Nat.zero_le _⟩ (fun rr up H locs hq Y => ?_)
              have Y : z_W D A s (WX ad d dz n lf rt lp rp (ub.1) (up.1) (up.2) mq2 wq2 y2) H locs := Y
              have hq := hq.congr (g0' := gk n lp (wq2 k)) c46 (fun i hi => (hb1 i hi).1)
              refine z_ifeq (tgt := 71) hx hb dX0_steadyOnes_64 (by decide) (by rcases hq with ⟨q, _⟩ | ⟨q, _⟩ <;> omega) (fun c64 => ?_) (fun c64 => ?_)
              · refine lv_iinc (v := nI (he + 1)) (lv' := [(2, .int (nI (he + 1))), (0, .ref (ad 0)), (1, .int (nI k))]) hx hb dX0_steadyOnes_71 hl (k := 2) rfl (z_inc _) (by decide) rfl (fun ls hl => ?_)
                refine lv_goto (tgt := 41) hx hb dX0_steadyOnes_74 (by decide) ?_
                exact ih41 (he + 1) (ub.1) (up.1) (up.2) mq2 wq2 y2 j1 (by rw [c64] at hq; exact MtQ.none hL j2 hq) j3 c46 (by omega) H locs ls Y (lv_sub hl [1, 2, 0] rfl)
              · have hs : StM n lf rp up.1 up.2 := hq.elim (fun q => q.2.1) (fun q => absurd q.1 c64)
                obtain ⟨v1, hv1, hnm, hgk1, hrn1⟩ := hs.num (by omega) hL
                refine lv_aload_n hx hb dX0_steadyOnes_67 rfl (lv_at hl 0 rfl) ?_
                refine z_cv (n := 0) (q0 := 0) (ci := 0) (rest := []) X Y (c_meet l D d dz ad n lf rt lp rp (ub.1) (up.1) (up.2) mq2 wq2 y2 v1 hn hv1 (fun i hi => (hs.1 i hi).1) hnm (j1.1 v1 hv1) (fun hz => by have := (j1.add hv1 hrn1 hz).1; omega)) (lw_V q117 q119 qs6 q15 q120) (by decide +kernel) ⟨by decide, by decide⟩ rfl rfl rfl rfl hl.1 rfl (Nat.le_of_ble_eq_true rfl) dX0_steadyOnes_68 ⟨Nat.zero_le _, Nat.zero_le _⟩ (fun um H locs M1 Y => ?_)
                have Y : z_W D A s (WX ad d dz n lf rt lp rp (ub.1) (up.1) (up.2) (um.1) (um.2.1) (um.2.2)) H locs := Y
                obtain ⟨k1, k2, k3⟩ := MtQ.step hL j1 j2 j3 hq hv1 hgk1 hrn1 M1
                refine lv_iinc (v := nI (he + 1)) (lv' := [(2, .int (nI (he + 1))), (0, .ref (ad 0)), (1, .int (nI k))]) hx hb dX0_steadyOnes_71 hl (k := 2) rfl (z_inc _) (by decide) rfl (fun ls hl => ?_)
                refine lv_goto (tgt := 41) hx hb dX0_steadyOnes_74 (by decide) ?_
                exact ih41 (he + 1) (ub.1) (up.1) (up.2) (um.1) (um.2.1) (um.2.2) k1 k2 k3 c46 (by omega) H locs ls Y (lv_sub hl [1, 2, 0] rfl)
        exact L41 _ 0 r1 g1 h1 mq wq y1 i1 i2 c36 (Nat.zero_le n) (Nat.lt_succ_self _) H locs ls Y (lv_sub hl [1, 2, 0] rfl)
  exact L31 _ 0 rw (u0.1) (u0.2) (u1.1) (u1.2.1) (u1.2.2) I0 J0 (Nat.zero_le _) (Nat.lt_succ_self _) H locs ls Y (lv_sub hl [1, 0] rfl)
set_option maxHeartbeats 4000000 in
set_option maxRecDepth 100000 in
/-- steady(x) -/
theorem c_steady (l : Launch) (D : va_G) (d dz : ClassId) (ad : Nat → Nat) (n : Nat) (lf rt lp rp rw fa ha me wt : Nat → Nat) (my : Nat) (x : Int32) (hn0 : 0 < n) (hn : n ≤ 6) (hL : PfL n lf lp) (hR : PfL n rt rp) : CI l yX0_steady cX0_steady 5 .boolean 2 48 0 0 D d dz [.ref (ad 0), .int x] (WX ad d dz n lf rt lp rp rw fa ha me wt my) (S := (Nat → Nat) × (Nat → Nat) × (Nat → Nat)) (fun k _ => k = bN (rn n lp rp (mx x % fc n))) (fun u => WX ad d dz n lf rt lp rp (u.1) (u.2.1) (u.2.2) me wt my) := by
  refine CI.start (own := RX0) rfl (by decide) (Nat.le_of_ble_eq_true rfl) (fun p e R s m args below meth c A Q X hnm hret H locs ls Y hl => ?_)
  have hx := X.1.1
  have hb := X.1.2.1
  have hl : lv_has ls 5 [(0, .ref (ad 0)), (1, .int x)] := hl
  have hf := fc_le n (by omega)
  refine lv_aload_n hx hb dX0_steady_0 rfl (lv_at hl 0 rfl) ?_
  refine lv_iload_n hx hb dX0_steady_1 rfl (lv_at hl 1 rfl) ?_
  refine lv_ldc (v := 2147483647) hx hb X.1.2.2.2.1 (X.1.2.2.2.2 _ q78) dX0_steady_2 ?_
  refine z_iand hx hb dX0_steady_4 ?_
  refine lv_aload_n hx hb dX0_steady_5 rfl (lv_at hl 0 rfl) ?_
  refine z_ci (n := 0) (q0 := 0) (ci := 0) (rest := [.int (nI (mx x)), .ref (ad 0)]) X Y (c_orders l D d dz ad n lf rt lp rp rw fa ha me wt my hn0 hn) (lw_V q87 q89 qs4 q15 q90) (by decide +kernel) ⟨by decide, by decide⟩ rfl rfl rfl rfl hl.1 rfl (Nat.le_of_ble_eq_true rfl) dX0_steady_6 ⟨Nat.zero_le _, Nat.zero_le _⟩ (fun a2 _u H locs hq Y => ?_)
  subst a2
  have Y : z_W D A s (WX ad d dz n lf rt lp rp rw fa ha me wt my) H locs := Y
  refine z_irem hx hb dX0_steady_9 (mx_lt x) (fc_pos n) (by omega) ?_
  refine z_cv (n := 1) (q0 := 0) (ci := 0) (rest := []) X Y (c_back l D d dz ad n lf rt lp rp rw fa ha me wt my (mx x % fc n) hn (Nat.lt_of_le_of_lt (Nat.mod_le _ _) (mx_lt x))) (lw_V q125 q127 qs8 q15 q128) (by decide +kernel) ⟨by decide, by decide⟩ rfl rfl rfl rfl hl.1 rfl (Nat.le_of_ble_eq_true rfl) dX0_steady_10 ⟨Nat.zero_le _, Nat.zero_le _⟩ (fun ub H locs hb1 Y => ?_)
  have Y : z_W D A s (WX ad d dz n lf rt lp rp (ub.1) (ub.2.1) (ub.2.2) me wt my) H locs := Y
  refine lv_iconst (v := nI 0) hx hb dX0_steady_13 (by decide) ?_
  refine lv_istore_n (lv' := [(2, .int (nI 0)), (0, .ref (ad 0)), (1, .int x)]) hx hb dX0_steady_14 rfl hl (by decide) rfl (fun ls hl => ?_)
  have L15 : ∀ (N : Nat) (i : Nat), i ≤ n → (∀ a, a < i → ∀ f, f < ub.2.1 a → rp (6 * lf (6 * a + f) + ub.2.2 (lf (6 * a + f))) ≤ rp (6 * lf (6 * a + f) + a)) → n - i < N → ∀ (H : Heap) (locs : List Loc) (ls : Array Slot), z_W D A s (WX ad d dz n lf rt lp rp (ub.1) (ub.2.1) (ub.2.2) me wt my) H locs → lv_has ls 5 [(0, .ref (ad 0)), (2, .int (nI i))] → W p l e R s m args below meth c H locs 0 0 Q (F0 m 15 ls []) := by
    intro N
    induction N with
    | zero =>
      intro i g1 g2 hm
      exact absurd hm (Nat.not_lt_zero _)
    | succ N ih15 =>
      intro i g1 g2 hm H locs ls Y hl
      refine lv_iload_n hx hb dX0_steady_15 rfl (lv_at hl 1 rfl) ?_
      refine lv_aload_n hx hb dX0_steady_16 rfl (lv_at hl 0 rfl) ?_
      refine g0_n X Y 0 rfl rfl dX0_steady_17 ?_
      refine z_icge (tgt := 95) hx hb dX0_steady_20 (by decide) (by omega) (by omega) (fun c20 => ?_) (fun c20 => ?_)
      · refine lv_iconst (v := nI 1) hx hb dX0_steady_95 (by decide) ?_
        exact hret 1 ub H locs _ ls (bN_t (hb1.yes hL (fun a ha => g2 a (by omega)))) Y rfl dX0_steady_96
      · have hgi := hb1.far hL c20
        refine lv_iconst (v := nI 0) hx hb dX0_steady_23 (by decide) ?_
        refine lv_istore_n (lv' := [(3, .int (nI 0)), (0, .ref (ad 0)), (2, .int (nI i))]) hx hb dX0_steady_24 rfl hl (by decide) rfl (fun ls hl => ?_)
        have L25 : ∀ (N : Nat) (f : Nat), f ≤ ub.2.1 i → (∀ f1, f1 < f → rp (6 * lf (6 * i + f1) + ub.2.2 (lf (6 * i + f1))) ≤ rp (6 * lf (6 * i + f1) + i)) → ub.2.1 i - f < N → ∀ (H : Heap) (locs : List Loc) (ls : Array Slot), z_W D A s (WX ad d dz n lf rt lp rp (ub.1) (ub.2.1) (ub.2.2) me wt my) H locs → lv_has ls 5 [(0, .ref (ad 0)), (2, .int (nI i)), (3, .int (nI f))] → W p l e R s m args below meth c H locs 0 0 Q (F0 m 25 ls []) := by
          intro N
          induction N with
          | zero =>
            intro f s1 s2 hm
            exact absurd hm (Nat.not_lt_zero _)
          | succ N ih25 =>
            intro f s1 s2 hm H locs ls Y hl
            refine lv_iload_n hx hb dX0_steady_25 rfl (lv_at hl 2 rfl) ?_
            refine lv_aload_n hx hb dX0_steady_26 rfl (lv_at hl 0 rfl) ?_
            refine g0_far X Y 0 rfl rfl dX0_steady_27 ?_
            refine lv_iload_n hx hb dX0_steady_30 rfl (lv_at hl 1 rfl) ?_
            refine z_iald X Y 6 rfl (by omega) dX0_steady_31 ?_
            refine z_icge (tgt := 89) hx hb dX0_steady_32 (by decide) (by omega) (by omega) (fun c32 => ?_) (fun c32 => ?_)
            · refine lv_iinc (v := nI (i + 1)) (lv' := [(2, .int (nI (i + 1))), (0, .ref (ad 0)), (3, .int (nI f))]) hx hb dX0_steady_89 hl (k := 1) rfl (z_inc _) (by decide) rfl (fun ls hl => ?_)
              refine lv_goto (tgt := 15) hx hb dX0_steady_92 (by decide) ?_
              exact ih15 (i + 1) c20 (lt_ex g2 (fun f1 hf1 => s2 f1 (by omega))) (by omega) H locs ls Y (lv_sub hl [1, 0] rfl)
            · have hT := (hL i c20 f (by omega)).1.1
              have hT2 := hb1.has hT
              have hq1 := (hR (lf (6 * i + f)) hT i c20).2.1
              have hq2 := (hR (lf (6 * i + f)) hT (ub.2.2 (lf (6 * i + f))) hT2).2.1
              refine lv_aload_n hx hb dX0_steady_35 rfl (lv_at hl 0 rfl) ?_
              refine g0_left X Y 0 rfl rfl dX0_steady_36 ?_
              refine lv_bipush (v := nI 6) hx hb dX0_steady_39 (by decide) ?_
              refine lv_iload_n hx hb dX0_steady_41 rfl (lv_at hl 1 rfl) ?_
              refine z_imul hx hb dX0_steady_42 ?_
              refine lv_iload_n hx hb dX0_steady_43 rfl (lv_at hl 2 rfl) ?_
              refine z_iadd hx hb dX0_steady_44 ?_
              refine z_iald X Y 1 rfl (by omega) dX0_steady_45 ?_
              refine lv_istore (lv' := [(4, .int (nI (lf ((6 * i) + f)))), (0, .ref (ad 0)), (2, .int (nI i)), (3, .int (nI f))]) hx hb dX0_steady_46 hl (by decide) rfl (fun ls hl => ?_)
              refine lv_aload_n hx hb dX0_steady_48 rfl (lv_at hl 1 rfl) ?_
              refine g0_rightPlace X Y 0 rfl rfl dX0_steady_49 ?_
              refine lv_bipush (v := nI 6) hx hb dX0_steady_52 (by decide) ?_
              refine lv_iload hx hb dX0_steady_54 (lv_at hl 0 rfl) ?_
              refine z_imul hx hb dX0_steady_56 ?_
              refine lv_iload_n hx hb dX0_steady_57 rfl (lv_at hl 2 rfl) ?_
              refine z_iadd hx hb dX0_steady_58 ?_
              refine z_iald X Y 4 rfl (by omega) dX0_steady_59 ?_
              refine lv_aload_n hx hb dX0_steady_60 rfl (lv_at hl 1 rfl) ?_
              refine g0_rightPlace X Y 0 rfl rfl dX0_steady_61 ?_
              refine lv_bipush (v := nI 6) hx hb dX0_steady_64 (by decide) ?_
              refine lv_iload hx hb dX0_steady_66 (lv_at hl 0 rfl) ?_
              refine z_imul hx hb dX0_steady_68 ?_
              refine lv_aload_n hx hb dX0_steady_69 rfl (lv_at hl 1 rfl) ?_
              refine g0_has X Y 0 rfl rfl dX0_steady_70 ?_
              refine lv_iload hx hb dX0_steady_73 (lv_at hl 0 rfl) ?_
              refine z_iald X Y 7 rfl (by omega) dX0_steady_75 ?_
              refine z_iadd hx hb dX0_steady_76 ?_
              refine z_iald X Y 4 rfl (by omega) dX0_steady_77 ?_
              refine z_icge (tgt := 83) hx hb dX0_steady_78 (by decide) (by omega) (by omega) (fun c78 => ?_) (fun c78 => ?_)
              · refine lv_iinc (v := nI (f + 1)) (lv' := [(3, .int (nI (f + 1))), (4, .int (nI (lf ((6 * i) + f)))), (0, .ref (ad 0)), (2, .int (nI i))]) hx hb dX0_steady_83 hl (k := 3) rfl (z_inc _) (by decide) rfl (fun ls hl => ?_)
                refine lv_goto (tgt := 25) hx hb dX0_steady_86 (by decide) ?_
                exact ih25 (f + 1) c32 (lt_ex s2 c78) (by omega) H locs ls Y (lv_sub hl [2, 3, 0] rfl)
              · refine lv_iconst (v := nI 0) hx hb dX0_steady_81 (by decide) ?_
                exact hret 0 ub H locs _ ls (bN_f (hb1.no hL c20 c32 c78)) Y rfl dX0_steady_82
        exact L25 _ 0 (Nat.zero_le _) (fun a ha => absurd ha (Nat.not_lt_zero a)) (Nat.lt_succ_self _) H locs ls Y (lv_sub hl [1, 2, 0] rfl)
  exact L15 _ 0 (Nat.zero_le n) (fun a ha => absurd ha (Nat.not_lt_zero a)) (Nat.lt_succ_self _) H locs ls Y (lv_sub hl [1, 0] rfl)
end
section
/-! ===== pure: the reference's loops ===== -/
def adr (q : List Nat) : Nat → Nat := fun k => q.getD k 0
theorem up_m6 {i : Nat} {r : Nat → Nat} (h : ∀ j, j < i → r j = j % 6) : ∀ j, j < i + 1 → va_up r i (i % 6) j = j % 6 := by
  intro j hj
  by_cases e : j = i
  · rw [e, va_up_self]
  · rw [va_up_ne _ _ e]
    exact h j (by omega)
theorem m6_fr {n : Nat} {f q : Nat → Nat} (hn : n ≤ 6) (hf : ∀ j, j < 36 → f j = j % 6) (hq : ∀ j, j < 36 → q j = j % 6) : FrI n n f q := by
  intro a ha j hj
  rw [hf _ (by omega), hq _ (by omega)]
  exact ⟨by omega, by omega⟩
theorem FrI.ag {n : Nat} {f q f' q' : Nat → Nat} (h : FrI n n f q) (h' : FrI n n f' q') : Ag n f f' ∧ Ag n q q' :=
  ⟨fun a ha i hi => (h a ha i hi).1.trans (h' a ha i hi).1.symm, fun a ha i hi => (h a ha i hi).2.trans (h' a ha i hi).2.symm⟩
def MaI (n v i : Nat) (m : Nat → Nat) : Prop := ∀ j, j < i → m (oP n v j) = j
theorem MaI.step {n v i w : Nat} {m : Nat → Nat} (h : MaI n v i m) (hi : i < n) (hw : w = oP n v i) : MaI n v (i + 1) (va_up m w i) := by
  intro j hj
  rw [hw]
  by_cases e : j = i
  · rw [e, va_up_self]
  · have hne : oP n v j ≠ oP n v i := fun q => e (oP_inj (by omega) hi q)
    rw [va_up_ne _ _ hne]
    exact h j (by omega)
theorem MaI.iv {n v b : Nat} {m : Nat → Nat} (h : MaI n v n m) (hb : b < n) : m b = iv n v b := by
  obtain ⟨h1, h2⟩ := iv_lt (k := v) hb
  have h3 := h _ h1
  rw [h2] at h3
  exact h3
def BsI (n : Nat) (R : Nat → Bool) (val : Nat → Nat → Nat) (k i : Nat) (b : Nat → Nat) : Prop := (∀ j, j < i → j < n → b j = bs n R (val j) (k + 1)) ∧ ∀ j, i ≤ j → j < n → b j = bs n R (val j) k
theorem BsI.start {n k : Nat} {R : Nat → Bool} {val : Nat → Nat → Nat} {b : Nat → Nat} (h : ∀ j, j < n → b j = bs n R (val j) k) : BsI n R val k 0 b := ⟨fun j hj => absurd hj (Nat.not_lt_zero j), fun j _ hj => h j hj⟩
theorem BsI.done {n k i : Nat} {R : Nat → Bool} {val : Nat → Nat → Nat} {b : Nat → Nat} (h : BsI n R val k i b) (hi : n ≤ i) : ∀ j, j < n → b j = bs n R (val j) (k + 1) := fun j hj => h.1 j (by omega) hj
theorem BsI.at {n k i : Nat} {R : Nat → Bool} {val : Nat → Nat → Nat} {b : Nat → Nat} (h : BsI n R val k i b) (hi : i < n) : b i = bs n R (val i) k ∧ b i ≤ n := by
  have h1 := h.2 i (Nat.le_refl i) hi
  exact ⟨h1, by rw [h1]; exact bs_le k⟩
theorem BsI.take {n k i w : Nat} {R : Nat → Bool} {val : Nat → Nat → Nat} {b : Nat → Nat} (h : BsI n R val k i b) (hi : i < n) (hr : R k = true) (hw : w = val i k) (hlt : w < b i) : BsI n R val k (i + 1) (va_up b i w) := by
  have h0 := (h.at hi).1
  refine ⟨fun j hj hjn => ?_, fun j hj hjn => ?_⟩
  · by_cases e : j = i
    · rw [e, va_up_self]
      show w = if R k = true ∧ val i k < bs n R (val i) k then val i k else bs n R (val i) k
      rw [if_pos ⟨hr, by rw [← h0, ← hw]; exact hlt⟩]
      exact hw
    · rw [va_up_ne _ _ e]
      exact h.1 j (by omega) hjn
  · rw [va_up_ne _ _ (show j ≠ i by omega)]
    exact h.2 j (by omega) hjn
theorem BsI.skip {n k i w : Nat} {R : Nat → Bool} {val : Nat → Nat → Nat} {b : Nat → Nat} (h : BsI n R val k i b) (hi : i < n) (hw : w = val i k) (hge : b i ≤ w) : BsI n R val k (i + 1) b := by
  have h0 := (h.at hi).1
  refine ⟨fun j hj hjn => ?_, fun j hj hjn => h.2 j (by omega) hjn⟩
  by_cases e : j = i
  · rw [e]
    show b i = if R k = true ∧ val i k < bs n R (val i) k then val i k else bs n R (val i) k
    rw [if_neg (fun q => by have := q.2; rw [← h0, ← hw] at this; omega)]
    exact h0
  · exact h.1 j (by omega) hjn
theorem bs_no {n k : Nat} {R : Nat → Bool} {val : Nat → Nat} (h : ¬ R k = true) : bs n R val (k + 1) = bs n R val k := if_neg (fun q => h q.1)
theorem cT_yes {k : Nat} {R : Nat → Bool} (h : R k = true) : cT R (k + 1) = cT R k + 1 := by
  show cT R k + (if R k = true then 1 else 0) = _
  rw [if_pos h]
theorem cT_no {k : Nat} {R : Nat → Bool} (h : ¬ R k = true) : cT R (k + 1) = cT R k := by
  show cT R k + (if R k = true then 1 else 0) = _
  rw [if_neg h, Nat.add_zero]
theorem bN_0 {b : Bool} (h : bN b = 0) : ¬ b = true := by
  intro e
  rw [e] at h
  exact absurd h (by decide)
theorem bN_1 {b : Bool} (h : bN b ≠ 0) : b = true := by
  cases b with
  | true => rfl
  | false => exact absurd rfl h
/-- what the reference knows -/
noncomputable def bestL (n : Nat) (pl pd : Nat → Nat) (k i : Nat) : Nat := bs n (rn n pl pd) ((fun i v => pl (6 * i + oP n v i)) i) k
noncomputable def bestR (n : Nat) (pl pd : Nat → Nat) (k i : Nat) : Nat := bs n (rn n pl pd) ((fun i v => pd (6 * i + iv n v i)) i) k
def RkI (n : Nat) (pl pd : Nat → Nat) (k : Nat) (be go : Nat → Nat) (re : Nat) : Prop := re = cT (rn n pl pd) k ∧ (∀ i, i < n → be i = bestL n pl pd k i) ∧ ∀ i, i < n → go i = bestR n pl pd k i
theorem RkI.start {n : Nat} {pl pd be go : Nat → Nat} (hn : n ≤ 6) (hb : ∀ i, i < 6 → be i = n) (hg : ∀ i, i < 6 → go i = n) : RkI n pl pd 0 be go 0 := ⟨rfl, fun i hi => hb i (by omega), fun i hi => hg i (by omega)⟩
theorem RkI.no {n k re : Nat} {pl pd be go : Nat → Nat} (h : RkI n pl pd k be go re) (hr : ¬ rn n pl pd k = true) : RkI n pl pd (k + 1) be go re :=
  ⟨by rw [cT_no hr]; exact h.1, fun i hi => by unfold bestL; rw [bs_no hr]; exact h.2.1 i hi, fun i hi => by unfold bestR; rw [bs_no hr]; exact h.2.2 i hi⟩
abbrev valL (n : Nat) (pl : Nat → Nat) : Nat → Nat → Nat := fun i v => pl (6 * i + oP n v i)
abbrev valR (n : Nat) (pd : Nat → Nat) : Nat → Nat → Nat := fun i v => pd (6 * i + iv n v i)
theorem RkI.yes {n k i re : Nat} {pl pd be go be' go' : Nat → Nat} (h : RkI n pl pd k be go re) (hr : rn n pl pd k = true) (hi : n ≤ i) (h1 : BsI n (rn n pl pd) (valL n pl) k i be') (h2 : BsI n (rn n pl pd) (valR n pd) k i go') : RkI n pl pd (k + 1) be' go' (re + 1) :=
  ⟨by rw [cT_yes hr, h.1], h1.done hi, h2.done hi⟩
theorem bN_nar (b : Bool) : narrow .boolean (.int (nI (bN b))) = .int (nI (bN b)) := by cases b <;> rfl
end
section
/-! ===== SuitDeskModel: its world and its contracts ===== -/
abbrev WM (ad : Nat → Nat) (d : ClassId) (n kn : Nat) (lk ld pl pd pp ma le be go : Nat → Nat) (re : Nat) : va_W :=
  [(ad 0, .inr (1, [.ref (ad 1), .ref (ad 2), .ref (ad 3), .ref (ad 4), .int (nI n), .int (nI kn), .ref (ad 5), .ref (ad 6), .ref (ad 7), .ref (ad 8), .ref (ad 9), .int (nI re)])),
   (ad 1, .inl (d, 36, .inl (nA lk))), (ad 2, .inl (d, 36, .inl (nA ld))), (ad 3, .inl (d, 36, .inl (nA pl))), (ad 4, .inl (d, 36, .inl (nA pd))), (ad 5, .inl (d, 6, .inl (nA pp))), (ad 6, .inl (d, 6, .inl (nA ma))), (ad 7, .inl (d, 6, .inl (nA le))), (ad 8, .inl (d, 6, .inl (nA be))), (ad 9, .inl (d, 6, .inl (nA go)))]
set_option maxHeartbeats 4000000 in
set_option maxRecDepth 100000 in
/-- size(x) -/
theorem m_size (l : Launch) (D : va_G) (d dz : ClassId) (ad : Nat → Nat) (n kn : Nat) (lk ld pl pd pp ma le be go : Nat → Nat) (re : Nat) (x : Int32) : CV l yX1_size cX1_size 3 0 0 0 0 D d dz [.ref (ad 0), .int x] (WM ad d n kn lk ld pl pd pp ma le be go re) (S := (Nat → Nat) × (Nat → Nat) × (Nat → Nat) × (Nat → Nat)) (fun u => (∀ j, j < 36 → u.1 j = j % 6) ∧ (∀ j, j < 36 → u.2.1 j = j % 6) ∧ (∀ j, j < 36 → u.2.2.1 j = j % 6) ∧ ∀ j, j < 36 → u.2.2.2 j = j % 6) (fun u => WM ad d (1 + mx x % 6) 0 (u.1) (u.2.1) (u.2.2.1) (u.2.2.2) pp ma le be go re) := by
  refine CV.start (own := RX1) rfl (by decide) (Nat.le_of_ble_eq_true rfl) (fun p e R s m args below meth c A Q X hnm hret H locs ls Y hl => ?_)
  have hx := X.1.1
  have hb := X.1.2.1
  have hl : lv_has ls 3 [(0, .ref (ad 0)), (1, .int x)] := hl
  refine lv_aload_n hx hb dX1_size_0 rfl (lv_at hl 0 rfl) ?_
  refine lv_iconst (v := nI 1) hx hb dX1_size_1 (by decide) ?_
  refine lv_iload_n hx hb dX1_size_2 rfl (lv_at hl 1 rfl) ?_
  refine lv_ldc (v := 2147483647) hx hb X.1.2.2.2.1 (X.1.2.2.2.2 _ q147) dX1_size_3 ?_
  refine z_iand hx hb dX1_size_5 ?_
  refine lv_bipush (v := nI 6) hx hb dX1_size_6 (by decide) ?_
  refine z_irem hx hb dX1_size_8 (mx_lt x) (by omega) (by omega) ?_
  refine z_iadd hx hb dX1_size_9 ?_
  refine p1_n X Y 0 rfl (Nat.le_of_ble_eq_true rfl) dX1_size_10 (fun H locs Y => ?_)
  have Y : z_W D A s (WM ad d (1 + ((mx x) % 6)) kn lk ld pl pd pp ma le be go re) H locs := Y
  refine lv_iconst (v := nI 0) hx hb dX1_size_13 (by decide) ?_
  refine lv_istore_n (lv' := [(2, .int (nI 0)), (0, .ref (ad 0)), (1, .int x)]) hx hb dX1_size_14 rfl hl (by decide) rfl (fun ls hl => ?_)
  have L15 : ∀ (N : Nat) (i : Nat) (f1 : Nat → Nat) (f2 : Nat → Nat) (f3 : Nat → Nat) (f4 : Nat → Nat), i ≤ 36 → (∀ j, j < i → f1 j = j % 6) → (∀ j, j < i → f2 j = j % 6) → (∀ j, j < i → f3 j = j % 6) → (∀ j, j < i → f4 j = j % 6) → 36 - i < N → ∀ (H : Heap) (locs : List Loc) (ls : Array Slot), z_W D A s (WM ad d (1 + ((mx x) % 6)) kn f1 f2 f3 f4 pp ma le be go re) H locs → lv_has ls 3 [(0, .ref (ad 0)), (2, .int (nI i))] → W p l e R s m args below meth c H locs 0 0 Q (F0 m 15 ls []) := by
    intro N
    induction N with
    | zero =>
      intro i f1 f2 f3 f4 h0 h1 h2 h3 h4 hm
      exact absurd hm (Nat.not_lt_zero _)
    | succ N ih15 =>
      intro i f1 f2 f3 f4 h0 h1 h2 h3 h4 hm H locs ls Y hl
      refine lv_iload_n hx hb dX1_size_15 rfl (lv_at hl 1 rfl) ?_
      refine lv_bipush (v := nI 36) hx hb dX1_size_16 (by decide) ?_
      refine z_icge (tgt := 67) hx hb dX1_size_18 (by decide) (by omega) (by omega) (fun c18 => ?_) (fun c18 => ?_)
      · refine lv_aload_n hx hb dX1_size_67 rfl (lv_at hl 0 rfl) ?_
        refine lv_iconst (v := nI 0) hx hb dX1_size_68 (by decide) ?_
        refine p1_known X Y 0 rfl (Nat.le_of_ble_eq_true rfl) rfl rfl dX1_size_69 (fun H locs Y => ?_)
        have Y : z_W D A s (WM ad d (1 + ((mx x) % 6)) 0 f1 f2 f3 f4 pp ma le be go re) H locs := Y
        exact hret (f1, f2, f3, f4) H locs _ ls (⟨fun j hj => h1 j (by omega), fun j hj => h2 j (by omega), fun j hj => h3 j (by omega), fun j hj => h4 j (by omega)⟩) Y dX1_size_72
      · refine lv_aload_n hx hb dX1_size_21 rfl (lv_at hl 0 rfl) ?_
        refine g1_likes X Y 0 rfl rfl dX1_size_22 ?_
        refine lv_iload_n hx hb dX1_size_25 rfl (lv_at hl 1 rfl) ?_
        refine lv_iload_n hx hb dX1_size_26 rfl (lv_at hl 1 rfl) ?_
        refine lv_bipush (v := nI 6) hx hb dX1_size_27 (by decide) ?_
        refine z_irem hx hb dX1_size_29 (by omega) (by omega) (by omega) ?_
        refine z_iast X Y 1 rfl (by omega) dX1_size_30 (fun H locs Y => ?_)
        have Y : z_W D A s (WM ad d (1 + ((mx x) % 6)) kn (va_up f1 i (i % 6)) f2 f3 f4 pp ma le be go re) H locs := Y
        refine lv_aload_n hx hb dX1_size_31 rfl (lv_at hl 0 rfl) ?_
        refine g1_liked X Y 0 rfl rfl dX1_size_32 ?_
        refine lv_iload_n hx hb dX1_size_35 rfl (lv_at hl 1 rfl) ?_
        refine lv_iload_n hx hb dX1_size_36 rfl (lv_at hl 1 rfl) ?_
        refine lv_bipush (v := nI 6) hx hb dX1_size_37 (by decide) ?_
        refine z_irem hx hb dX1_size_39 (by omega) (by omega) (by omega) ?_
        refine z_iast X Y 2 rfl (by omega) dX1_size_40 (fun H locs Y => ?_)
        have Y : z_W D A s (WM ad d (1 + ((mx x) % 6)) kn (va_up f1 i (i % 6)) (va_up f2 i (i % 6)) f3 f4 pp ma le be go re) H locs := Y
        refine lv_aload_n hx hb dX1_size_41 rfl (lv_at hl 0 rfl) ?_
        refine g1_place X Y 0 rfl rfl dX1_size_42 ?_
        refine lv_iload_n hx hb dX1_size_45 rfl (lv_at hl 1 rfl) ?_
        refine lv_iload_n hx hb dX1_size_46 rfl (lv_at hl 1 rfl) ?_
        refine lv_bipush (v := nI 6) hx hb dX1_size_47 (by decide) ?_
        refine z_irem hx hb dX1_size_49 (by omega) (by omega) (by omega) ?_
        refine z_iast X Y 3 rfl (by omega) dX1_size_50 (fun H locs Y => ?_)
        have Y : z_W D A s (WM ad d (1 + ((mx x) % 6)) kn (va_up f1 i (i % 6)) (va_up f2 i (i % 6)) (va_up f3 i (i % 6)) f4 pp ma le be go re) H locs := Y
        refine lv_aload_n hx hb dX1_size_51 rfl (lv_at hl 0 rfl) ?_
        refine g1_placed X Y 0 rfl rfl dX1_size_52 ?_
        refine lv_iload_n hx hb dX1_size_55 rfl (lv_at hl 1 rfl) ?_
        refine lv_iload_n hx hb dX1_size_56 rfl (lv_at hl 1 rfl) ?_
        refine lv_bipush (v := nI 6) hx hb dX1_size_57 (by decide) ?_
        refine z_irem hx hb dX1_size_59 (by omega) (by omega) (by omega) ?_
        refine z_iast X Y 4 rfl (by omega) dX1_size_60 (fun H locs Y => ?_)
        have Y : z_W D A s (WM ad d (1 + ((mx x) % 6)) kn (va_up f1 i (i % 6)) (va_up f2 i (i % 6)) (va_up f3 i (i % 6)) (va_up f4 i (i % 6)) pp ma le be go re) H locs := Y
        refine lv_iinc (v := nI (i + 1)) (lv' := [(2, .int (nI (i + 1))), (0, .ref (ad 0))]) hx hb dX1_size_61 hl (k := 1) rfl (z_inc _) (by decide) rfl (fun ls hl => ?_)
        refine lv_goto (tgt := 15) hx hb dX1_size_64 (by decide) ?_
        exact ih15 (i + 1) (va_up f1 i (i % 6)) (va_up f2 i (i % 6)) (va_up f3 i (i % 6)) (va_up f4 i (i % 6)) c18 (up_m6 h1) (up_m6 h2) (up_m6 h3) (up_m6 h4) (by omega) H locs ls Y (lv_sub hl [1, 0] rfl)
  exact L15 _ 0 lk ld pl pd (Nat.zero_le _) (fun j hj => absurd hj (Nat.not_lt_zero j)) (fun j hj => absurd hj (Nat.not_lt_zero j)) (fun j hj => absurd hj (Nat.not_lt_zero j)) (fun j hj => absurd hj (Nat.not_lt_zero j)) (Nat.lt_succ_self _) H locs ls Y (lv_sub hl [1, 0] rfl)
set_option maxHeartbeats 4000000 in
set_option maxRecDepth 100000 in
/-- orders(): n! -/
theorem m_orders (l : Launch) (D : va_G) (d dz : ClassId) (ad : Nat → Nat) (n kn : Nat) (lk ld pl pd pp ma le be go : Nat → Nat) (re : Nat) (hn0 : 0 < n) (hn : n ≤ 6) : CI l yX1_orders cX1_orders 3 .int 0 0 0 0 D d dz [.ref (ad 0)] (WM ad d n kn lk ld pl pd pp ma le be go re) (S := Unit) (fun k _ => k = fc n) (fun _ => WM ad d n kn lk ld pl pd pp ma le be go re) := by
  refine CI.start (own := RX1) rfl (by decide) (Nat.le_of_ble_eq_true rfl) (fun p e R s m args below meth c A Q X hnm hret H locs ls Y hl => ?_)
  have hx := X.1.1
  have hb := X.1.2.1
  have hl : lv_has ls 3 [(0, .ref (ad 0))] := hl
  refine lv_iconst (v := nI 1) hx hb dX1_orders_0 (by decide) ?_
  refine lv_istore_n (lv' := [(1, .int (nI 1)), (0, .ref (ad 0))]) hx hb dX1_orders_1 rfl hl (by decide) rfl (fun ls hl => ?_)
  refine lv_iconst (v := nI 2) hx hb dX1_orders_2 (by decide) ?_
  refine lv_istore_n (lv' := [(2, .int (nI 2)), (1, .int (nI 1)), (0, .ref (ad 0))]) hx hb dX1_orders_3 rfl hl (by decide) rfl (fun ls hl => ?_)
  have L4 : ∀ (N : Nat) (a : Nat) (k : Nat), 2 ≤ k → k ≤ n + 1 → a = fc (k - 1) → n + 1 - k < N → ∀ (H : Heap) (locs : List Loc) (ls : Array Slot), z_W D A s (WM ad d n kn lk ld pl pd pp ma le be go re) H locs → lv_has ls 3 [(0, .ref (ad 0)), (1, .int (nI a)), (2, .int (nI k))] → W p l e R s m args below meth c H locs 0 0 Q (F0 m 4 ls []) := by
    intro N
    induction N with
    | zero =>
      intro a k h1 h2 h3 hm
      exact absurd hm (Nat.not_lt_zero _)
    | succ N ih4 =>
      intro a k h1 h2 h3 hm H locs ls Y hl
      refine lv_iload_n hx hb dX1_orders_4 rfl (lv_at hl 2 rfl) ?_
      refine lv_aload_n hx hb dX1_orders_5 rfl (lv_at hl 0 rfl) ?_
      refine g1_n X Y 0 rfl rfl dX1_orders_6 ?_
      refine z_icgt (tgt := 22) hx hb dX1_orders_9 (by decide) (by omega) (by omega) (fun c9 => ?_) (fun c9 => ?_)
      · refine lv_iload_n hx hb dX1_orders_22 rfl (lv_at hl 1 rfl) ?_
        exact hret a () H locs _ ls (by rw [h3, show k - 1 = n by omega]) Y rfl dX1_orders_23
      · refine lv_iload_n hx hb dX1_orders_12 rfl (lv_at hl 1 rfl) ?_
        refine lv_iload_n hx hb dX1_orders_13 rfl (lv_at hl 2 rfl) ?_
        refine z_imul hx hb dX1_orders_14 ?_
        refine lv_istore_n (lv' := [(1, .int (nI (a * k))), (0, .ref (ad 0)), (2, .int (nI k))]) hx hb dX1_orders_15 rfl hl (by decide) rfl (fun ls hl => ?_)
        refine lv_iinc (v := nI (k + 1)) (lv' := [(2, .int (nI (k + 1))), (1, .int (nI (a * k))), (0, .ref (ad 0))]) hx hb dX1_orders_16 hl (k := 2) rfl (z_inc _) (by decide) rfl (fun ls hl => ?_)
        refine lv_goto (tgt := 4) hx hb dX1_orders_19 (by decide) ?_
        exact ih4 (a * k) (k + 1) (by omega) (by omega) (by rw [h3]; exact fc_step h1) (by omega) H locs ls Y (lv_sub hl [2, 1, 0] rfl)
  exact L4 _ 1 2 (by omega) (by omega) (by decide) (Nat.lt_succ_self _) H locs ls Y (lv_sub hl [2, 1, 0] rfl)
set_option maxHeartbeats 4000000 in
set_option maxRecDepth 100000 in
/-- order(k): p is the order number k -/
theorem m_order (l : Launch) (D : va_G) (d dz : ClassId) (ad : Nat → Nat) (n kn : Nat) (lk ld pl pd pp ma le be go : Nat → Nat) (re : Nat) (k : Nat) (hn : n ≤ 6) (hk : k < 2 ^ 31) : CV l yX1_order cX1_order 7 0 0 0 0 D d dz [.ref (ad 0), .int (nI k)] (WM ad d n kn lk ld pl pd pp ma le be go re) (S := (Nat → Nat) × (Nat → Nat)) (fun u => ∀ i, i < n → u.1 i = oP n k i) (fun u => WM ad d n kn lk ld pl pd (u.1) ma (u.2) be go re) := by
  refine CV.start (own := RX1) rfl (by decide) (Nat.le_of_ble_eq_true rfl) (fun p e R s m args below meth c A Q X hnm hret H locs ls Y hl => ?_)
  have hx := X.1.1
  have hb := X.1.2.1
  have hl : lv_has ls 7 [(0, .ref (ad 0)), (1, .int (nI k))] := hl
  refine lv_iload_n hx hb dX1_order_0 rfl (lv_at hl 1 rfl) ?_
  refine lv_istore_n (lv' := [(2, .int (nI k)), (0, .ref (ad 0)), (1, .int (nI k))]) hx hb dX1_order_1 rfl hl (by decide) rfl (fun ls hl => ?_)
  refine lv_iconst (v := nI 0) hx hb dX1_order_2 (by decide) ?_
  refine lv_istore_n (lv' := [(3, .int (nI 0)), (2, .int (nI k)), (0, .ref (ad 0)), (1, .int (nI k))]) hx hb dX1_order_3 rfl hl (by decide) rfl (fun ls hl => ?_)
  have L4 : ∀ (N : Nat) (i : Nat) (l0 : Nat → Nat), i ≤ n → (∀ j, j < i → l0 j = j) → n - i < N → ∀ (H : Heap) (locs : List Loc) (ls : Array Slot), z_W D A s (WM ad d n kn lk ld pl pd pp ma l0 be go re) H locs → lv_has ls 7 [(0, .ref (ad 0)), (2, .int (nI k)), (3, .int (nI i))] → W p l e R s m args below meth c H locs 0 0 Q (F0 m 4 ls []) := by
    intro N
    induction N with
    | zero =>
      intro i l0 h1 h2 hm
      exact absurd hm (Nat.not_lt_zero _)
    | succ N ih4 =>
      intro i l0 h1 h2 hm H locs ls Y hl
      refine lv_iload_n hx hb dX1_order_4 rfl (lv_at hl 2 rfl) ?_
      refine lv_aload_n hx hb dX1_order_5 rfl (lv_at hl 0 rfl) ?_
      refine g1_n X Y 0 rfl rfl dX1_order_6 ?_
      refine z_icge (tgt := 25) hx hb dX1_order_9 (by decide) (by omega) (by omega) (fun c9 => ?_) (fun c9 => ?_)
      · refine lv_iconst (v := nI 0) hx hb dX1_order_25 (by decide) ?_
        refine lv_istore_n (lv' := [(3, .int (nI 0)), (0, .ref (ad 0)), (2, .int (nI k))]) hx hb dX1_order_26 rfl hl (by decide) rfl (fun ls hl => ?_)
        have L27 : ∀ (N : Nat) (q : Nat) (i : Nat) (p1 : Nat → Nat) (l1 : Nat → Nat), i ≤ n → OrdM n k i q p1 l1 → n - i < N → ∀ (H : Heap) (locs : List Loc) (ls : Array Slot), z_W D A s (WM ad d n kn lk ld pl pd p1 ma l1 be go re) H locs → lv_has ls 7 [(0, .ref (ad 0)), (2, .int (nI q)), (3, .int (nI i))] → W p l e R s m args below meth c H locs 0 0 Q (F0 m 27 ls []) := by
          intro N
          induction N with
          | zero =>
            intro q i p1 l1 g1 g2 hm
            exact absurd hm (Nat.not_lt_zero _)
          | succ N ih27 =>
            intro q i p1 l1 g1 g2 hm H locs ls Y hl
            refine lv_iload_n hx hb dX1_order_27 rfl (lv_at hl 2 rfl) ?_
            refine lv_aload_n hx hb dX1_order_28 rfl (lv_at hl 0 rfl) ?_
            refine g1_n X Y 0 rfl rfl dX1_order_29 ?_
            refine z_icge (tgt := 108) hx hb dX1_order_32 (by decide) (by omega) (by omega) (fun c32 => ?_) (fun c32 => ?_)
            · exact hret (p1, l1) H locs _ ls (fun t ht => g2.2.1 t (by omega)) Y dX1_order_108
            · have hq := g2.le
              have hq2 : q % (n - i) < n - i := Nat.mod_lt _ (by omega)
              refine lv_aload_n hx hb dX1_order_35 rfl (lv_at hl 0 rfl) ?_
              refine g1_n X Y 0 rfl rfl dX1_order_36 ?_
              refine lv_iload_n hx hb dX1_order_39 rfl (lv_at hl 2 rfl) ?_
              refine z_isub hx hb dX1_order_40 (by omega) ?_
              refine lv_istore (lv' := [(4, .int (nI (n - i))), (0, .ref (ad 0)), (2, .int (nI q)), (3, .int (nI i))]) hx hb dX1_order_41 hl (by decide) rfl (fun ls hl => ?_)
              refine lv_iload_n hx hb dX1_order_43 rfl (lv_at hl 2 rfl) ?_
              refine lv_iload hx hb dX1_order_44 (lv_at hl 0 rfl) ?_
              refine z_irem hx hb dX1_order_46 (by omega) (by omega) (by omega) ?_
              refine lv_istore (lv' := [(5, .int (nI (q % (n - i)))), (4, .int (nI (n - i))), (0, .ref (ad 0)), (2, .int (nI q)), (3, .int (nI i))]) hx hb dX1_order_47 hl (by decide) rfl (fun ls hl => ?_)
              refine lv_iload_n hx hb dX1_order_49 rfl (lv_at hl 3 rfl) ?_
              refine lv_iload hx hb dX1_order_50 (lv_at hl 1 rfl) ?_
              refine z_idiv hx hb dX1_order_52 (by omega) (by omega) (by omega) ?_
              refine lv_istore_n (lv' := [(2, .int (nI (q / (n - i)))), (5, .int (nI (q % (n - i)))), (4, .int (nI (n - i))), (0, .ref (ad 0)), (3, .int (nI i))]) hx hb dX1_order_53 rfl hl (by decide) rfl (fun ls hl => ?_)
              refine lv_aload_n hx hb dX1_order_54 rfl (lv_at hl 3 rfl) ?_
              refine g1_p X Y 0 rfl rfl dX1_order_55 ?_
              refine lv_iload_n hx hb dX1_order_58 rfl (lv_at hl 4 rfl) ?_
              refine lv_aload_n hx hb dX1_order_59 rfl (lv_at hl 3 rfl) ?_
              refine g1_left X Y 0 rfl rfl dX1_order_60 ?_
              refine lv_iload hx hb dX1_order_63 (lv_at hl 1 rfl) ?_
              refine z_iald X Y 7 rfl (by omega) dX1_order_65 ?_
              refine z_iast X Y 5 rfl (by omega) dX1_order_66 (fun H locs Y => ?_)
              have Y : z_W D A s (WM ad d n kn lk ld pl pd (va_up p1 i (l1 (q % (n - i)))) ma l1 be go re) H locs := Y
              refine lv_iload hx hb dX1_order_67 (lv_at hl 1 rfl) ?_
              refine lv_istore (lv' := [(6, .int (nI (q % (n - i)))), (2, .int (nI (q / (n - i)))), (5, .int (nI (q % (n - i)))), (4, .int (nI (n - i))), (0, .ref (ad 0)), (3, .int (nI i))]) hx hb dX1_order_69 hl (by decide) rfl (fun ls hl => ?_)
              have L71 : ∀ (N : Nat) (j : Nat) (l2 : Nat → Nat), ShM (q % (n - i)) l1 j l2 → j < n - i → n - i - j < N → ∀ (H : Heap) (locs : List Loc) (ls : Array Slot), z_W D A s (WM ad d n kn lk ld pl pd (va_up p1 i (l1 (q % (n - i)))) ma l2 be go re) H locs → lv_has ls 7 [(0, .ref (ad 0)), (2, .int (nI (q / (n - i)))), (3, .int (nI i)), (4, .int (nI (n - i))), (6, .int (nI j))] → W p l e R s m args below meth c H locs 0 0 Q (F0 m 71 ls []) := by
                intro N
                induction N with
                | zero =>
                  intro j l2 s1 s2 hm
                  exact absurd hm (Nat.not_lt_zero _)
                | succ N ih71 =>
                  intro j l2 s1 s2 hm H locs ls Y hl
                  refine lv_iload hx hb dX1_order_71 (lv_at hl 4 rfl) ?_
                  refine lv_iconst (v := nI 1) hx hb dX1_order_73 (by decide) ?_
                  refine z_iadd hx hb dX1_order_74 ?_
                  refine lv_iload hx hb dX1_order_75 (lv_at hl 3 rfl) ?_
                  refine z_icge (tgt := 102) hx hb dX1_order_77 (by decide) (by omega) (by omega) (fun c77 => ?_) (fun c77 => ?_)
                  · refine lv_iinc (v := nI (i + 1)) (lv' := [(3, .int (nI (i + 1))), (0, .ref (ad 0)), (2, .int (nI (q / (n - i)))), (4, .int (nI (n - i))), (6, .int (nI j))]) hx hb dX1_order_102 hl (k := 2) rfl (z_inc _) (by decide) rfl (fun ls hl => ?_)
                    refine lv_goto (tgt := 27) hx hb dX1_order_105 (by decide) ?_
                    exact ih27 (q / (n - i)) (i + 1) (va_up p1 i (l1 (q % (n - i)))) l2 c32 (g2.step c32 s1 c77) (by omega) H locs ls Y (lv_sub hl [1, 2, 0] rfl)
                  · refine lv_aload_n hx hb dX1_order_80 rfl (lv_at hl 0 rfl) ?_
                    refine g1_left X Y 0 rfl rfl dX1_order_81 ?_
                    refine lv_iload hx hb dX1_order_84 (lv_at hl 4 rfl) ?_
                    refine lv_aload_n hx hb dX1_order_86 rfl (lv_at hl 0 rfl) ?_
                    refine g1_left X Y 0 rfl rfl dX1_order_87 ?_
                    refine lv_iload hx hb dX1_order_90 (lv_at hl 4 rfl) ?_
                    refine lv_iconst (v := nI 1) hx hb dX1_order_92 (by decide) ?_
                    refine z_iadd hx hb dX1_order_93 ?_
                    refine z_iald X Y 7 rfl (by omega) dX1_order_94 ?_
                    refine z_iast X Y 7 rfl (by omega) dX1_order_95 (fun H locs Y => ?_)
                    have Y : z_W D A s (WM ad d n kn lk ld pl pd (va_up p1 i (l1 (q % (n - i)))) ma (va_up l2 j (l2 (j + 1))) be go re) H locs := Y
                    refine lv_iinc (v := nI (j + 1)) (lv' := [(6, .int (nI (j + 1))), (0, .ref (ad 0)), (2, .int (nI (q / (n - i)))), (3, .int (nI i)), (4, .int (nI (n - i)))]) hx hb dX1_order_96 hl (k := 4) rfl (z_inc _) (by decide) rfl (fun ls hl => ?_)
                    refine lv_goto (tgt := 71) hx hb dX1_order_99 (by decide) ?_
                    exact ih71 (j + 1) (va_up l2 j (l2 (j + 1))) (s1.step) c77 (by omega) H locs ls Y (lv_sub hl [1, 2, 3, 4, 0] rfl)
              exact L71 _ (q % (n - i)) l1 (ShM.start) hq2 (Nat.lt_succ_self _) H locs ls Y (lv_sub hl [4, 1, 5, 3, 0] rfl)
        exact L27 _ k 0 pp l0 (Nat.zero_le n) (OrdM.start (fun j hj => h2 j (by omega))) (Nat.lt_succ_self _) H locs ls Y (lv_sub hl [1, 2, 0] rfl)
      · refine lv_aload_n hx hb dX1_order_12 rfl (lv_at hl 0 rfl) ?_
        refine g1_left X Y 0 rfl rfl dX1_order_13 ?_
        refine lv_iload_n hx hb dX1_order_16 rfl (lv_at hl 2 rfl) ?_
        refine lv_iload_n hx hb dX1_order_17 rfl (lv_at hl 2 rfl) ?_
        refine z_iast X Y 7 rfl (by omega) dX1_order_18 (fun H locs Y => ?_)
        have Y : z_W D A s (WM ad d n kn lk ld pl pd pp ma (va_up l0 i i) be go re) H locs := Y
        refine lv_iinc (v := nI (i + 1)) (lv' := [(3, .int (nI (i + 1))), (0, .ref (ad 0)), (2, .int (nI k))]) hx hb dX1_order_19 hl (k := 2) rfl (z_inc _) (by decide) rfl (fun ls hl => ?_)
        refine lv_goto (tgt := 4) hx hb dX1_order_22 (by decide) ?_
        exact ih4 (i + 1) (va_up l0 i i) c9 (up_id h2) (by omega) H locs ls Y (lv_sub hl [1, 2, 0] rfl)
  exact L4 _ 0 le (Nat.zero_le n) (fun j hj => absurd hj (Nat.not_lt_zero j)) (Nat.lt_succ_self _) H locs ls Y (lv_sub hl [2, 1, 0] rfl)
set_option maxHeartbeats 4000000 in
set_option maxRecDepth 100000 in
/-- left(x, y) -/
theorem m_left (l : Launch) (D : va_G) (d dz : ClassId) (ad : Nat → Nat) (n kn : Nat) (lk ld pl pd pp ma le be go : Nat → Nat) (re : Nat) (x y : Int32) (hn0 : 0 < n) (hn : n ≤ 6) : CV l yX1_left cX1_left 5 1 26 0 0 D d dz [.ref (ad 0), .int x, .int y] (WM ad d n kn lk ld pl pd pp ma le be go re) (S := (Nat → Nat) × (Nat → Nat) × (Nat → Nat) × (Nat → Nat)) (fun u => TkI n (mx y % fc n) (mx x % n) lk pl n u.1 u.2.1) (fun u => WM ad d n 0 (u.1) ld (u.2.1) pd (u.2.2.1) ma (u.2.2.2) be go re) := by
  refine CV.start (own := RX1) rfl (by decide) (Nat.le_of_ble_eq_true rfl) (fun p e R s m args below meth c A Q X hnm hret H locs ls Y hl => ?_)
  have hx := X.1.1
  have hb := X.1.2.1
  have hl : lv_has ls 5 [(0, .ref (ad 0)), (1, .int x), (2, .int y)] := hl
  have hf := fc_le n (by omega)
  have hwn : mx x % n < n := Nat.mod_lt _ hn0
  refine lv_aload_n hx hb dX1_left_0 rfl (lv_at hl 0 rfl) ?_
  refine lv_iload_n hx hb dX1_left_1 rfl (lv_at hl 2 rfl) ?_
  refine lv_ldc (v := 2147483647) hx hb X.1.2.2.2.1 (X.1.2.2.2.2 _ q147) dX1_left_2 ?_
  refine z_iand hx hb dX1_left_4 ?_
  refine lv_aload_n hx hb dX1_left_5 rfl (lv_at hl 0 rfl) ?_
  refine z_ci (n := 0) (q0 := 0) (ci := 1) (rest := [.int (nI (mx y)), .ref (ad 0)]) X Y (m_orders l D d dz ad n kn lk ld pl pd pp ma le be go re hn0 hn) (lw_V q190 q192 qs10 q16 q193) (by decide +kernel) ⟨by decide, by decide⟩ rfl rfl rfl rfl hl.1 rfl (Nat.le_of_ble_eq_true rfl) dX1_left_6 ⟨Nat.zero_le _, Nat.zero_le _⟩ (fun a2 _u H locs hz Y => ?_)
  subst a2
  have Y : z_W D A s (WM ad d n kn lk ld pl pd pp ma le be go re) H locs := Y
  refine z_irem hx hb dX1_left_9 (mx_lt y) (fc_pos n) (by omega) ?_
  refine z_cv (n := 1) (q0 := 0) (ci := 1) (rest := []) X Y (m_order l D d dz ad n kn lk ld pl pd pp ma le be go re (mx y % fc n) hn (Nat.lt_of_le_of_lt (Nat.mod_le _ _) (mx_lt y))) (lw_V q194 q196 qs11 q16 q197) (by decide +kernel) ⟨by decide, by decide⟩ rfl rfl rfl rfl hl.1 rfl (Nat.le_of_ble_eq_true rfl) dX1_left_10 ⟨Nat.zero_le _, Nat.zero_le _⟩ (fun uo H locs hp Y => ?_)
  have Y : z_W D A s (WM ad d n kn lk ld pl pd (uo.1) ma (uo.2) be go re) H locs := Y
  refine lv_iload_n hx hb dX1_left_13 rfl (lv_at hl 1 rfl) ?_
  refine lv_ldc (v := 2147483647) hx hb X.1.2.2.2.1 (X.1.2.2.2.2 _ q147) dX1_left_14 ?_
  refine z_iand hx hb dX1_left_16 ?_
  refine lv_aload_n hx hb dX1_left_17 rfl (lv_at hl 0 rfl) ?_
  refine g1_n X Y 0 rfl rfl dX1_left_18 ?_
  refine z_irem hx hb dX1_left_21 (mx_lt x) (by omega) (by omega) ?_
  refine lv_istore_n (lv' := [(3, .int (nI ((mx x) % n))), (0, .ref (ad 0)), (1, .int x), (2, .int y)]) hx hb dX1_left_22 rfl hl (by decide) rfl (fun ls hl => ?_)
  refine lv_iconst (v := nI 0) hx hb dX1_left_23 (by decide) ?_
  refine lv_istore (lv' := [(4, .int (nI 0)), (3, .int (nI ((mx x) % n))), (0, .ref (ad 0)), (1, .int x), (2, .int y)]) hx hb dX1_left_24 hl (by decide) rfl (fun ls hl => ?_)
  have L26 : ∀ (N : Nat) (i : Nat) (f1 : Nat → Nat) (q1 : Nat → Nat), i ≤ n → TkI n (mx y % fc n) (mx x % n) lk pl i f1 q1 → n - i < N → ∀ (H : Heap) (locs : List Loc) (ls : Array Slot), z_W D A s (WM ad d n kn f1 ld q1 pd (uo.1) ma (uo.2) be go re) H locs → lv_has ls 5 [(0, .ref (ad 0)), (3, .int (nI (mx x % n))), (4, .int (nI i))] → W p l e R s m args below meth c H locs 0 0 Q (F0 m 26 ls []) := by
    intro N
    induction N with
    | zero =>
      intro i f1 q1 h1 h2 hm
      exact absurd hm (Nat.not_lt_zero _)
    | succ N ih26 =>
      intro i f1 q1 h1 h2 hm H locs ls Y hl
      refine lv_iload hx hb dX1_left_26 (lv_at hl 2 rfl) ?_
      refine lv_aload_n hx hb dX1_left_28 rfl (lv_at hl 0 rfl) ?_
      refine g1_n X Y 0 rfl rfl dX1_left_29 ?_
      refine z_icge (tgt := 79) hx hb dX1_left_32 (by decide) (by omega) (by omega) (fun c32 => ?_) (fun c32 => ?_)
      · refine lv_aload_n hx hb dX1_left_79 rfl (lv_at hl 0 rfl) ?_
        refine lv_iconst (v := nI 0) hx hb dX1_left_80 (by decide) ?_
        refine p1_known X Y 0 rfl (Nat.le_of_ble_eq_true rfl) rfl rfl dX1_left_81 (fun H locs Y => ?_)
        have Y : z_W D A s (WM ad d n 0 f1 ld q1 pd (uo.1) ma (uo.2) be go re) H locs := Y
        have e : i = n := by omega
        rw [e] at h2
        exact hret (f1, q1, uo.1, uo.2) H locs _ ls h2 Y dX1_left_84
      · have hr := hp i c32
        have ho := oP_lt (k := (mx y % fc n)) c32
        refine lv_aload_n hx hb dX1_left_35 rfl (lv_at hl 0 rfl) ?_
        refine g1_likes X Y 0 rfl rfl dX1_left_36 ?_
        refine lv_bipush (v := nI 6) hx hb dX1_left_39 (by decide) ?_
        refine lv_iload_n hx hb dX1_left_41 rfl (lv_at hl 1 rfl) ?_
        refine z_imul hx hb dX1_left_42 ?_
        refine lv_iload hx hb dX1_left_43 (lv_at hl 2 rfl) ?_
        refine z_iadd hx hb dX1_left_45 ?_
        refine lv_aload_n hx hb dX1_left_46 rfl (lv_at hl 0 rfl) ?_
        refine g1_p X Y 0 rfl rfl dX1_left_47 ?_
        refine lv_iload hx hb dX1_left_50 (lv_at hl 2 rfl) ?_
        refine z_iald X Y 5 rfl (by omega) dX1_left_52 ?_
        refine z_iast X Y 1 rfl (by omega) dX1_left_53 (fun H locs Y => ?_)
        have Y : z_W D A s (WM ad d n kn (va_up f1 ((6 * (mx x % n)) + i) ((uo.1) i)) ld q1 pd (uo.1) ma (uo.2) be go re) H locs := Y
        refine lv_aload_n hx hb dX1_left_54 rfl (lv_at hl 0 rfl) ?_
        refine g1_place X Y 0 rfl rfl dX1_left_55 ?_
        refine lv_bipush (v := nI 6) hx hb dX1_left_58 (by decide) ?_
        refine lv_iload_n hx hb dX1_left_60 rfl (lv_at hl 1 rfl) ?_
        refine z_imul hx hb dX1_left_61 ?_
        refine lv_aload_n hx hb dX1_left_62 rfl (lv_at hl 0 rfl) ?_
        refine g1_p X Y 0 rfl rfl dX1_left_63 ?_
        refine lv_iload hx hb dX1_left_66 (lv_at hl 2 rfl) ?_
        refine z_iald X Y 5 rfl (by omega) dX1_left_68 ?_
        refine z_iadd hx hb dX1_left_69 ?_
        refine lv_iload hx hb dX1_left_70 (lv_at hl 2 rfl) ?_
        refine z_iast X Y 3 rfl (by omega) dX1_left_72 (fun H locs Y => ?_)
        have Y : z_W D A s (WM ad d n kn (va_up f1 ((6 * (mx x % n)) + i) ((uo.1) i)) ld (va_up q1 ((6 * (mx x % n)) + ((uo.1) i)) i) pd (uo.1) ma (uo.2) be go re) H locs := Y
        refine lv_iinc (v := nI (i + 1)) (lv' := [(4, .int (nI (i + 1))), (0, .ref (ad 0)), (3, .int (nI (mx x % n)))]) hx hb dX1_left_73 hl (k := 2) rfl (z_inc _) (by decide) rfl (fun ls hl => ?_)
        refine lv_goto (tgt := 26) hx hb dX1_left_76 (by decide) ?_
        exact ih26 (i + 1) (va_up f1 ((6 * (mx x % n)) + i) ((uo.1) i)) (va_up q1 ((6 * (mx x % n)) + ((uo.1) i)) i) c32 (h2.step hn c32 hr) (by omega) H locs ls Y (lv_sub hl [1, 2, 0] rfl)
  exact L26 _ 0 lk pl (Nat.zero_le n) (TkI.start) (Nat.lt_succ_self _) H locs ls Y (lv_sub hl [2, 1, 0] rfl)
set_option maxHeartbeats 4000000 in
set_option maxRecDepth 100000 in
/-- right(x, y) -/
theorem m_right (l : Launch) (D : va_G) (d dz : ClassId) (ad : Nat → Nat) (n kn : Nat) (lk ld pl pd pp ma le be go : Nat → Nat) (re : Nat) (x y : Int32) (hn0 : 0 < n) (hn : n ≤ 6) : CV l yX1_right cX1_right 5 1 26 0 0 D d dz [.ref (ad 0), .int x, .int y] (WM ad d n kn lk ld pl pd pp ma le be go re) (S := (Nat → Nat) × (Nat → Nat) × (Nat → Nat) × (Nat → Nat)) (fun u => TkI n (mx y % fc n) (mx x % n) ld pd n u.1 u.2.1) (fun u => WM ad d n 0 lk (u.1) pl (u.2.1) (u.2.2.1) ma (u.2.2.2) be go re) := by
  refine CV.start (own := RX1) rfl (by decide) (Nat.le_of_ble_eq_true rfl) (fun p e R s m args below meth c A Q X hnm hret H locs ls Y hl => ?_)
  have hx := X.1.1
  have hb := X.1.2.1
  have hl : lv_has ls 5 [(0, .ref (ad 0)), (1, .int x), (2, .int y)] := hl
  have hf := fc_le n (by omega)
  have hwn : mx x % n < n := Nat.mod_lt _ hn0
  refine lv_aload_n hx hb dX1_right_0 rfl (lv_at hl 0 rfl) ?_
  refine lv_iload_n hx hb dX1_right_1 rfl (lv_at hl 2 rfl) ?_
  refine lv_ldc (v := 2147483647) hx hb X.1.2.2.2.1 (X.1.2.2.2.2 _ q147) dX1_right_2 ?_
  refine z_iand hx hb dX1_right_4 ?_
  refine lv_aload_n hx hb dX1_right_5 rfl (lv_at hl 0 rfl) ?_
  refine z_ci (n := 0) (q0 := 0) (ci := 1) (rest := [.int (nI (mx y)), .ref (ad 0)]) X Y (m_orders l D d dz ad n kn lk ld pl pd pp ma le be go re hn0 hn) (lw_V q190 q192 qs10 q16 q193) (by decide +kernel) ⟨by decide, by decide⟩ rfl rfl rfl rfl hl.1 rfl (Nat.le_of_ble_eq_true rfl) dX1_right_6 ⟨Nat.zero_le _, Nat.zero_le _⟩ (fun a2 _u H locs hz Y => ?_)
  subst a2
  have Y : z_W D A s (WM ad d n kn lk ld pl pd pp ma le be go re) H locs := Y
  refine z_irem hx hb dX1_right_9 (mx_lt y) (fc_pos n) (by omega) ?_
  refine z_cv (n := 1) (q0 := 0) (ci := 1) (rest := []) X Y (m_order l D d dz ad n kn lk ld pl pd pp ma le be go re (mx y % fc n) hn (Nat.lt_of_le_of_lt (Nat.mod_le _ _) (mx_lt y))) (lw_V q194 q196 qs11 q16 q197) (by decide +kernel) ⟨by decide, by decide⟩ rfl rfl rfl rfl hl.1 rfl (Nat.le_of_ble_eq_true rfl) dX1_right_10 ⟨Nat.zero_le _, Nat.zero_le _⟩ (fun uo H locs hp Y => ?_)
  have Y : z_W D A s (WM ad d n kn lk ld pl pd (uo.1) ma (uo.2) be go re) H locs := Y
  refine lv_iload_n hx hb dX1_right_13 rfl (lv_at hl 1 rfl) ?_
  refine lv_ldc (v := 2147483647) hx hb X.1.2.2.2.1 (X.1.2.2.2.2 _ q147) dX1_right_14 ?_
  refine z_iand hx hb dX1_right_16 ?_
  refine lv_aload_n hx hb dX1_right_17 rfl (lv_at hl 0 rfl) ?_
  refine g1_n X Y 0 rfl rfl dX1_right_18 ?_
  refine z_irem hx hb dX1_right_21 (mx_lt x) (by omega) (by omega) ?_
  refine lv_istore_n (lv' := [(3, .int (nI ((mx x) % n))), (0, .ref (ad 0)), (1, .int x), (2, .int y)]) hx hb dX1_right_22 rfl hl (by decide) rfl (fun ls hl => ?_)
  refine lv_iconst (v := nI 0) hx hb dX1_right_23 (by decide) ?_
  refine lv_istore (lv' := [(4, .int (nI 0)), (3, .int (nI ((mx x) % n))), (0, .ref (ad 0)), (1, .int x), (2, .int y)]) hx hb dX1_right_24 hl (by decide) rfl (fun ls hl => ?_)
  have L26 : ∀ (N : Nat) (i : Nat) (f1 : Nat → Nat) (q1 : Nat → Nat), i ≤ n → TkI n (mx y % fc n) (mx x % n) ld pd i f1 q1 → n - i < N → ∀ (H : Heap) (locs : List Loc) (ls : Array Slot), z_W D A s (WM ad d n kn lk f1 pl q1 (uo.1) ma (uo.2) be go re) H locs → lv_has ls 5 [(0, .ref (ad 0)), (3, .int (nI (mx x % n))), (4, .int (nI i))] → W p l e R s m args below meth c H locs 0 0 Q (F0 m 26 ls []) := by
    intro N
    induction N with
    | zero =>
      intro i f1 q1 h1 h2 hm
      exact absurd hm (Nat.not_lt_zero _)
    | succ N ih26 =>
      intro i f1 q1 h1 h2 hm H locs ls Y hl
      refine lv_iload hx hb dX1_right_26 (lv_at hl 2 rfl) ?_
      refine lv_aload_n hx hb dX1_right_28 rfl (lv_at hl 0 rfl) ?_
      refine g1_n X Y 0 rfl rfl dX1_right_29 ?_
      refine z_icge (tgt := 79) hx hb dX1_right_32 (by decide) (by omega) (by omega) (fun c32 => ?_) (fun c32 => ?_)
      · refine lv_aload_n hx hb dX1_right_79 rfl (lv_at hl 0 rfl) ?_
        refine lv_iconst (v := nI 0) hx hb dX1_right_80 (by decide) ?_
        refine p1_known X Y 0 rfl (Nat.le_of_ble_eq_true rfl) rfl rfl dX1_right_81 (fun H locs Y => ?_)
        have Y : z_W D A s (WM ad d n 0 lk f1 pl q1 (uo.1) ma (uo.2) be go re) H locs := Y
        have e : i = n := by omega
        rw [e] at h2
        exact hret (f1, q1, uo.1, uo.2) H locs _ ls h2 Y dX1_right_84
      · have hr := hp i c32
        have ho := oP_lt (k := (mx y % fc n)) c32
        refine lv_aload_n hx hb dX1_right_35 rfl (lv_at hl 0 rfl) ?_
        refine g1_liked X Y 0 rfl rfl dX1_right_36 ?_
        refine lv_bipush (v := nI 6) hx hb dX1_right_39 (by decide) ?_
        refine lv_iload_n hx hb dX1_right_41 rfl (lv_at hl 1 rfl) ?_
        refine z_imul hx hb dX1_right_42 ?_
        refine lv_iload hx hb dX1_right_43 (lv_at hl 2 rfl) ?_
        refine z_iadd hx hb dX1_right_45 ?_
        refine lv_aload_n hx hb dX1_right_46 rfl (lv_at hl 0 rfl) ?_
        refine g1_p X Y 0 rfl rfl dX1_right_47 ?_
        refine lv_iload hx hb dX1_right_50 (lv_at hl 2 rfl) ?_
        refine z_iald X Y 5 rfl (by omega) dX1_right_52 ?_
        refine z_iast X Y 2 rfl (by omega) dX1_right_53 (fun H locs Y => ?_)
        have Y : z_W D A s (WM ad d n kn lk (va_up f1 ((6 * (mx x % n)) + i) ((uo.1) i)) pl q1 (uo.1) ma (uo.2) be go re) H locs := Y
        refine lv_aload_n hx hb dX1_right_54 rfl (lv_at hl 0 rfl) ?_
        refine g1_placed X Y 0 rfl rfl dX1_right_55 ?_
        refine lv_bipush (v := nI 6) hx hb dX1_right_58 (by decide) ?_
        refine lv_iload_n hx hb dX1_right_60 rfl (lv_at hl 1 rfl) ?_
        refine z_imul hx hb dX1_right_61 ?_
        refine lv_aload_n hx hb dX1_right_62 rfl (lv_at hl 0 rfl) ?_
        refine g1_p X Y 0 rfl rfl dX1_right_63 ?_
        refine lv_iload hx hb dX1_right_66 (lv_at hl 2 rfl) ?_
        refine z_iald X Y 5 rfl (by omega) dX1_right_68 ?_
        refine z_iadd hx hb dX1_right_69 ?_
        refine lv_iload hx hb dX1_right_70 (lv_at hl 2 rfl) ?_
        refine z_iast X Y 4 rfl (by omega) dX1_right_72 (fun H locs Y => ?_)
        have Y : z_W D A s (WM ad d n kn lk (va_up f1 ((6 * (mx x % n)) + i) ((uo.1) i)) pl (va_up q1 ((6 * (mx x % n)) + ((uo.1) i)) i) (uo.1) ma (uo.2) be go re) H locs := Y
        refine lv_iinc (v := nI (i + 1)) (lv' := [(4, .int (nI (i + 1))), (0, .ref (ad 0)), (3, .int (nI (mx x % n)))]) hx hb dX1_right_73 hl (k := 2) rfl (z_inc _) (by decide) rfl (fun ls hl => ?_)
        refine lv_goto (tgt := 26) hx hb dX1_right_76 (by decide) ?_
        exact ih26 (i + 1) (va_up f1 ((6 * (mx x % n)) + i) ((uo.1) i)) (va_up q1 ((6 * (mx x % n)) + ((uo.1) i)) i) c32 (h2.step hn c32 hr) (by omega) H locs ls Y (lv_sub hl [1, 2, 0] rfl)
  exact L26 _ 0 ld pd (Nat.zero_le n) (TkI.start) (Nat.lt_succ_self _) H locs ls Y (lv_sub hl [2, 1, 0] rfl)
set_option maxHeartbeats 4000000 in
set_option maxRecDepth 100000 in
/-- rests: whether the pairing p rests -/
theorem m_rests (l : Launch) (D : va_G) (d dz : ClassId) (ad : Nat → Nat) (n kn : Nat) (lk ld pl pd pp ma le be go : Nat → Nat) (re : Nat) (v : Nat) (hn0 : 0 < n) (hn : n ≤ 6) (hL : PfL n lk pl) (hR : PfL n ld pd) (hp : ∀ i, i < n → pp i = oP n v i) : CI l yX1_rests cX1_rests 3 .boolean 0 0 0 0 D d dz [.ref (ad 0)] (WM ad d n kn lk ld pl pd pp ma le be go re) (S := Nat → Nat) (fun r u => r = bN (rn n pl pd v) ∧ ∀ b, b < n → u b = iv n v b) (fun u => WM ad d n kn lk ld pl pd pp u le be go re) := by
  refine CI.start (own := RX1) rfl (by decide) (Nat.le_of_ble_eq_true rfl) (fun p e R s m args below meth c A Q X hnm hret H locs ls Y hl => ?_)
  have hx := X.1.1
  have hb := X.1.2.1
  have hl : lv_has ls 3 [(0, .ref (ad 0))] := hl
  refine lv_iconst (v := nI 0) hx hb dX1_rests_0 (by decide) ?_
  refine lv_istore_n (lv' := [(1, .int (nI 0)), (0, .ref (ad 0))]) hx hb dX1_rests_1 rfl hl (by decide) rfl (fun ls hl => ?_)
  have L2 : ∀ (N : Nat) (i : Nat) (m1 : Nat → Nat), i ≤ n → MaI n v i m1 → n - i < N → ∀ (H : Heap) (locs : List Loc) (ls : Array Slot), z_W D A s (WM ad d n kn lk ld pl pd pp m1 le be go re) H locs → lv_has ls 3 [(0, .ref (ad 0)), (1, .int (nI i))] → W p l e R s m args below meth c H locs 0 0 Q (F0 m 2 ls []) := by
    intro N
    induction N with
    | zero =>
      intro i m1 h1 h2 hm
      exact absurd hm (Nat.not_lt_zero _)
    | succ N ih2 =>
      intro i m1 h1 h2 hm H locs ls Y hl
      refine lv_iload_n hx hb dX1_rests_2 rfl (lv_at hl 1 rfl) ?_
      refine lv_aload_n hx hb dX1_rests_3 rfl (lv_at hl 0 rfl) ?_
      refine g1_n X Y 0 rfl rfl dX1_rests_4 ?_
      refine z_icge (tgt := 28) hx hb dX1_rests_7 (by decide) (by omega) (by omega) (fun c7 => ?_) (fun c7 => ?_)
      · have ei : i = n := by omega
        rw [ei] at h2
        have hmv : ∀ b, b < n → m1 b = iv n v b := fun b hb => h2.iv hb
        refine lv_iconst (v := nI 0) hx hb dX1_rests_28 (by decide) ?_
        refine lv_istore_n (lv' := [(1, .int (nI 0)), (0, .ref (ad 0))]) hx hb dX1_rests_29 rfl hl (by decide) rfl (fun ls hl => ?_)
        have L30 : ∀ (N : Nat) (a : Nat), a ≤ n → (∀ a1, a1 < a → ∀ b, b < n → okP n v pl pd a1 b) → n - a < N → ∀ (H : Heap) (locs : List Loc) (ls : Array Slot), z_W D A s (WM ad d n kn lk ld pl pd pp m1 le be go re) H locs → lv_has ls 3 [(0, .ref (ad 0)), (1, .int (nI a))] → W p l e R s m args below meth c H locs 0 0 Q (F0 m 30 ls []) := by
          intro N
          induction N with
          | zero =>
            intro a g1 g2 hm
            exact absurd hm (Nat.not_lt_zero _)
          | succ N ih30 =>
            intro a g1 g2 hm H locs ls Y hl
            refine lv_iload_n hx hb dX1_rests_30 rfl (lv_at hl 1 rfl) ?_
            refine lv_aload_n hx hb dX1_rests_31 rfl (lv_at hl 0 rfl) ?_
            refine g1_n X Y 0 rfl rfl dX1_rests_32 ?_
            refine z_icge (tgt := 122) hx hb dX1_rests_35 (by decide) (by omega) (by omega) (fun c35 => ?_) (fun c35 => ?_)
            · refine lv_iconst (v := nI 1) hx hb dX1_rests_122 (by decide) ?_
              exact hret 1 m1 H locs _ ls (⟨bN_t (okP_RN (fun a1 ha1 => g2 a1 (by omega))), hmv⟩) Y rfl dX1_rests_123
            · have hpa := hp a c35
              have hoa := oP_lt (k := v) c35
              refine lv_iconst (v := nI 0) hx hb dX1_rests_38 (by decide) ?_
              refine lv_istore_n (lv' := [(2, .int (nI 0)), (0, .ref (ad 0)), (1, .int (nI a))]) hx hb dX1_rests_39 rfl hl (by decide) rfl (fun ls hl => ?_)
              have L40 : ∀ (N : Nat) (b : Nat), b ≤ n → (∀ b1, b1 < b → okP n v pl pd a b1) → n - b < N → ∀ (H : Heap) (locs : List Loc) (ls : Array Slot), z_W D A s (WM ad d n kn lk ld pl pd pp m1 le be go re) H locs → lv_has ls 3 [(0, .ref (ad 0)), (1, .int (nI a)), (2, .int (nI b))] → W p l e R s m args below meth c H locs 0 0 Q (F0 m 40 ls []) := by
                intro N
                induction N with
                | zero =>
                  intro b s1 s2 hm
                  exact absurd hm (Nat.not_lt_zero _)
                | succ N ih40 =>
                  intro b s1 s2 hm H locs ls Y hl
                  refine lv_iload_n hx hb dX1_rests_40 rfl (lv_at hl 2 rfl) ?_
                  refine lv_aload_n hx hb dX1_rests_41 rfl (lv_at hl 0 rfl) ?_
                  refine g1_n X Y 0 rfl rfl dX1_rests_42 ?_
                  refine z_icge (tgt := 116) hx hb dX1_rests_45 (by decide) (by omega) (by omega) (fun c45 => ?_) (fun c45 => ?_)
                  · refine lv_iinc (v := nI (a + 1)) (lv' := [(1, .int (nI (a + 1))), (0, .ref (ad 0)), (2, .int (nI b))]) hx hb dX1_rests_116 hl (k := 1) rfl (z_inc _) (by decide) rfl (fun ls hl => ?_)
                    refine lv_goto (tgt := 30) hx hb dX1_rests_119 (by decide) ?_
                    exact ih30 (a + 1) c35 (lt_ex g2 (fun b1 hb1 => s2 b1 (by omega))) (by omega) H locs ls Y (lv_sub hl [1, 0] rfl)
                  · have hb1 := (hL a c35 b c45).2.1
                    have hb2 := (hL a c35 (pp a) (by omega)).2.1
                    refine lv_aload_n hx hb dX1_rests_48 rfl (lv_at hl 0 rfl) ?_
                    refine g1_place X Y 0 rfl rfl dX1_rests_49 ?_
                    refine lv_bipush (v := nI 6) hx hb dX1_rests_52 (by decide) ?_
                    refine lv_iload_n hx hb dX1_rests_54 rfl (lv_at hl 1 rfl) ?_
                    refine z_imul hx hb dX1_rests_55 ?_
                    refine lv_iload_n hx hb dX1_rests_56 rfl (lv_at hl 2 rfl) ?_
                    refine z_iadd hx hb dX1_rests_57 ?_
                    refine z_iald X Y 3 rfl (by omega) dX1_rests_58 ?_
                    refine lv_aload_n hx hb dX1_rests_59 rfl (lv_at hl 0 rfl) ?_
                    refine g1_place X Y 0 rfl rfl dX1_rests_60 ?_
                    refine lv_bipush (v := nI 6) hx hb dX1_rests_63 (by decide) ?_
                    refine lv_iload_n hx hb dX1_rests_65 rfl (lv_at hl 1 rfl) ?_
                    refine z_imul hx hb dX1_rests_66 ?_
                    refine lv_aload_n hx hb dX1_rests_67 rfl (lv_at hl 0 rfl) ?_
                    refine g1_p X Y 0 rfl rfl dX1_rests_68 ?_
                    refine lv_iload_n hx hb dX1_rests_71 rfl (lv_at hl 1 rfl) ?_
                    refine z_iald X Y 5 rfl (by omega) dX1_rests_72 ?_
                    refine z_iadd hx hb dX1_rests_73 ?_
                    refine z_iald X Y 3 rfl (by omega) dX1_rests_74 ?_
                    refine z_icge (tgt := 110) hx hb dX1_rests_75 (by decide) (by omega) (by omega) (fun c75 => ?_) (fun c75 => ?_)
                    · refine lv_iinc (v := nI (b + 1)) (lv' := [(2, .int (nI (b + 1))), (0, .ref (ad 0)), (1, .int (nI a))]) hx hb dX1_rests_110 hl (k := 2) rfl (z_inc _) (by decide) rfl (fun ls hl => ?_)
                      refine lv_goto (tgt := 40) hx hb dX1_rests_113 (by decide) ?_
                      exact ih40 (b + 1) c45 (lt_ex s2 (fun q => by rw [← hpa] at q; omega)) (by omega) H locs ls Y (lv_sub hl [1, 2, 0] rfl)
                    · have hmb := hmv b c45
                      have hib := iv_lt (k := v) c45
                      have hb3 := (hR b c45 a c35).2.1
                      have hb4 := (hR b c45 (m1 b) (by omega)).2.1
                      refine lv_aload_n hx hb dX1_rests_78 rfl (lv_at hl 0 rfl) ?_
                      refine g1_placed X Y 0 rfl rfl dX1_rests_79 ?_
                      refine lv_bipush (v := nI 6) hx hb dX1_rests_82 (by decide) ?_
                      refine lv_iload_n hx hb dX1_rests_84 rfl (lv_at hl 2 rfl) ?_
                      refine z_imul hx hb dX1_rests_85 ?_
                      refine lv_iload_n hx hb dX1_rests_86 rfl (lv_at hl 1 rfl) ?_
                      refine z_iadd hx hb dX1_rests_87 ?_
                      refine z_iald X Y 4 rfl (by omega) dX1_rests_88 ?_
                      refine lv_aload_n hx hb dX1_rests_89 rfl (lv_at hl 0 rfl) ?_
                      refine g1_placed X Y 0 rfl rfl dX1_rests_90 ?_
                      refine lv_bipush (v := nI 6) hx hb dX1_rests_93 (by decide) ?_
                      refine lv_iload_n hx hb dX1_rests_95 rfl (lv_at hl 2 rfl) ?_
                      refine z_imul hx hb dX1_rests_96 ?_
                      refine lv_aload_n hx hb dX1_rests_97 rfl (lv_at hl 0 rfl) ?_
                      refine g1_mate X Y 0 rfl rfl dX1_rests_98 ?_
                      refine lv_iload_n hx hb dX1_rests_101 rfl (lv_at hl 2 rfl) ?_
                      refine z_iald X Y 6 rfl (by omega) dX1_rests_102 ?_
                      refine z_iadd hx hb dX1_rests_103 ?_
                      refine z_iald X Y 4 rfl (by omega) dX1_rests_104 ?_
                      refine z_icge (tgt := 110) hx hb dX1_rests_105 (by decide) (by omega) (by omega) (fun c105 => ?_) (fun c105 => ?_)
                      · refine lv_iinc (v := nI (b + 1)) (lv' := [(2, .int (nI (b + 1))), (0, .ref (ad 0)), (1, .int (nI a))]) hx hb dX1_rests_110 hl (k := 2) rfl (z_inc _) (by decide) rfl (fun ls hl => ?_)
                        refine lv_goto (tgt := 40) hx hb dX1_rests_113 (by decide) ?_
                        exact ih40 (b + 1) c45 (lt_ex s2 (fun _ => by rw [← hmb]; exact c105)) (by omega) H locs ls Y (lv_sub hl [1, 2, 0] rfl)
                      · refine lv_iconst (v := nI 0) hx hb dX1_rests_108 (by decide) ?_
                        have hno : ¬ RN n pl pd v := fun R => by
                          have := RN_okP R c35 c45 (by rw [← hpa]; exact c75)
                          rw [← hmb] at this
                          omega
                        exact hret 0 m1 H locs _ ls (⟨bN_f hno, hmv⟩) Y rfl dX1_rests_109
              exact L40 _ 0 (Nat.zero_le n) (fun j hj => absurd hj (Nat.not_lt_zero j)) (Nat.lt_succ_self _) H locs ls Y (lv_sub hl [1, 2, 0] rfl)
        exact L30 _ 0 (Nat.zero_le n) (fun j hj => absurd hj (Nat.not_lt_zero j)) (Nat.lt_succ_self _) H locs ls Y (lv_sub hl [1, 0] rfl)
      · have hpi := hp i c7
        have ho := oP_lt (k := v) c7
        refine lv_aload_n hx hb dX1_rests_10 rfl (lv_at hl 0 rfl) ?_
        refine g1_mate X Y 0 rfl rfl dX1_rests_11 ?_
        refine lv_aload_n hx hb dX1_rests_14 rfl (lv_at hl 0 rfl) ?_
        refine g1_p X Y 0 rfl rfl dX1_rests_15 ?_
        refine lv_iload_n hx hb dX1_rests_18 rfl (lv_at hl 1 rfl) ?_
        refine z_iald X Y 5 rfl (by omega) dX1_rests_19 ?_
        refine lv_iload_n hx hb dX1_rests_20 rfl (lv_at hl 1 rfl) ?_
        refine z_iast X Y 6 rfl (by omega) dX1_rests_21 (fun H locs Y => ?_)
        have Y : z_W D A s (WM ad d n kn lk ld pl pd pp (va_up m1 (pp i) i) le be go re) H locs := Y
        refine lv_iinc (v := nI (i + 1)) (lv' := [(1, .int (nI (i + 1))), (0, .ref (ad 0))]) hx hb dX1_rests_22 hl (k := 1) rfl (z_inc _) (by decide) rfl (fun ls hl => ?_)
        refine lv_goto (tgt := 2) hx hb dX1_rests_25 (by decide) ?_
        exact ih2 (i + 1) (va_up m1 (pp i) i) c7 (h2.step c7 hpi) (by omega) H locs ls Y (lv_sub hl [1, 0] rfl)
  exact L2 _ 0 ma (Nat.zero_le n) (fun j hj => absurd hj (Nat.not_lt_zero j)) (Nat.lt_succ_self _) H locs ls Y (lv_sub hl [1, 0] rfl)
set_option maxHeartbeats 4000000 in
set_option maxRecDepth 100000 in
/-- reckon: over all pairings -/
theorem m_reckon (l : Launch) (D : va_G) (d dz : ClassId) (ad : Nat → Nat) (n kn : Nat) (lk ld pl pd pp ma le be go : Nat → Nat) (re : Nat) (hn0 : 0 < n) (hn : n ≤ 6) (hL : PfL n lk pl) (hR : PfL n ld pd) (hk0 : kn = 0 ∨ kn = 1) (hkn : kn = 1 → RkI n pl pd (fc n) be go re) : CV l yX1_reckon cX1_reckon 4 1 26 0 0 D d dz [.ref (ad 0)] (WM ad d n kn lk ld pl pd pp ma le be go re) (S := (Nat → Nat) × (Nat → Nat) × (Nat → Nat) × (Nat → Nat) × (Nat → Nat) × Nat) (fun u => RkI n pl pd (fc n) u.2.2.2.1 u.2.2.2.2.1 u.2.2.2.2.2) (fun u => WM ad d n 1 lk ld pl pd (u.1) (u.2.1) (u.2.2.1) (u.2.2.2.1) (u.2.2.2.2.1) (u.2.2.2.2.2)) := by
  refine CV.start (own := RX1) rfl (by decide) (Nat.le_of_ble_eq_true rfl) (fun p e R s m args below meth c A Q X hnm hret H locs ls Y hl => ?_)
  have hx := X.1.1
  have hb := X.1.2.1
  have hl : lv_has ls 4 [(0, .ref (ad 0))] := hl
  have hf := fc_le n (by omega)
  refine lv_aload_n hx hb dX1_reckon_0 rfl (lv_at hl 0 rfl) ?_
  refine g1_known X Y 0 rfl rfl dX1_reckon_1 ?_
  refine z_ifeq (tgt := 8) hx hb dX1_reckon_4 (by decide) (by omega) (fun c4 => ?_) (fun c4 => ?_)
  · refine lv_aload_n hx hb dX1_reckon_8 rfl (lv_at hl 0 rfl) ?_
    refine lv_iconst (v := nI 1) hx hb dX1_reckon_9 (by decide) ?_
    refine p1_known X Y 0 rfl (Nat.le_of_ble_eq_true rfl) rfl rfl dX1_reckon_10 (fun H locs Y => ?_)
    have Y : z_W D A s (WM ad d n 1 lk ld pl pd pp ma le be go re) H locs := Y
    refine lv_aload_n hx hb dX1_reckon_13 rfl (lv_at hl 0 rfl) ?_
    refine lv_iconst (v := nI 0) hx hb dX1_reckon_14 (by decide) ?_
    refine p1_resting X Y 0 rfl (Nat.le_of_ble_eq_true rfl) dX1_reckon_15 (fun H locs Y => ?_)
    have Y : z_W D A s (WM ad d n 1 lk ld pl pd pp ma le be go 0) H locs := Y
    refine lv_iconst (v := nI 0) hx hb dX1_reckon_18 (by decide) ?_
    refine lv_istore_n (lv' := [(1, .int (nI 0)), (0, .ref (ad 0))]) hx hb dX1_reckon_19 rfl hl (by decide) rfl (fun ls hl => ?_)
    have L20 : ∀ (N : Nat) (i : Nat) (b0 : Nat → Nat) (g0 : Nat → Nat), i ≤ 6 → (∀ j, j < i → b0 j = n) → (∀ j, j < i → g0 j = n) → 6 - i < N → ∀ (H : Heap) (locs : List Loc) (ls : Array Slot), z_W D A s (WM ad d n 1 lk ld pl pd pp ma le b0 g0 0) H locs → lv_has ls 4 [(0, .ref (ad 0)), (1, .int (nI i))] → W p l e R s m args below meth c H locs 0 0 Q (F0 m 20 ls []) := by
      intro N
      induction N with
      | zero =>
        intro i b0 g0 h0 h1 h2 hm
        exact absurd hm (Nat.not_lt_zero _)
      | succ N ih20 =>
        intro i b0 g0 h0 h1 h2 hm H locs ls Y hl
        refine lv_iload_n hx hb dX1_reckon_20 rfl (lv_at hl 1 rfl) ?_
        refine lv_bipush (v := nI 6) hx hb dX1_reckon_21 (by decide) ?_
        refine z_icge (tgt := 52) hx hb dX1_reckon_23 (by decide) (by omega) (by omega) (fun c23 => ?_) (fun c23 => ?_)
        · refine lv_aload_n hx hb dX1_reckon_52 rfl (lv_at hl 0 rfl) ?_
          refine z_ci (n := 0) (q0 := 0) (ci := 1) (rest := []) X Y (m_orders l D d dz ad n 1 lk ld pl pd pp ma le b0 g0 0 hn0 hn) (lw_V q190 q192 qs10 q16 q193) (by decide +kernel) ⟨by decide, by decide⟩ rfl rfl rfl rfl hl.1 rfl (Nat.le_of_ble_eq_true rfl) dX1_reckon_53 ⟨Nat.zero_le _, Nat.zero_le _⟩ (fun a2 _u H locs hz Y => ?_)
          subst a2
          have Y : z_W D A s (WM ad d n 1 lk ld pl pd pp ma le b0 g0 0) H locs := Y
          refine lv_istore_n (lv' := [(1, .int (nI (fc n))), (0, .ref (ad 0))]) hx hb dX1_reckon_56 rfl hl (by decide) rfl (fun ls hl => ?_)
          refine lv_iconst (v := nI 0) hx hb dX1_reckon_57 (by decide) ?_
          refine lv_istore_n (lv' := [(2, .int (nI 0)), (1, .int (nI (fc n))), (0, .ref (ad 0))]) hx hb dX1_reckon_58 rfl hl (by decide) rfl (fun ls hl => ?_)
          have L59 : ∀ (N : Nat) (k : Nat) (p1 : Nat → Nat) (m1 : Nat → Nat) (l1 : Nat → Nat) (b1 : Nat → Nat) (g1 : Nat → Nat) (r1 : Nat), k ≤ fc n → RkI n pl pd k b1 g1 r1 → fc n - k < N → ∀ (H : Heap) (locs : List Loc) (ls : Array Slot), z_W D A s (WM ad d n 1 lk ld pl pd p1 m1 l1 b1 g1 r1) H locs → lv_has ls 4 [(0, .ref (ad 0)), (1, .int (nI (fc n))), (2, .int (nI k))] → W p l e R s m args below meth c H locs 0 0 Q (F0 m 59 ls []) := by
            intro N
            induction N with
            | zero =>
              intro k p1 m1 l1 b1 g1 r1 i1 i2 hm
              exact absurd hm (Nat.not_lt_zero _)
            | succ N ih59 =>
              intro k p1 m1 l1 b1 g1 r1 i1 i2 hm H locs ls Y hl
              refine lv_iload_n hx hb dX1_reckon_59 rfl (lv_at hl 2 rfl) ?_
              refine lv_iload_n hx hb dX1_reckon_60 rfl (lv_at hl 1 rfl) ?_
              refine z_icge (tgt := 202) hx hb dX1_reckon_61 (by decide) (by omega) (by omega) (fun c61 => ?_) (fun c61 => ?_)
              · have e : k = fc n := by omega
                rw [e] at i2
                exact hret (p1, m1, l1, b1, g1, r1) H locs _ ls i2 Y dX1_reckon_202
              · refine lv_aload_n hx hb dX1_reckon_64 rfl (lv_at hl 0 rfl) ?_
                refine lv_iload_n hx hb dX1_reckon_65 rfl (lv_at hl 2 rfl) ?_
                refine z_cv (n := 1) (q0 := 0) (ci := 1) (rest := []) X Y (m_order l D d dz ad n 1 lk ld pl pd p1 m1 l1 b1 g1 r1 k hn (by omega)) (lw_V q194 q196 qs11 q16 q197) (by decide +kernel) ⟨by decide, by decide⟩ rfl rfl rfl rfl hl.1 rfl (Nat.le_of_ble_eq_true rfl) dX1_reckon_66 ⟨Nat.zero_le _, Nat.zero_le _⟩ (fun uo H locs hp Y => ?_)
                have Y : z_W D A s (WM ad d n 1 lk ld pl pd (uo.1) m1 (uo.2) b1 g1 r1) H locs := Y
                refine lv_aload_n hx hb dX1_reckon_69 rfl (lv_at hl 0 rfl) ?_
                refine z_ci (n := 0) (q0 := 0) (ci := 1) (rest := []) X Y (m_rests l D d dz ad n 1 lk ld pl pd (uo.1) m1 (uo.2) b1 g1 r1 k hn0 hn hL hR hp) (lw_V q210 q212 qs13 q16 q213) (by decide +kernel) ⟨by decide, by decide⟩ rfl rfl rfl rfl hl.1 rfl (Nat.le_of_ble_eq_true rfl) dX1_reckon_70 ⟨Nat.zero_le _, Nat.zero_le _⟩ (fun rr um H locs hr Y => ?_)
                have Y : z_W D A s (WM ad d n 1 lk ld pl pd (uo.1) um (uo.2) b1 g1 r1) H locs := Y
                have hrb := bN_le (rn n pl pd k)
                refine z_ifeq (tgt := 196) hx hb dX1_reckon_73 (by decide) (by rw [hr.1]; omega) (fun c73 => ?_) (fun c73 => ?_)
                · refine lv_iinc (v := nI (k + 1)) (lv' := [(2, .int (nI (k + 1))), (0, .ref (ad 0)), (1, .int (nI (fc n)))]) hx hb dX1_reckon_196 hl (k := 2) rfl (z_inc _) (by decide) rfl (fun ls hl => ?_)
                  refine lv_goto (tgt := 59) hx hb dX1_reckon_199 (by decide) ?_
                  exact ih59 (k + 1) (uo.1) um (uo.2) b1 g1 r1 c61 (i2.no (bN_0 (by rw [← hr.1]; exact c73))) (by omega) H locs ls Y (lv_sub hl [1, 2, 0] rfl)
                · have hyes : rn n pl pd k = true := bN_1 (by rw [← hr.1]; exact c73)
                  refine lv_aload_n hx hb dX1_reckon_76 rfl (lv_at hl 0 rfl) ?_
                  refine lv_aload_n hx hb dX1_reckon_77 rfl (lv_at hl 0 rfl) ?_
                  refine g1_resting X Y 0 rfl rfl dX1_reckon_78 ?_
                  refine lv_iconst (v := nI 1) hx hb dX1_reckon_81 (by decide) ?_
                  refine z_iadd hx hb dX1_reckon_82 ?_
                  refine p1_resting X Y 0 rfl (Nat.le_of_ble_eq_true rfl) dX1_reckon_83 (fun H locs Y => ?_)
                  have Y : z_W D A s (WM ad d n 1 lk ld pl pd (uo.1) um (uo.2) b1 g1 (r1 + 1)) H locs := Y
                  refine lv_iconst (v := nI 0) hx hb dX1_reckon_86 (by decide) ?_
                  refine lv_istore_n (lv' := [(3, .int (nI 0)), (0, .ref (ad 0)), (1, .int (nI (fc n))), (2, .int (nI k))]) hx hb dX1_reckon_87 rfl hl (by decide) rfl (fun ls hl => ?_)
                  have L88 : ∀ (N : Nat) (i : Nat) (b2 : Nat → Nat) (g2 : Nat → Nat), i ≤ n → BsI n (rn n pl pd) (valL n pl) k i b2 → BsI n (rn n pl pd) (valR n pd) k i g2 → n - i < N → ∀ (H : Heap) (locs : List Loc) (ls : Array Slot), z_W D A s (WM ad d n 1 lk ld pl pd (uo.1) um (uo.2) b2 g2 (r1 + 1)) H locs → lv_has ls 4 [(0, .ref (ad 0)), (1, .int (nI (fc n))), (2, .int (nI k)), (3, .int (nI i))] → W p l e R s m args below meth c H locs 0 0 Q (F0 m 88 ls []) := by
                    intro N
                    induction N with
                    | zero =>
                      intro i b2 g2 s0 s1 s2 hm
                      exact absurd hm (Nat.not_lt_zero _)
                    | succ N ih88 =>
                      intro i b2 g2 s0 s1 s2 hm H locs ls Y hl
                      refine lv_iload_n hx hb dX1_reckon_88 rfl (lv_at hl 3 rfl) ?_
                      refine lv_aload_n hx hb dX1_reckon_89 rfl (lv_at hl 0 rfl) ?_
                      refine g1_n X Y 0 rfl rfl dX1_reckon_90 ?_
                      refine z_icge (tgt := 196) hx hb dX1_reckon_93 (by decide) (by omega) (by omega) (fun c93 => ?_) (fun c93 => ?_)
                      · refine lv_iinc (v := nI (k + 1)) (lv' := [(2, .int (nI (k + 1))), (0, .ref (ad 0)), (1, .int (nI (fc n))), (3, .int (nI i))]) hx hb dX1_reckon_196 hl (k := 2) rfl (z_inc _) (by decide) rfl (fun ls hl => ?_)
                        refine lv_goto (tgt := 59) hx hb dX1_reckon_199 (by decide) ?_
                        exact ih59 (k + 1) (uo.1) um (uo.2) b2 g2 (r1 + 1) c61 (i2.yes hyes c93 s1 s2) (by omega) H locs ls Y (lv_sub hl [1, 2, 0] rfl)
                      · have hpi := hp i c93
                        have ho := oP_lt (k := k) c93
                        have hmi := hr.2 i c93
                        have hiv := iv_lt (k := k) c93
                        have hb1 := (hL i c93 (uo.1 i) (by omega)).2.1
                        have hb2 := (hR i c93 (um i) (by omega)).2.1
                        have hs1 := (s1.at c93).2
                        have hs2 := (s2.at c93).2
                        refine lv_aload_n hx hb dX1_reckon_96 rfl (lv_at hl 0 rfl) ?_
                        refine g1_place X Y 0 rfl rfl dX1_reckon_97 ?_
                        refine lv_bipush (v := nI 6) hx hb dX1_reckon_100 (by decide) ?_
                        refine lv_iload_n hx hb dX1_reckon_102 rfl (lv_at hl 3 rfl) ?_
                        refine z_imul hx hb dX1_reckon_103 ?_
                        refine lv_aload_n hx hb dX1_reckon_104 rfl (lv_at hl 0 rfl) ?_
                        refine g1_p X Y 0 rfl rfl dX1_reckon_105 ?_
                        refine lv_iload_n hx hb dX1_reckon_108 rfl (lv_at hl 3 rfl) ?_
                        refine z_iald X Y 5 rfl (by omega) dX1_reckon_109 ?_
                        refine z_iadd hx hb dX1_reckon_110 ?_
                        refine z_iald X Y 3 rfl (by omega) dX1_reckon_111 ?_
                        refine lv_aload_n hx hb dX1_reckon_112 rfl (lv_at hl 0 rfl) ?_
                        refine g1_best X Y 0 rfl rfl dX1_reckon_113 ?_
                        refine lv_iload_n hx hb dX1_reckon_116 rfl (lv_at hl 3 rfl) ?_
                        refine z_iald X Y 8 rfl (by omega) dX1_reckon_117 ?_
                        refine z_icge (tgt := 143) hx hb dX1_reckon_118 (by decide) (by omega) (by omega) (fun c118 => ?_) (fun c118 => ?_)
                        · refine lv_aload_n hx hb dX1_reckon_143 rfl (lv_at hl 0 rfl) ?_
                          refine g1_placed X Y 0 rfl rfl dX1_reckon_144 ?_
                          refine lv_bipush (v := nI 6) hx hb dX1_reckon_147 (by decide) ?_
                          refine lv_iload_n hx hb dX1_reckon_149 rfl (lv_at hl 3 rfl) ?_
                          refine z_imul hx hb dX1_reckon_150 ?_
                          refine lv_aload_n hx hb dX1_reckon_151 rfl (lv_at hl 0 rfl) ?_
                          refine g1_mate X Y 0 rfl rfl dX1_reckon_152 ?_
                          refine lv_iload_n hx hb dX1_reckon_155 rfl (lv_at hl 3 rfl) ?_
                          refine z_iald X Y 6 rfl (by omega) dX1_reckon_156 ?_
                          refine z_iadd hx hb dX1_reckon_157 ?_
                          refine z_iald X Y 4 rfl (by omega) dX1_reckon_158 ?_
                          refine lv_aload_n hx hb dX1_reckon_159 rfl (lv_at hl 0 rfl) ?_
                          refine g1_good X Y 0 rfl rfl dX1_reckon_160 ?_
                          refine lv_iload_n hx hb dX1_reckon_163 rfl (lv_at hl 3 rfl) ?_
                          refine z_iald X Y 9 rfl (by omega) dX1_reckon_164 ?_
                          refine z_icge (tgt := 190) hx hb dX1_reckon_165 (by decide) (by omega) (by omega) (fun c165 => ?_) (fun c165 => ?_)
                          · refine lv_iinc (v := nI (i + 1)) (lv' := [(3, .int (nI (i + 1))), (0, .ref (ad 0)), (1, .int (nI (fc n))), (2, .int (nI k))]) hx hb dX1_reckon_190 hl (k := 3) rfl (z_inc _) (by decide) rfl (fun ls hl => ?_)
                            refine lv_goto (tgt := 88) hx hb dX1_reckon_193 (by decide) ?_
                            exact ih88 (i + 1) b2 g2 c93 (s1.skip c93 (by rw [hpi]) c118) (s2.skip c93 (by rw [hmi]) c165) (by omega) H locs ls Y (lv_sub hl [1, 2, 3, 0] rfl)
                          · refine lv_aload_n hx hb dX1_reckon_168 rfl (lv_at hl 0 rfl) ?_
                            refine g1_good X Y 0 rfl rfl dX1_reckon_169 ?_
                            refine lv_iload_n hx hb dX1_reckon_172 rfl (lv_at hl 3 rfl) ?_
                            refine lv_aload_n hx hb dX1_reckon_173 rfl (lv_at hl 0 rfl) ?_
                            refine g1_placed X Y 0 rfl rfl dX1_reckon_174 ?_
                            refine lv_bipush (v := nI 6) hx hb dX1_reckon_177 (by decide) ?_
                            refine lv_iload_n hx hb dX1_reckon_179 rfl (lv_at hl 3 rfl) ?_
                            refine z_imul hx hb dX1_reckon_180 ?_
                            refine lv_aload_n hx hb dX1_reckon_181 rfl (lv_at hl 0 rfl) ?_
                            refine g1_mate X Y 0 rfl rfl dX1_reckon_182 ?_
                            refine lv_iload_n hx hb dX1_reckon_185 rfl (lv_at hl 3 rfl) ?_
                            refine z_iald X Y 6 rfl (by omega) dX1_reckon_186 ?_
                            refine z_iadd hx hb dX1_reckon_187 ?_
                            refine z_iald X Y 4 rfl (by omega) dX1_reckon_188 ?_
                            refine z_iast X Y 9 rfl (by omega) dX1_reckon_189 (fun H locs Y => ?_)
                            have Y : z_W D A s (WM ad d n 1 lk ld pl pd (uo.1) um (uo.2) b2 (va_up g2 i (pd ((6 * i) + (um i)))) (r1 + 1)) H locs := Y
                            refine lv_iinc (v := nI (i + 1)) (lv' := [(3, .int (nI (i + 1))), (0, .ref (ad 0)), (1, .int (nI (fc n))), (2, .int (nI k))]) hx hb dX1_reckon_190 hl (k := 3) rfl (z_inc _) (by decide) rfl (fun ls hl => ?_)
                            refine lv_goto (tgt := 88) hx hb dX1_reckon_193 (by decide) ?_
                            exact ih88 (i + 1) b2 (va_up g2 i (pd ((6 * i) + (um i)))) c93 (s1.skip c93 (by rw [hpi]) c118) (s2.take c93 hyes (by rw [hmi]) c165) (by omega) H locs ls Y (lv_sub hl [1, 2, 3, 0] rfl)
                        · refine lv_aload_n hx hb dX1_reckon_121 rfl (lv_at hl 0 rfl) ?_
                          refine g1_best X Y 0 rfl rfl dX1_reckon_122 ?_
                          refine lv_iload_n hx hb dX1_reckon_125 rfl (lv_at hl 3 rfl) ?_
                          refine lv_aload_n hx hb dX1_reckon_126 rfl (lv_at hl 0 rfl) ?_
                          refine g1_place X Y 0 rfl rfl dX1_reckon_127 ?_
                          refine lv_bipush (v := nI 6) hx hb dX1_reckon_130 (by decide) ?_
                          refine lv_iload_n hx hb dX1_reckon_132 rfl (lv_at hl 3 rfl) ?_
                          refine z_imul hx hb dX1_reckon_133 ?_
                          refine lv_aload_n hx hb dX1_reckon_134 rfl (lv_at hl 0 rfl) ?_
                          refine g1_p X Y 0 rfl rfl dX1_reckon_135 ?_
                          refine lv_iload_n hx hb dX1_reckon_138 rfl (lv_at hl 3 rfl) ?_
                          refine z_iald X Y 5 rfl (by omega) dX1_reckon_139 ?_
                          refine z_iadd hx hb dX1_reckon_140 ?_
                          refine z_iald X Y 3 rfl (by omega) dX1_reckon_141 ?_
                          refine z_iast X Y 8 rfl (by omega) dX1_reckon_142 (fun H locs Y => ?_)
                          have Y : z_W D A s (WM ad d n 1 lk ld pl pd (uo.1) um (uo.2) (va_up b2 i (pl ((6 * i) + ((uo.1) i)))) g2 (r1 + 1)) H locs := Y
                          refine lv_aload_n hx hb dX1_reckon_143 rfl (lv_at hl 0 rfl) ?_
                          refine g1_placed X Y 0 rfl rfl dX1_reckon_144 ?_
                          refine lv_bipush (v := nI 6) hx hb dX1_reckon_147 (by decide) ?_
                          refine lv_iload_n hx hb dX1_reckon_149 rfl (lv_at hl 3 rfl) ?_
                          refine z_imul hx hb dX1_reckon_150 ?_
                          refine lv_aload_n hx hb dX1_reckon_151 rfl (lv_at hl 0 rfl) ?_
                          refine g1_mate X Y 0 rfl rfl dX1_reckon_152 ?_
                          refine lv_iload_n hx hb dX1_reckon_155 rfl (lv_at hl 3 rfl) ?_
                          refine z_iald X Y 6 rfl (by omega) dX1_reckon_156 ?_
                          refine z_iadd hx hb dX1_reckon_157 ?_
                          refine z_iald X Y 4 rfl (by omega) dX1_reckon_158 ?_
                          refine lv_aload_n hx hb dX1_reckon_159 rfl (lv_at hl 0 rfl) ?_
                          refine g1_good X Y 0 rfl rfl dX1_reckon_160 ?_
                          refine lv_iload_n hx hb dX1_reckon_163 rfl (lv_at hl 3 rfl) ?_
                          refine z_iald X Y 9 rfl (by omega) dX1_reckon_164 ?_
                          refine z_icge (tgt := 190) hx hb dX1_reckon_165 (by decide) (by omega) (by omega) (fun c165 => ?_) (fun c165 => ?_)
                          · refine lv_iinc (v := nI (i + 1)) (lv' := [(3, .int (nI (i + 1))), (0, .ref (ad 0)), (1, .int (nI (fc n))), (2, .int (nI k))]) hx hb dX1_reckon_190 hl (k := 3) rfl (z_inc _) (by decide) rfl (fun ls hl => ?_)
                            refine lv_goto (tgt := 88) hx hb dX1_reckon_193 (by decide) ?_
                            exact ih88 (i + 1) (va_up b2 i (pl ((6 * i) + ((uo.1) i)))) g2 c93 (s1.take c93 hyes (by rw [hpi]) c118) (s2.skip c93 (by rw [hmi]) c165) (by omega) H locs ls Y (lv_sub hl [1, 2, 3, 0] rfl)
                          · refine lv_aload_n hx hb dX1_reckon_168 rfl (lv_at hl 0 rfl) ?_
                            refine g1_good X Y 0 rfl rfl dX1_reckon_169 ?_
                            refine lv_iload_n hx hb dX1_reckon_172 rfl (lv_at hl 3 rfl) ?_
                            refine lv_aload_n hx hb dX1_reckon_173 rfl (lv_at hl 0 rfl) ?_
                            refine g1_placed X Y 0 rfl rfl dX1_reckon_174 ?_
                            refine lv_bipush (v := nI 6) hx hb dX1_reckon_177 (by decide) ?_
                            refine lv_iload_n hx hb dX1_reckon_179 rfl (lv_at hl 3 rfl) ?_
                            refine z_imul hx hb dX1_reckon_180 ?_
                            refine lv_aload_n hx hb dX1_reckon_181 rfl (lv_at hl 0 rfl) ?_
                            refine g1_mate X Y 0 rfl rfl dX1_reckon_182 ?_
                            refine lv_iload_n hx hb dX1_reckon_185 rfl (lv_at hl 3 rfl) ?_
                            refine z_iald X Y 6 rfl (by omega) dX1_reckon_186 ?_
                            refine z_iadd hx hb dX1_reckon_187 ?_
                            refine z_iald X Y 4 rfl (by omega) dX1_reckon_188 ?_
                            refine z_iast X Y 9 rfl (by omega) dX1_reckon_189 (fun H locs Y => ?_)
                            have Y : z_W D A s (WM ad d n 1 lk ld pl pd (uo.1) um (uo.2) (va_up b2 i (pl ((6 * i) + ((uo.1) i)))) (va_up g2 i (pd ((6 * i) + (um i)))) (r1 + 1)) H locs := Y
                            refine lv_iinc (v := nI (i + 1)) (lv' := [(3, .int (nI (i + 1))), (0, .ref (ad 0)), (1, .int (nI (fc n))), (2, .int (nI k))]) hx hb dX1_reckon_190 hl (k := 3) rfl (z_inc _) (by decide) rfl (fun ls hl => ?_)
                            refine lv_goto (tgt := 88) hx hb dX1_reckon_193 (by decide) ?_
                            exact ih88 (i + 1) (va_up b2 i (pl ((6 * i) + ((uo.1) i)))) (va_up g2 i (pd ((6 * i) + (um i)))) c93 (s1.take c93 hyes (by rw [hpi]) c118) (s2.take c93 hyes (by rw [hmi]) c165) (by omega) H locs ls Y (lv_sub hl [1, 2, 3, 0] rfl)
                  exact L88 _ 0 b1 g1 (Nat.zero_le n) (BsI.start i2.2.1) (BsI.start i2.2.2) (Nat.lt_succ_self _) H locs ls Y (lv_sub hl [1, 2, 3, 0] rfl)
          exact L59 _ 0 pp ma le b0 g0 0 (Nat.zero_le _) (RkI.start hn (fun j hj => h1 j (by omega)) (fun j hj => h2 j (by omega))) (Nat.lt_succ_self _) H locs ls Y (lv_sub hl [2, 1, 0] rfl)
        · refine lv_aload_n hx hb dX1_reckon_26 rfl (lv_at hl 0 rfl) ?_
          refine g1_best X Y 0 rfl rfl dX1_reckon_27 ?_
          refine lv_iload_n hx hb dX1_reckon_30 rfl (lv_at hl 1 rfl) ?_
          refine lv_aload_n hx hb dX1_reckon_31 rfl (lv_at hl 0 rfl) ?_
          refine g1_n X Y 0 rfl rfl dX1_reckon_32 ?_
          refine z_iast X Y 8 rfl (by omega) dX1_reckon_35 (fun H locs Y => ?_)
          have Y : z_W D A s (WM ad d n 1 lk ld pl pd pp ma le (va_up b0 i n) g0 0) H locs := Y
          refine lv_aload_n hx hb dX1_reckon_36 rfl (lv_at hl 0 rfl) ?_
          refine g1_good X Y 0 rfl rfl dX1_reckon_37 ?_
          refine lv_iload_n hx hb dX1_reckon_40 rfl (lv_at hl 1 rfl) ?_
          refine lv_aload_n hx hb dX1_reckon_41 rfl (lv_at hl 0 rfl) ?_
          refine g1_n X Y 0 rfl rfl dX1_reckon_42 ?_
          refine z_iast X Y 9 rfl (by omega) dX1_reckon_45 (fun H locs Y => ?_)
          have Y : z_W D A s (WM ad d n 1 lk ld pl pd pp ma le (va_up b0 i n) (va_up g0 i n) 0) H locs := Y
          refine lv_iinc (v := nI (i + 1)) (lv' := [(1, .int (nI (i + 1))), (0, .ref (ad 0))]) hx hb dX1_reckon_46 hl (k := 1) rfl (z_inc _) (by decide) rfl (fun ls hl => ?_)
          refine lv_goto (tgt := 20) hx hb dX1_reckon_49 (by decide) ?_
          exact ih20 (i + 1) (va_up b0 i n) (va_up g0 i n) c23 (up_all h1) (up_all h2) (by omega) H locs ls Y (lv_sub hl [1, 0] rfl)
    exact L20 _ 0 be go (Nat.zero_le _) (fun j hj => absurd hj (Nat.not_lt_zero j)) (fun j hj => absurd hj (Nat.not_lt_zero j)) (Nat.lt_succ_self _) H locs ls Y (lv_sub hl [1, 0] rfl)
  · have ek : kn = 1 := by omega
    have hkk := hkn ek
    subst ek
    exact hret (pp, ma, le, be, go, re) H locs _ ls hkk Y dX1_reckon_7
set_option maxHeartbeats 4000000 in
set_option maxRecDepth 100000 in
/-- steadyOnes -/
theorem m_steadyOnes (l : Launch) (D : va_G) (d dz : ClassId) (ad : Nat → Nat) (n kn : Nat) (lk ld pl pd pp ma le be go : Nat → Nat) (re : Nat) (hn0 : 0 < n) (hn : n ≤ 6) (hL : PfL n lk pl) (hR : PfL n ld pd) (hk0 : kn = 0 ∨ kn = 1) (hkn : kn = 1 → RkI n pl pd (fc n) be go re) : CI l yX1_steadyOnes cX1_steadyOnes 1 .int 2 49 0 0 D d dz [.ref (ad 0)] (WM ad d n kn lk ld pl pd pp ma le be go re) (S := (Nat → Nat) × (Nat → Nat) × (Nat → Nat) × (Nat → Nat) × (Nat → Nat) × Nat) (fun k u => k = cT (rn n pl pd) (fc n) ∧ RkI n pl pd (fc n) u.2.2.2.1 u.2.2.2.2.1 u.2.2.2.2.2) (fun u => WM ad d n 1 lk ld pl pd (u.1) (u.2.1) (u.2.2.1) (u.2.2.2.1) (u.2.2.2.2.1) (u.2.2.2.2.2)) := by
  refine CI.start (own := RX1) rfl (by decide) (Nat.le_of_ble_eq_true rfl) (fun p e R s m args below meth c A Q X hnm hret H locs ls Y hl => ?_)
  have hx := X.1.1
  have hb := X.1.2.1
  have hl : lv_has ls 1 [(0, .ref (ad 0))] := hl
  refine lv_aload_n hx hb dX1_steadyOnes_0 rfl (lv_at hl 0 rfl) ?_
  refine z_cv (n := 0) (q0 := 0) (ci := 1) (rest := []) X Y (m_reckon l D d dz ad n kn lk ld pl pd pp ma le be go re hn0 hn hL hR hk0 hkn) (lw_V q206 q208 qs12 q16 q209) (by decide +kernel) ⟨by decide, by decide⟩ rfl rfl rfl rfl hl.1 rfl (Nat.le_of_ble_eq_true rfl) dX1_steadyOnes_1 ⟨Nat.zero_le _, Nat.zero_le _⟩ (fun u H locs hp Y => ?_)
  have Y : z_W D A s (WM ad d n 1 lk ld pl pd (u.1) (u.2.1) (u.2.2.1) (u.2.2.2.1) (u.2.2.2.2.1) (u.2.2.2.2.2)) H locs := Y
  refine lv_aload_n hx hb dX1_steadyOnes_4 rfl (lv_at hl 0 rfl) ?_
  refine g1_resting X Y 0 rfl rfl dX1_steadyOnes_5 ?_
  exact hret (u.2.2.2.2.2) u H locs _ ls (⟨hp.1, hp⟩) Y rfl dX1_steadyOnes_8
set_option maxHeartbeats 4000000 in
set_option maxRecDepth 100000 in
/-- partner(x) -/
theorem m_partner (l : Launch) (D : va_G) (d dz : ClassId) (ad : Nat → Nat) (n kn : Nat) (lk ld pl pd pp ma le be go : Nat → Nat) (re : Nat) (x : Int32) (hn0 : 0 < n) (hn : n ≤ 6) (hL : PfL n lk pl) (hR : PfL n ld pd) (hk0 : kn = 0 ∨ kn = 1) (hkn : kn = 1 → RkI n pl pd (fc n) be go re) (hex : bestL n pl pd (fc n) (mx x % n) < n) : CI l yX1_partner cX1_partner 3 .int 2 49 0 0 D d dz [.ref (ad 0), .int x] (WM ad d n kn lk ld pl pd pp ma le be go re) (S := (Nat → Nat) × (Nat → Nat) × (Nat → Nat) × (Nat → Nat) × (Nat → Nat) × Nat) (fun k u => k = lk (6 * (mx x % n) + bestL n pl pd (fc n) (mx x % n)) ∧ RkI n pl pd (fc n) u.2.2.2.1 u.2.2.2.2.1 u.2.2.2.2.2) (fun u => WM ad d n 1 lk ld pl pd (u.1) (u.2.1) (u.2.2.1) (u.2.2.2.1) (u.2.2.2.2.1) (u.2.2.2.2.2)) := by
  refine CI.start (own := RX1) rfl (by decide) (Nat.le_of_ble_eq_true rfl) (fun p e R s m args below meth c A Q X hnm hret H locs ls Y hl => ?_)
  have hx := X.1.1
  have hb := X.1.2.1
  have hl : lv_has ls 3 [(0, .ref (ad 0)), (1, .int x)] := hl
  refine lv_aload_n hx hb dX1_partner_0 rfl (lv_at hl 0 rfl) ?_
  refine z_cv (n := 0) (q0 := 0) (ci := 1) (rest := []) X Y (m_reckon l D d dz ad n kn lk ld pl pd pp ma le be go re hn0 hn hL hR hk0 hkn) (lw_V q206 q208 qs12 q16 q209) (by decide +kernel) ⟨by decide, by decide⟩ rfl rfl rfl rfl hl.1 rfl (Nat.le_of_ble_eq_true rfl) dX1_partner_1 ⟨Nat.zero_le _, Nat.zero_le _⟩ (fun u H locs hp Y => ?_)
  have Y : z_W D A s (WM ad d n 1 lk ld pl pd (u.1) (u.2.1) (u.2.2.1) (u.2.2.2.1) (u.2.2.2.2.1) (u.2.2.2.2.2)) H locs := Y
  refine lv_iload_n hx hb dX1_partner_4 rfl (lv_at hl 1 rfl) ?_
  refine lv_ldc (v := 2147483647) hx hb X.1.2.2.2.1 (X.1.2.2.2.2 _ q147) dX1_partner_5 ?_
  refine z_iand hx hb dX1_partner_7 ?_
  refine lv_aload_n hx hb dX1_partner_8 rfl (lv_at hl 0 rfl) ?_
  refine g1_n X Y 0 rfl rfl dX1_partner_9 ?_
  refine z_irem hx hb dX1_partner_12 (mx_lt x) (by omega) (by omega) ?_
  refine lv_istore_n (lv' := [(2, .int (nI ((mx x) % n))), (0, .ref (ad 0)), (1, .int x)]) hx hb dX1_partner_13 rfl hl (by decide) rfl (fun ls hl => ?_)
  have hm : mx x % n < n := Nat.mod_lt _ hn0
  have hbe := hp.2.1 _ hm
  refine lv_aload_n hx hb dX1_partner_14 rfl (lv_at hl 1 rfl) ?_
  refine g1_likes X Y 0 rfl rfl dX1_partner_15 ?_
  refine lv_bipush (v := nI 6) hx hb dX1_partner_18 (by decide) ?_
  refine lv_iload_n hx hb dX1_partner_20 rfl (lv_at hl 0 rfl) ?_
  refine z_imul hx hb dX1_partner_21 ?_
  refine lv_aload_n hx hb dX1_partner_22 rfl (lv_at hl 1 rfl) ?_
  refine g1_best X Y 0 rfl rfl dX1_partner_23 ?_
  refine lv_iload_n hx hb dX1_partner_26 rfl (lv_at hl 0 rfl) ?_
  refine z_iald X Y 8 rfl (by omega) dX1_partner_27 ?_
  refine z_iadd hx hb dX1_partner_28 ?_
  refine z_iald X Y 1 rfl (by omega) dX1_partner_29 ?_
  exact hret (lk ((6 * ((mx x) % n)) + ((u.2.2.2.1) ((mx x) % n)))) u H locs _ ls (⟨by rw [hbe], hp⟩) Y rfl dX1_partner_30
set_option maxHeartbeats 4000000 in
set_option maxRecDepth 100000 in
/-- other(x) -/
theorem m_other (l : Launch) (D : va_G) (d dz : ClassId) (ad : Nat → Nat) (n kn : Nat) (lk ld pl pd pp ma le be go : Nat → Nat) (re : Nat) (x : Int32) (hn0 : 0 < n) (hn : n ≤ 6) (hL : PfL n lk pl) (hR : PfL n ld pd) (hk0 : kn = 0 ∨ kn = 1) (hkn : kn = 1 → RkI n pl pd (fc n) be go re) (hex : bestR n pl pd (fc n) (mx x % n) < n) : CI l yX1_other cX1_other 3 .int 2 49 0 0 D d dz [.ref (ad 0), .int x] (WM ad d n kn lk ld pl pd pp ma le be go re) (S := (Nat → Nat) × (Nat → Nat) × (Nat → Nat) × (Nat → Nat) × (Nat → Nat) × Nat) (fun k u => k = ld (6 * (mx x % n) + bestR n pl pd (fc n) (mx x % n)) ∧ RkI n pl pd (fc n) u.2.2.2.1 u.2.2.2.2.1 u.2.2.2.2.2) (fun u => WM ad d n 1 lk ld pl pd (u.1) (u.2.1) (u.2.2.1) (u.2.2.2.1) (u.2.2.2.2.1) (u.2.2.2.2.2)) := by
  refine CI.start (own := RX1) rfl (by decide) (Nat.le_of_ble_eq_true rfl) (fun p e R s m args below meth c A Q X hnm hret H locs ls Y hl => ?_)
  have hx := X.1.1
  have hb := X.1.2.1
  have hl : lv_has ls 3 [(0, .ref (ad 0)), (1, .int x)] := hl
  refine lv_aload_n hx hb dX1_other_0 rfl (lv_at hl 0 rfl) ?_
  refine z_cv (n := 0) (q0 := 0) (ci := 1) (rest := []) X Y (m_reckon l D d dz ad n kn lk ld pl pd pp ma le be go re hn0 hn hL hR hk0 hkn) (lw_V q206 q208 qs12 q16 q209) (by decide +kernel) ⟨by decide, by decide⟩ rfl rfl rfl rfl hl.1 rfl (Nat.le_of_ble_eq_true rfl) dX1_other_1 ⟨Nat.zero_le _, Nat.zero_le _⟩ (fun u H locs hp Y => ?_)
  have Y : z_W D A s (WM ad d n 1 lk ld pl pd (u.1) (u.2.1) (u.2.2.1) (u.2.2.2.1) (u.2.2.2.2.1) (u.2.2.2.2.2)) H locs := Y
  refine lv_iload_n hx hb dX1_other_4 rfl (lv_at hl 1 rfl) ?_
  refine lv_ldc (v := 2147483647) hx hb X.1.2.2.2.1 (X.1.2.2.2.2 _ q147) dX1_other_5 ?_
  refine z_iand hx hb dX1_other_7 ?_
  refine lv_aload_n hx hb dX1_other_8 rfl (lv_at hl 0 rfl) ?_
  refine g1_n X Y 0 rfl rfl dX1_other_9 ?_
  refine z_irem hx hb dX1_other_12 (mx_lt x) (by omega) (by omega) ?_
  refine lv_istore_n (lv' := [(2, .int (nI ((mx x) % n))), (0, .ref (ad 0)), (1, .int x)]) hx hb dX1_other_13 rfl hl (by decide) rfl (fun ls hl => ?_)
  have hm : mx x % n < n := Nat.mod_lt _ hn0
  have hbe := hp.2.2 _ hm
  refine lv_aload_n hx hb dX1_other_14 rfl (lv_at hl 1 rfl) ?_
  refine g1_liked X Y 0 rfl rfl dX1_other_15 ?_
  refine lv_bipush (v := nI 6) hx hb dX1_other_18 (by decide) ?_
  refine lv_iload_n hx hb dX1_other_20 rfl (lv_at hl 0 rfl) ?_
  refine z_imul hx hb dX1_other_21 ?_
  refine lv_aload_n hx hb dX1_other_22 rfl (lv_at hl 1 rfl) ?_
  refine g1_good X Y 0 rfl rfl dX1_other_23 ?_
  refine lv_iload_n hx hb dX1_other_26 rfl (lv_at hl 0 rfl) ?_
  refine z_iald X Y 9 rfl (by omega) dX1_other_27 ?_
  refine z_iadd hx hb dX1_other_28 ?_
  refine z_iald X Y 2 rfl (by omega) dX1_other_29 ?_
  exact hret (ld ((6 * ((mx x) % n)) + ((u.2.2.2.2.1) ((mx x) % n)))) u H locs _ ls (⟨by rw [hbe], hp⟩) Y rfl dX1_other_30
set_option maxHeartbeats 4000000 in
set_option maxRecDepth 100000 in
/-- steady(x) -/
theorem m_steady (l : Launch) (D : va_G) (d dz : ClassId) (ad : Nat → Nat) (n kn : Nat) (lk ld pl pd pp ma le be go : Nat → Nat) (re : Nat) (x : Int32) (hn0 : 0 < n) (hn : n ≤ 6) (hL : PfL n lk pl) (hR : PfL n ld pd) : CI l yX1_steady cX1_steady 2 .boolean 1 26 0 0 D d dz [.ref (ad 0), .int x] (WM ad d n kn lk ld pl pd pp ma le be go re) (S := (Nat → Nat) × (Nat → Nat) × (Nat → Nat)) (fun k u => k = bN (rn n pl pd (mx x % fc n))) (fun u => WM ad d n kn lk ld pl pd (u.1) (u.2.1) (u.2.2) be go re) := by
  refine CI.start (own := RX1) rfl (by decide) (Nat.le_of_ble_eq_true rfl) (fun p e R s m args below meth c A Q X hnm hret H locs ls Y hl => ?_)
  have hx := X.1.1
  have hb := X.1.2.1
  have hl : lv_has ls 2 [(0, .ref (ad 0)), (1, .int x)] := hl
  have hf := fc_le n (by omega)
  refine lv_aload_n hx hb dX1_steady_0 rfl (lv_at hl 0 rfl) ?_
  refine lv_iload_n hx hb dX1_steady_1 rfl (lv_at hl 1 rfl) ?_
  refine lv_ldc (v := 2147483647) hx hb X.1.2.2.2.1 (X.1.2.2.2.2 _ q147) dX1_steady_2 ?_
  refine z_iand hx hb dX1_steady_4 ?_
  refine lv_aload_n hx hb dX1_steady_5 rfl (lv_at hl 0 rfl) ?_
  refine z_ci (n := 0) (q0 := 0) (ci := 1) (rest := [.int (nI (mx x)), .ref (ad 0)]) X Y (m_orders l D d dz ad n kn lk ld pl pd pp ma le be go re hn0 hn) (lw_V q190 q192 qs10 q16 q193) (by decide +kernel) ⟨by decide, by decide⟩ rfl rfl rfl rfl hl.1 rfl (Nat.le_of_ble_eq_true rfl) dX1_steady_6 ⟨Nat.zero_le _, Nat.zero_le _⟩ (fun a2 _u H locs hz Y => ?_)
  subst a2
  have Y : z_W D A s (WM ad d n kn lk ld pl pd pp ma le be go re) H locs := Y
  refine z_irem hx hb dX1_steady_9 (mx_lt x) (fc_pos n) (by omega) ?_
  refine z_cv (n := 1) (q0 := 0) (ci := 1) (rest := []) X Y (m_order l D d dz ad n kn lk ld pl pd pp ma le be go re (mx x % fc n) hn (Nat.lt_of_le_of_lt (Nat.mod_le _ _) (mx_lt x))) (lw_V q194 q196 qs11 q16 q197) (by decide +kernel) ⟨by decide, by decide⟩ rfl rfl rfl rfl hl.1 rfl (Nat.le_of_ble_eq_true rfl) dX1_steady_10 ⟨Nat.zero_le _, Nat.zero_le _⟩ (fun uo H locs hp Y => ?_)
  have Y : z_W D A s (WM ad d n kn lk ld pl pd (uo.1) ma (uo.2) be go re) H locs := Y
  refine lv_aload_n hx hb dX1_steady_13 rfl (lv_at hl 0 rfl) ?_
  refine z_ci (n := 0) (q0 := 0) (ci := 1) (rest := []) X Y (m_rests l D d dz ad n kn lk ld pl pd (uo.1) ma (uo.2) be go re (mx x % fc n) hn0 hn hL hR hp) (lw_V q210 q212 qs13 q16 q213) (by decide +kernel) ⟨by decide, by decide⟩ rfl rfl rfl rfl hl.1 rfl (Nat.le_of_ble_eq_true rfl) dX1_steady_14 ⟨Nat.zero_le _, Nat.zero_le _⟩ (fun rr um H locs hr Y => ?_)
  have Y : z_W D A s (WM ad d n kn lk ld pl pd (uo.1) um (uo.2) be go re) H locs := Y
  exact hret rr (uo.1, um, uo.2) H locs _ ls (hr.1) Y (by rw [hr.1]; exact bN_nar _) dX1_steady_17
end
section
set_option maxHeartbeats 4000000 in
set_option maxRecDepth 100000 in
/-- the constructor of SuitDesk -/
theorem c_init (l : Launch) (D : va_G) (d dz : ClassId) (a0 : Nat) : CV l yX0_init cX0_init 1 3 72 9 1602 D d dz [.ref a0] [(a0, .inr (0, [.int (nI 0), .null, .null, .null, .null, .null, .null, .null, .null, .null, .int (nI 0)]))] (S := (Nat → Nat) × (Nat → Nat) × (Nat → Nat) × (Nat → Nat) × (Nat → Nat) × (Nat → Nat)) (fun u => u.1 0 = a0 ∧ FrI 3 3 u.2.2.1 u.2.2.2.1 ∧ FrI 3 3 u.2.2.2.2.1 u.2.2.2.2.2) (fun u => WX u.1 d dz 3 u.2.2.1 u.2.2.2.2.1 u.2.2.2.1 u.2.2.2.2.2 u.2.1 (fun _ => 0) (fun _ => 0) (fun _ => 0) (fun _ => 0) 0) := by
  refine CV.start (own := RX0) rfl (by decide) (Nat.le_of_ble_eq_true rfl) (fun p e R s m args below meth c A Q X hnm hret H locs ls Y hl => ?_)
  have hx := X.1.1
  have hb := X.1.2.1
  have hin : meth.name = "<init>" := hnm
  have hl : lv_has ls 1 [(0, .ref a0)] := hl
  refine lv_aload_n hx hb dX0_init_0 rfl (lv_at hl 0 rfl) ?_
  refine W.objInit hx hb X.1.2.2.2.1 (X.1.2.2.2.2 _ q23) (X.1.2.2.2.2 _ q24) (X.1.2.2.2.2 _ q25) rfl (by rw [X.1.2.2.1]; exact hl.1) rfl dX0_init_1 (Nat.le_trans (m := 3) (by decide) X.2.2.2.1) (Nat.le_trans (m := 72) (Nat.le_of_ble_eq_true rfl) X.2.2.2.2.1) ?_
  refine W.eq (g2 := F0 m 4 ls []) rfl ?_
  refine lv_aload_n hx hb dX0_init_4 rfl (lv_at hl 0 rfl) ?_
  refine lv_iconst (v := nI 3) hx hb dX0_init_5 (by decide) ?_
  refine p0_n X Y 0 rfl (Nat.le_of_ble_eq_true rfl) dX0_init_6 (fun H locs Y => ?_)
  have Y : z_W D A s ([(a0, .inr (0, [.int (nI 3), .null, .null, .null, .null, .null, .null, .null, .null, .null, .int (nI 0)]))]) H locs := Y
  refine lv_aload_n hx hb dX0_init_9 rfl (lv_at hl 0 rfl) ?_
  refine lv_bipush (v := nI 36) hx hb dX0_init_10 (by decide) ?_
  refine z_newi X Y (by decide) (by decide) (by decide) dX0_init_12 (fun q1 H Y => ?_)
  have Y : z_W D A s ([(a0, .inr (0, [.int (nI 3), .null, .null, .null, .null, .null, .null, .null, .null, .null, .int (nI 0)])), (q1, .inl (d, 36, .inl (nA fun _ => 0)))]) H locs := Y
  refine f0_left X hin Y 0 rfl (Nat.le_of_ble_eq_true rfl) dX0_init_14 (fun H locs Y => ?_)
  have Y : z_W D A s ([(a0, .inr (0, [.int (nI 3), .ref q1, .null, .null, .null, .null, .null, .null, .null, .null, .int (nI 0)])), (q1, .inl (d, 36, .inl (nA fun _ => 0)))]) H locs := Y
  refine lv_aload_n hx hb dX0_init_17 rfl (lv_at hl 0 rfl) ?_
  refine lv_bipush (v := nI 36) hx hb dX0_init_18 (by decide) ?_
  refine z_newi X Y (by decide) (by decide) (by decide) dX0_init_20 (fun q2 H Y => ?_)
  have Y : z_W D A s ([(a0, .inr (0, [.int (nI 3), .ref q1, .null, .null, .null, .null, .null, .null, .null, .null, .int (nI 0)])), (q1, .inl (d, 36, .inl (nA fun _ => 0))), (q2, .inl (d, 36, .inl (nA fun _ => 0)))]) H locs := Y
  refine f0_right X hin Y 0 rfl (Nat.le_of_ble_eq_true rfl) dX0_init_22 (fun H locs Y => ?_)
  have Y : z_W D A s ([(a0, .inr (0, [.int (nI 3), .ref q1, .ref q2, .null, .null, .null, .null, .null, .null, .null, .int (nI 0)])), (q1, .inl (d, 36, .inl (nA fun _ => 0))), (q2, .inl (d, 36, .inl (nA fun _ => 0)))]) H locs := Y
  refine lv_aload_n hx hb dX0_init_25 rfl (lv_at hl 0 rfl) ?_
  refine lv_bipush (v := nI 36) hx hb dX0_init_26 (by decide) ?_
  refine z_newi X Y (by decide) (by decide) (by decide) dX0_init_28 (fun q3 H Y => ?_)
  have Y : z_W D A s ([(a0, .inr (0, [.int (nI 3), .ref q1, .ref q2, .null, .null, .null, .null, .null, .null, .null, .int (nI 0)])), (q1, .inl (d, 36, .inl (nA fun _ => 0))), (q2, .inl (d, 36, .inl (nA fun _ => 0))), (q3, .inl (d, 36, .inl (nA fun _ => 0)))]) H locs := Y
  refine f0_leftPlace X hin Y 0 rfl (Nat.le_of_ble_eq_true rfl) dX0_init_30 (fun H locs Y => ?_)
  have Y : z_W D A s ([(a0, .inr (0, [.int (nI 3), .ref q1, .ref q2, .ref q3, .null, .null, .null, .null, .null, .null, .int (nI 0)])), (q1, .inl (d, 36, .inl (nA fun _ => 0))), (q2, .inl (d, 36, .inl (nA fun _ => 0))), (q3, .inl (d, 36, .inl (nA fun _ => 0)))]) H locs := Y
  refine lv_aload_n hx hb dX0_init_33 rfl (lv_at hl 0 rfl) ?_
  refine lv_bipush (v := nI 36) hx hb dX0_init_34 (by decide) ?_
  refine z_newi X Y (by decide) (by decide) (by decide) dX0_init_36 (fun q4 H Y => ?_)
  have Y : z_W D A s ([(a0, .inr (0, [.int (nI 3), .ref q1, .ref q2, .ref q3, .null, .null, .null, .null, .null, .null, .int (nI 0)])), (q1, .inl (d, 36, .inl (nA fun _ => 0))), (q2, .inl (d, 36, .inl (nA fun _ => 0))), (q3, .inl (d, 36, .inl (nA fun _ => 0))), (q4, .inl (d, 36, .inl (nA fun _ => 0)))]) H locs := Y
  refine f0_rightPlace X hin Y 0 rfl (Nat.le_of_ble_eq_true rfl) dX0_init_38 (fun H locs Y => ?_)
  have Y : z_W D A s ([(a0, .inr (0, [.int (nI 3), .ref q1, .ref q2, .ref q3, .ref q4, .null, .null, .null, .null, .null, .int (nI 0)])), (q1, .inl (d, 36, .inl (nA fun _ => 0))), (q2, .inl (d, 36, .inl (nA fun _ => 0))), (q3, .inl (d, 36, .inl (nA fun _ => 0))), (q4, .inl (d, 36, .inl (nA fun _ => 0)))]) H locs := Y
  refine lv_aload_n hx hb dX0_init_41 rfl (lv_at hl 0 rfl) ?_
  refine lv_bipush (v := nI 6) hx hb dX0_init_42 (by decide) ?_
  refine z_newi X Y (by decide) (by decide) (by decide) dX0_init_44 (fun q5 H Y => ?_)
  have Y : z_W D A s ([(a0, .inr (0, [.int (nI 3), .ref q1, .ref q2, .ref q3, .ref q4, .null, .null, .null, .null, .null, .int (nI 0)])), (q1, .inl (d, 36, .inl (nA fun _ => 0))), (q2, .inl (d, 36, .inl (nA fun _ => 0))), (q3, .inl (d, 36, .inl (nA fun _ => 0))), (q4, .inl (d, 36, .inl (nA fun _ => 0))), (q5, .inl (d, 6, .inl (nA fun _ => 0)))]) H locs := Y
  refine f0_row X hin Y 0 rfl (Nat.le_of_ble_eq_true rfl) dX0_init_46 (fun H locs Y => ?_)
  have Y : z_W D A s ([(a0, .inr (0, [.int (nI 3), .ref q1, .ref q2, .ref q3, .ref q4, .ref q5, .null, .null, .null, .null, .int (nI 0)])), (q1, .inl (d, 36, .inl (nA fun _ => 0))), (q2, .inl (d, 36, .inl (nA fun _ => 0))), (q3, .inl (d, 36, .inl (nA fun _ => 0))), (q4, .inl (d, 36, .inl (nA fun _ => 0))), (q5, .inl (d, 6, .inl (nA fun _ => 0)))]) H locs := Y
  refine lv_aload_n hx hb dX0_init_49 rfl (lv_at hl 0 rfl) ?_
  refine lv_bipush (v := nI 6) hx hb dX0_init_50 (by decide) ?_
  refine z_newi X Y (by decide) (by decide) (by decide) dX0_init_52 (fun q6 H Y => ?_)
  have Y : z_W D A s ([(a0, .inr (0, [.int (nI 3), .ref q1, .ref q2, .ref q3, .ref q4, .ref q5, .null, .null, .null, .null, .int (nI 0)])), (q1, .inl (d, 36, .inl (nA fun _ => 0))), (q2, .inl (d, 36, .inl (nA fun _ => 0))), (q3, .inl (d, 36, .inl (nA fun _ => 0))), (q4, .inl (d, 36, .inl (nA fun _ => 0))), (q5, .inl (d, 6, .inl (nA fun _ => 0))), (q6, .inl (d, 6, .inl (nA fun _ => 0)))]) H locs := Y
  refine f0_far X hin Y 0 rfl (Nat.le_of_ble_eq_true rfl) dX0_init_54 (fun H locs Y => ?_)
  have Y : z_W D A s ([(a0, .inr (0, [.int (nI 3), .ref q1, .ref q2, .ref q3, .ref q4, .ref q5, .ref q6, .null, .null, .null, .int (nI 0)])), (q1, .inl (d, 36, .inl (nA fun _ => 0))), (q2, .inl (d, 36, .inl (nA fun _ => 0))), (q3, .inl (d, 36, .inl (nA fun _ => 0))), (q4, .inl (d, 36, .inl (nA fun _ => 0))), (q5, .inl (d, 6, .inl (nA fun _ => 0))), (q6, .inl (d, 6, .inl (nA fun _ => 0)))]) H locs := Y
  refine lv_aload_n hx hb dX0_init_57 rfl (lv_at hl 0 rfl) ?_
  refine lv_bipush (v := nI 6) hx hb dX0_init_58 (by decide) ?_
  refine z_newi X Y (by decide) (by decide) (by decide) dX0_init_60 (fun q7 H Y => ?_)
  have Y : z_W D A s ([(a0, .inr (0, [.int (nI 3), .ref q1, .ref q2, .ref q3, .ref q4, .ref q5, .ref q6, .null, .null, .null, .int (nI 0)])), (q1, .inl (d, 36, .inl (nA fun _ => 0))), (q2, .inl (d, 36, .inl (nA fun _ => 0))), (q3, .inl (d, 36, .inl (nA fun _ => 0))), (q4, .inl (d, 36, .inl (nA fun _ => 0))), (q5, .inl (d, 6, .inl (nA fun _ => 0))), (q6, .inl (d, 6, .inl (nA fun _ => 0))), (q7, .inl (d, 6, .inl (nA fun _ => 0)))]) H locs := Y
  refine f0_has X hin Y 0 rfl (Nat.le_of_ble_eq_true rfl) dX0_init_62 (fun H locs Y => ?_)
  have Y : z_W D A s ([(a0, .inr (0, [.int (nI 3), .ref q1, .ref q2, .ref q3, .ref q4, .ref q5, .ref q6, .ref q7, .null, .null, .int (nI 0)])), (q1, .inl (d, 36, .inl (nA fun _ => 0))), (q2, .inl (d, 36, .inl (nA fun _ => 0))), (q3, .inl (d, 36, .inl (nA fun _ => 0))), (q4, .inl (d, 36, .inl (nA fun _ => 0))), (q5, .inl (d, 6, .inl (nA fun _ => 0))), (q6, .inl (d, 6, .inl (nA fun _ => 0))), (q7, .inl (d, 6, .inl (nA fun _ => 0)))]) H locs := Y
  refine lv_aload_n hx hb dX0_init_65 rfl (lv_at hl 0 rfl) ?_
  refine lv_sipush (v := nI 720) hx hb dX0_init_66 (by decide) ?_
  refine z_newz X Y (by decide) (by decide) (by decide) dX0_init_69 (fun q8 H Y => ?_)
  have Y : z_W D A s ([(a0, .inr (0, [.int (nI 3), .ref q1, .ref q2, .ref q3, .ref q4, .ref q5, .ref q6, .ref q7, .null, .null, .int (nI 0)])), (q1, .inl (d, 36, .inl (nA fun _ => 0))), (q2, .inl (d, 36, .inl (nA fun _ => 0))), (q3, .inl (d, 36, .inl (nA fun _ => 0))), (q4, .inl (d, 36, .inl (nA fun _ => 0))), (q5, .inl (d, 6, .inl (nA fun _ => 0))), (q6, .inl (d, 6, .inl (nA fun _ => 0))), (q7, .inl (d, 6, .inl (nA fun _ => 0))), (q8, .inl (dz, 720, .inl (nA fun _ => 0)))]) H locs := Y
  refine f0_met X hin Y 0 rfl (Nat.le_of_ble_eq_true rfl) dX0_init_71 (fun H locs Y => ?_)
  have Y : z_W D A s ([(a0, .inr (0, [.int (nI 3), .ref q1, .ref q2, .ref q3, .ref q4, .ref q5, .ref q6, .ref q7, .ref q8, .null, .int (nI 0)])), (q1, .inl (d, 36, .inl (nA fun _ => 0))), (q2, .inl (d, 36, .inl (nA fun _ => 0))), (q3, .inl (d, 36, .inl (nA fun _ => 0))), (q4, .inl (d, 36, .inl (nA fun _ => 0))), (q5, .inl (d, 6, .inl (nA fun _ => 0))), (q6, .inl (d, 6, .inl (nA fun _ => 0))), (q7, .inl (d, 6, .inl (nA fun _ => 0))), (q8, .inl (dz, 720, .inl (nA fun _ => 0)))]) H locs := Y
  refine lv_aload_n hx hb dX0_init_74 rfl (lv_at hl 0 rfl) ?_
  refine lv_sipush (v := nI 720) hx hb dX0_init_75 (by decide) ?_
  refine z_newi X Y (by decide) (by decide) (by decide) dX0_init_78 (fun q9 H Y => ?_)
  have Y : z_W D A s ([(a0, .inr (0, [.int (nI 3), .ref q1, .ref q2, .ref q3, .ref q4, .ref q5, .ref q6, .ref q7, .ref q8, .null, .int (nI 0)])), (q1, .inl (d, 36, .inl (nA fun _ => 0))), (q2, .inl (d, 36, .inl (nA fun _ => 0))), (q3, .inl (d, 36, .inl (nA fun _ => 0))), (q4, .inl (d, 36, .inl (nA fun _ => 0))), (q5, .inl (d, 6, .inl (nA fun _ => 0))), (q6, .inl (d, 6, .inl (nA fun _ => 0))), (q7, .inl (d, 6, .inl (nA fun _ => 0))), (q8, .inl (dz, 720, .inl (nA fun _ => 0))), (q9, .inl (d, 720, .inl (nA fun _ => 0)))]) H locs := Y
  refine f0_waiting X hin Y 0 rfl (Nat.le_of_ble_eq_true rfl) dX0_init_80 (fun H locs Y => ?_)
  have Y : z_W D A s ([(a0, .inr (0, [.int (nI 3), .ref q1, .ref q2, .ref q3, .ref q4, .ref q5, .ref q6, .ref q7, .ref q8, .ref q9, .int (nI 0)])), (q1, .inl (d, 36, .inl (nA fun _ => 0))), (q2, .inl (d, 36, .inl (nA fun _ => 0))), (q3, .inl (d, 36, .inl (nA fun _ => 0))), (q4, .inl (d, 36, .inl (nA fun _ => 0))), (q5, .inl (d, 6, .inl (nA fun _ => 0))), (q6, .inl (d, 6, .inl (nA fun _ => 0))), (q7, .inl (d, 6, .inl (nA fun _ => 0))), (q8, .inl (dz, 720, .inl (nA fun _ => 0))), (q9, .inl (d, 720, .inl (nA fun _ => 0)))]) H locs := Y
  refine lv_aload_n hx hb dX0_init_83 rfl (lv_at hl 0 rfl) ?_
  refine W.widen (k := 9) (n := 1602) (by decide) (by decide) ?_
  have Y : z_W D A s (WX (adr [a0, q1, q2, q3, q4, q5, q6, q7, q8, q9]) d dz 3 (fun _ => 0) (fun _ => 0) (fun _ => 0) (fun _ => 0) (fun _ => 0) (fun _ => 0) (fun _ => 0) (fun _ => 0) (fun _ => 0) 0) H locs := Y
  refine z_cv (n := 0) (q0 := 0) (ci := 0) (rest := []) X Y (c_fresh l D d dz (adr [a0, q1, q2, q3, q4, q5, q6, q7, q8, q9]) 3 (fun _ => 0) (fun _ => 0) (fun _ => 0) (fun _ => 0) (fun _ => 0) (fun _ => 0) (fun _ => 0) (fun _ => 0) (fun _ => 0) 0 (by decide)) (lw_V q26 q28 qs0 q15 q29) (by decide +kernel) ⟨by decide, by decide⟩ rfl rfl rfl rfl hl.1 rfl (Nat.le_of_ble_eq_true rfl) dX0_init_84 ⟨X.2.2.2.2.2.1, X.2.2.2.2.2.2⟩ (fun u H locs hp Y => ?_)
  exact hret ((adr [a0, q1, q2, q3, q4, q5, q6, q7, q8, q9]), u) H locs _ ls ⟨rfl, hp⟩ Y dX0_init_87
set_option maxHeartbeats 4000000 in
set_option maxRecDepth 100000 in
/-- the constructor of SuitDeskModel -/
theorem m_init (l : Launch) (D : va_G) (d dz : ClassId) (a0 : Nat) : CV l yX1_init cX1_init 1 1 22 9 174 D d dz [.ref a0] [(a0, .inr (1, [.null, .null, .null, .null, .int (nI 0), .int (nI 0), .null, .null, .null, .null, .null, .int (nI 0)]))] (S := (Nat → Nat) × (Nat → Nat) × (Nat → Nat) × (Nat → Nat) × (Nat → Nat)) (fun u => u.1 0 = a0 ∧ (∀ j, j < 36 → u.2.1 j = j % 6) ∧ (∀ j, j < 36 → u.2.2.1 j = j % 6) ∧ (∀ j, j < 36 → u.2.2.2.1 j = j % 6) ∧ ∀ j, j < 36 → u.2.2.2.2 j = j % 6) (fun u => WM u.1 d 3 0 u.2.1 u.2.2.1 u.2.2.2.1 u.2.2.2.2 (fun _ => 0) (fun _ => 0) (fun _ => 0) (fun _ => 0) (fun _ => 0) 0) := by
  refine CV.start (own := RX1) rfl (by decide) (Nat.le_of_ble_eq_true rfl) (fun p e R s m args below meth c A Q X hnm hret H locs ls Y hl => ?_)
  have hx := X.1.1
  have hb := X.1.2.1
  have hin : meth.name = "<init>" := hnm
  have hl : lv_has ls 1 [(0, .ref a0)] := hl
  refine lv_aload_n hx hb dX1_init_0 rfl (lv_at hl 0 rfl) ?_
  refine W.objInit hx hb X.1.2.2.2.1 (X.1.2.2.2.2 _ q142) (X.1.2.2.2.2 _ q24) (X.1.2.2.2.2 _ q25) rfl (by rw [X.1.2.2.1]; exact hl.1) rfl dX1_init_1 (Nat.le_trans (m := 1) (by decide) X.2.2.2.1) (Nat.le_trans (m := 22) (Nat.le_of_ble_eq_true rfl) X.2.2.2.2.1) ?_
  refine W.eq (g2 := F0 m 4 ls []) rfl ?_
  refine lv_aload_n hx hb dX1_init_4 rfl (lv_at hl 0 rfl) ?_
  refine lv_bipush (v := nI 36) hx hb dX1_init_5 (by decide) ?_
  refine z_newi X Y (by decide) (by decide) (by decide) dX1_init_7 (fun q1 H Y => ?_)
  have Y : z_W D A s ([(a0, .inr (1, [.null, .null, .null, .null, .int (nI 0), .int (nI 0), .null, .null, .null, .null, .null, .int (nI 0)])), (q1, .inl (d, 36, .inl (nA fun _ => 0)))]) H locs := Y
  refine f1_likes X hin Y 0 rfl (Nat.le_of_ble_eq_true rfl) dX1_init_9 (fun H locs Y => ?_)
  have Y : z_W D A s ([(a0, .inr (1, [.ref q1, .null, .null, .null, .int (nI 0), .int (nI 0), .null, .null, .null, .null, .null, .int (nI 0)])), (q1, .inl (d, 36, .inl (nA fun _ => 0)))]) H locs := Y
  refine lv_aload_n hx hb dX1_init_12 rfl (lv_at hl 0 rfl) ?_
  refine lv_bipush (v := nI 36) hx hb dX1_init_13 (by decide) ?_
  refine z_newi X Y (by decide) (by decide) (by decide) dX1_init_15 (fun q2 H Y => ?_)
  have Y : z_W D A s ([(a0, .inr (1, [.ref q1, .null, .null, .null, .int (nI 0), .int (nI 0), .null, .null, .null, .null, .null, .int (nI 0)])), (q1, .inl (d, 36, .inl (nA fun _ => 0))), (q2, .inl (d, 36, .inl (nA fun _ => 0)))]) H locs := Y
  refine f1_liked X hin Y 0 rfl (Nat.le_of_ble_eq_true rfl) dX1_init_17 (fun H locs Y => ?_)
  have Y : z_W D A s ([(a0, .inr (1, [.ref q1, .ref q2, .null, .null, .int (nI 0), .int (nI 0), .null, .null, .null, .null, .null, .int (nI 0)])), (q1, .inl (d, 36, .inl (nA fun _ => 0))), (q2, .inl (d, 36, .inl (nA fun _ => 0)))]) H locs := Y
  refine lv_aload_n hx hb dX1_init_20 rfl (lv_at hl 0 rfl) ?_
  refine lv_bipush (v := nI 36) hx hb dX1_init_21 (by decide) ?_
  refine z_newi X Y (by decide) (by decide) (by decide) dX1_init_23 (fun q3 H Y => ?_)
  have Y : z_W D A s ([(a0, .inr (1, [.ref q1, .ref q2, .null, .null, .int (nI 0), .int (nI 0), .null, .null, .null, .null, .null, .int (nI 0)])), (q1, .inl (d, 36, .inl (nA fun _ => 0))), (q2, .inl (d, 36, .inl (nA fun _ => 0))), (q3, .inl (d, 36, .inl (nA fun _ => 0)))]) H locs := Y
  refine f1_place X hin Y 0 rfl (Nat.le_of_ble_eq_true rfl) dX1_init_25 (fun H locs Y => ?_)
  have Y : z_W D A s ([(a0, .inr (1, [.ref q1, .ref q2, .ref q3, .null, .int (nI 0), .int (nI 0), .null, .null, .null, .null, .null, .int (nI 0)])), (q1, .inl (d, 36, .inl (nA fun _ => 0))), (q2, .inl (d, 36, .inl (nA fun _ => 0))), (q3, .inl (d, 36, .inl (nA fun _ => 0)))]) H locs := Y
  refine lv_aload_n hx hb dX1_init_28 rfl (lv_at hl 0 rfl) ?_
  refine lv_bipush (v := nI 36) hx hb dX1_init_29 (by decide) ?_
  refine z_newi X Y (by decide) (by decide) (by decide) dX1_init_31 (fun q4 H Y => ?_)
  have Y : z_W D A s ([(a0, .inr (1, [.ref q1, .ref q2, .ref q3, .null, .int (nI 0), .int (nI 0), .null, .null, .null, .null, .null, .int (nI 0)])), (q1, .inl (d, 36, .inl (nA fun _ => 0))), (q2, .inl (d, 36, .inl (nA fun _ => 0))), (q3, .inl (d, 36, .inl (nA fun _ => 0))), (q4, .inl (d, 36, .inl (nA fun _ => 0)))]) H locs := Y
  refine f1_placed X hin Y 0 rfl (Nat.le_of_ble_eq_true rfl) dX1_init_33 (fun H locs Y => ?_)
  have Y : z_W D A s ([(a0, .inr (1, [.ref q1, .ref q2, .ref q3, .ref q4, .int (nI 0), .int (nI 0), .null, .null, .null, .null, .null, .int (nI 0)])), (q1, .inl (d, 36, .inl (nA fun _ => 0))), (q2, .inl (d, 36, .inl (nA fun _ => 0))), (q3, .inl (d, 36, .inl (nA fun _ => 0))), (q4, .inl (d, 36, .inl (nA fun _ => 0)))]) H locs := Y
  refine lv_aload_n hx hb dX1_init_36 rfl (lv_at hl 0 rfl) ?_
  refine lv_iconst (v := nI 3) hx hb dX1_init_37 (by decide) ?_
  refine p1_n X Y 0 rfl (Nat.le_of_ble_eq_true rfl) dX1_init_38 (fun H locs Y => ?_)
  have Y : z_W D A s ([(a0, .inr (1, [.ref q1, .ref q2, .ref q3, .ref q4, .int (nI 3), .int (nI 0), .null, .null, .null, .null, .null, .int (nI 0)])), (q1, .inl (d, 36, .inl (nA fun _ => 0))), (q2, .inl (d, 36, .inl (nA fun _ => 0))), (q3, .inl (d, 36, .inl (nA fun _ => 0))), (q4, .inl (d, 36, .inl (nA fun _ => 0)))]) H locs := Y
  refine lv_aload_n hx hb dX1_init_41 rfl (lv_at hl 0 rfl) ?_
  refine lv_bipush (v := nI 6) hx hb dX1_init_42 (by decide) ?_
  refine z_newi X Y (by decide) (by decide) (by decide) dX1_init_44 (fun q5 H Y => ?_)
  have Y : z_W D A s ([(a0, .inr (1, [.ref q1, .ref q2, .ref q3, .ref q4, .int (nI 3), .int (nI 0), .null, .null, .null, .null, .null, .int (nI 0)])), (q1, .inl (d, 36, .inl (nA fun _ => 0))), (q2, .inl (d, 36, .inl (nA fun _ => 0))), (q3, .inl (d, 36, .inl (nA fun _ => 0))), (q4, .inl (d, 36, .inl (nA fun _ => 0))), (q5, .inl (d, 6, .inl (nA fun _ => 0)))]) H locs := Y
  refine f1_p X hin Y 0 rfl (Nat.le_of_ble_eq_true rfl) dX1_init_46 (fun H locs Y => ?_)
  have Y : z_W D A s ([(a0, .inr (1, [.ref q1, .ref q2, .ref q3, .ref q4, .int (nI 3), .int (nI 0), .ref q5, .null, .null, .null, .null, .int (nI 0)])), (q1, .inl (d, 36, .inl (nA fun _ => 0))), (q2, .inl (d, 36, .inl (nA fun _ => 0))), (q3, .inl (d, 36, .inl (nA fun _ => 0))), (q4, .inl (d, 36, .inl (nA fun _ => 0))), (q5, .inl (d, 6, .inl (nA fun _ => 0)))]) H locs := Y
  refine lv_aload_n hx hb dX1_init_49 rfl (lv_at hl 0 rfl) ?_
  refine lv_bipush (v := nI 6) hx hb dX1_init_50 (by decide) ?_
  refine z_newi X Y (by decide) (by decide) (by decide) dX1_init_52 (fun q6 H Y => ?_)
  have Y : z_W D A s ([(a0, .inr (1, [.ref q1, .ref q2, .ref q3, .ref q4, .int (nI 3), .int (nI 0), .ref q5, .null, .null, .null, .null, .int (nI 0)])), (q1, .inl (d, 36, .inl (nA fun _ => 0))), (q2, .inl (d, 36, .inl (nA fun _ => 0))), (q3, .inl (d, 36, .inl (nA fun _ => 0))), (q4, .inl (d, 36, .inl (nA fun _ => 0))), (q5, .inl (d, 6, .inl (nA fun _ => 0))), (q6, .inl (d, 6, .inl (nA fun _ => 0)))]) H locs := Y
  refine f1_mate X hin Y 0 rfl (Nat.le_of_ble_eq_true rfl) dX1_init_54 (fun H locs Y => ?_)
  have Y : z_W D A s ([(a0, .inr (1, [.ref q1, .ref q2, .ref q3, .ref q4, .int (nI 3), .int (nI 0), .ref q5, .ref q6, .null, .null, .null, .int (nI 0)])), (q1, .inl (d, 36, .inl (nA fun _ => 0))), (q2, .inl (d, 36, .inl (nA fun _ => 0))), (q3, .inl (d, 36, .inl (nA fun _ => 0))), (q4, .inl (d, 36, .inl (nA fun _ => 0))), (q5, .inl (d, 6, .inl (nA fun _ => 0))), (q6, .inl (d, 6, .inl (nA fun _ => 0)))]) H locs := Y
  refine lv_aload_n hx hb dX1_init_57 rfl (lv_at hl 0 rfl) ?_
  refine lv_bipush (v := nI 6) hx hb dX1_init_58 (by decide) ?_
  refine z_newi X Y (by decide) (by decide) (by decide) dX1_init_60 (fun q7 H Y => ?_)
  have Y : z_W D A s ([(a0, .inr (1, [.ref q1, .ref q2, .ref q3, .ref q4, .int (nI 3), .int (nI 0), .ref q5, .ref q6, .null, .null, .null, .int (nI 0)])), (q1, .inl (d, 36, .inl (nA fun _ => 0))), (q2, .inl (d, 36, .inl (nA fun _ => 0))), (q3, .inl (d, 36, .inl (nA fun _ => 0))), (q4, .inl (d, 36, .inl (nA fun _ => 0))), (q5, .inl (d, 6, .inl (nA fun _ => 0))), (q6, .inl (d, 6, .inl (nA fun _ => 0))), (q7, .inl (d, 6, .inl (nA fun _ => 0)))]) H locs := Y
  refine f1_left X hin Y 0 rfl (Nat.le_of_ble_eq_true rfl) dX1_init_62 (fun H locs Y => ?_)
  have Y : z_W D A s ([(a0, .inr (1, [.ref q1, .ref q2, .ref q3, .ref q4, .int (nI 3), .int (nI 0), .ref q5, .ref q6, .ref q7, .null, .null, .int (nI 0)])), (q1, .inl (d, 36, .inl (nA fun _ => 0))), (q2, .inl (d, 36, .inl (nA fun _ => 0))), (q3, .inl (d, 36, .inl (nA fun _ => 0))), (q4, .inl (d, 36, .inl (nA fun _ => 0))), (q5, .inl (d, 6, .inl (nA fun _ => 0))), (q6, .inl (d, 6, .inl (nA fun _ => 0))), (q7, .inl (d, 6, .inl (nA fun _ => 0)))]) H locs := Y
  refine lv_aload_n hx hb dX1_init_65 rfl (lv_at hl 0 rfl) ?_
  refine lv_bipush (v := nI 6) hx hb dX1_init_66 (by decide) ?_
  refine z_newi X Y (by decide) (by decide) (by decide) dX1_init_68 (fun q8 H Y => ?_)
  have Y : z_W D A s ([(a0, .inr (1, [.ref q1, .ref q2, .ref q3, .ref q4, .int (nI 3), .int (nI 0), .ref q5, .ref q6, .ref q7, .null, .null, .int (nI 0)])), (q1, .inl (d, 36, .inl (nA fun _ => 0))), (q2, .inl (d, 36, .inl (nA fun _ => 0))), (q3, .inl (d, 36, .inl (nA fun _ => 0))), (q4, .inl (d, 36, .inl (nA fun _ => 0))), (q5, .inl (d, 6, .inl (nA fun _ => 0))), (q6, .inl (d, 6, .inl (nA fun _ => 0))), (q7, .inl (d, 6, .inl (nA fun _ => 0))), (q8, .inl (d, 6, .inl (nA fun _ => 0)))]) H locs := Y
  refine f1_best X hin Y 0 rfl (Nat.le_of_ble_eq_true rfl) dX1_init_70 (fun H locs Y => ?_)
  have Y : z_W D A s ([(a0, .inr (1, [.ref q1, .ref q2, .ref q3, .ref q4, .int (nI 3), .int (nI 0), .ref q5, .ref q6, .ref q7, .ref q8, .null, .int (nI 0)])), (q1, .inl (d, 36, .inl (nA fun _ => 0))), (q2, .inl (d, 36, .inl (nA fun _ => 0))), (q3, .inl (d, 36, .inl (nA fun _ => 0))), (q4, .inl (d, 36, .inl (nA fun _ => 0))), (q5, .inl (d, 6, .inl (nA fun _ => 0))), (q6, .inl (d, 6, .inl (nA fun _ => 0))), (q7, .inl (d, 6, .inl (nA fun _ => 0))), (q8, .inl (d, 6, .inl (nA fun _ => 0)))]) H locs := Y
  refine lv_aload_n hx hb dX1_init_73 rfl (lv_at hl 0 rfl) ?_
  refine lv_bipush (v := nI 6) hx hb dX1_init_74 (by decide) ?_
  refine z_newi X Y (by decide) (by decide) (by decide) dX1_init_76 (fun q9 H Y => ?_)
  have Y : z_W D A s ([(a0, .inr (1, [.ref q1, .ref q2, .ref q3, .ref q4, .int (nI 3), .int (nI 0), .ref q5, .ref q6, .ref q7, .ref q8, .null, .int (nI 0)])), (q1, .inl (d, 36, .inl (nA fun _ => 0))), (q2, .inl (d, 36, .inl (nA fun _ => 0))), (q3, .inl (d, 36, .inl (nA fun _ => 0))), (q4, .inl (d, 36, .inl (nA fun _ => 0))), (q5, .inl (d, 6, .inl (nA fun _ => 0))), (q6, .inl (d, 6, .inl (nA fun _ => 0))), (q7, .inl (d, 6, .inl (nA fun _ => 0))), (q8, .inl (d, 6, .inl (nA fun _ => 0))), (q9, .inl (d, 6, .inl (nA fun _ => 0)))]) H locs := Y
  refine f1_good X hin Y 0 rfl (Nat.le_of_ble_eq_true rfl) dX1_init_78 (fun H locs Y => ?_)
  have Y : z_W D A s ([(a0, .inr (1, [.ref q1, .ref q2, .ref q3, .ref q4, .int (nI 3), .int (nI 0), .ref q5, .ref q6, .ref q7, .ref q8, .ref q9, .int (nI 0)])), (q1, .inl (d, 36, .inl (nA fun _ => 0))), (q2, .inl (d, 36, .inl (nA fun _ => 0))), (q3, .inl (d, 36, .inl (nA fun _ => 0))), (q4, .inl (d, 36, .inl (nA fun _ => 0))), (q5, .inl (d, 6, .inl (nA fun _ => 0))), (q6, .inl (d, 6, .inl (nA fun _ => 0))), (q7, .inl (d, 6, .inl (nA fun _ => 0))), (q8, .inl (d, 6, .inl (nA fun _ => 0))), (q9, .inl (d, 6, .inl (nA fun _ => 0)))]) H locs := Y
  refine lv_aload_n hx hb dX1_init_81 rfl (lv_at hl 0 rfl) ?_
  refine lv_iconst (v := nI 2) hx hb dX1_init_82 (by decide) ?_
  refine W.widen (k := 9) (n := 174) (by decide) (by decide) ?_
  have Y : z_W D A s (WM (adr [a0, q1, q2, q3, q4, q5, q6, q7, q8, q9]) d 3 0 (fun _ => 0) (fun _ => 0) (fun _ => 0) (fun _ => 0) (fun _ => 0) (fun _ => 0) (fun _ => 0) (fun _ => 0) (fun _ => 0) 0) H locs := Y
  refine z_cv (n := 1) (q0 := 0) (ci := 1) (rest := []) X Y (m_size l D d dz (adr [a0, q1, q2, q3, q4, q5, q6, q7, q8, q9]) 3 0 (fun _ => 0) (fun _ => 0) (fun _ => 0) (fun _ => 0) (fun _ => 0) (fun _ => 0) (fun _ => 0) (fun _ => 0) (fun _ => 0) 0 (nI 2)) (lw_V q143 q144 q145 q16 q146) (by decide +kernel) ⟨by decide, by decide⟩ rfl rfl rfl rfl hl.1 rfl (Nat.le_of_ble_eq_true rfl) dX1_init_83 ⟨X.2.2.2.2.2.1, X.2.2.2.2.2.2⟩ (fun u H locs hp Y => ?_)
  have Y : z_W D A s (WM (adr [a0, q1, q2, q3, q4, q5, q6, q7, q8, q9]) d 3 0 u.1 u.2.1 u.2.2.1 u.2.2.2 (fun _ => 0) (fun _ => 0) (fun _ => 0) (fun _ => 0) (fun _ => 0) 0) H locs := by
    have e3 : 1 + mx (nI 2) % 6 = 3 := by decide
    rw [e3] at Y
    exact Y
  exact hret ((adr [a0, q1, q2, q3, q4, q5, q6, q7, q8, q9]), u) H locs _ ls ⟨rfl, hp⟩ Y dX1_init_86
end
section
/-! ===== pure: what holds between the two at the law's loop ===== -/
def LawI (n : Nat) (lf rt lp rp : Nat → Nat) (kn : Nat) (lk ld pl pd be go : Nat → Nat) (re : Nat) : Prop :=
  (0 < n ∧ n ≤ 6) ∧ (PfL n lf lp ∧ PfL n rt rp) ∧ (Ag n lf lk ∧ Ag n rt ld ∧ Ag n lp pl ∧ Ag n rp pd) ∧ (kn = 0 ∨ kn = 1) ∧ (kn = 1 → RkI n pl pd (fc n) be go re)
theorem PfL.congr {n : Nat} {f q f' q' : Nat → Nat} (h : PfL n f q) (hf : Ag n f f') (hq : Ag n q q') : PfL n f' q' := by
  intro a ha i hi
  have h1 := h a ha i hi
  have e1 := hf a ha i hi
  have e2 := hq a ha i hi
  have e3 := hq a ha _ h1.1.1
  have e4 := hf a ha _ h1.2.1
  rw [← e1, ← e2, ← e3, ← e4]
  exact h1
theorem LawI.pf {n kn re : Nat} {lf rt lp rp lk ld pl pd be go : Nat → Nat} (h : LawI n lf rt lp rp kn lk ld pl pd be go re) : PfL n lk pl ∧ PfL n ld pd :=
  ⟨h.2.1.1.congr h.2.2.1.1 h.2.2.1.2.2.1, h.2.1.2.congr h.2.2.1.2.1 h.2.2.1.2.2.2⟩
theorem LawI.fresh {n re : Nat} {lf rt lp rp lk ld pl pd be go : Nat → Nat} (h0 : 0 < n) (hn : n ≤ 6) (h1 : FrI n n lf lp) (h2 : FrI n n rt rp) (k1 : ∀ j, j < 36 → lk j = j % 6) (k2 : ∀ j, j < 36 → ld j = j % 6) (k3 : ∀ j, j < 36 → pl j = j % 6) (k4 : ∀ j, j < 36 → pd j = j % 6) : LawI n lf rt lp rp 0 lk ld pl pd be go re :=
  ⟨⟨h0, hn⟩, ⟨h1.pf, h2.pf⟩, ⟨(h1.ag (m6_fr hn k1 k3)).1, (h2.ag (m6_fr hn k2 k4)).1, (h1.ag (m6_fr hn k1 k3)).2, (h2.ag (m6_fr hn k2 k4)).2⟩, Or.inl rfl, fun q => absurd q (by decide)⟩
theorem LawI.left {n kn re k who : Nat} {lf rt lp rp lk ld pl pd be go f q f' q' : Nat → Nat} (h : LawI n lf rt lp rp kn lk ld pl pd be go re) (hw : who < n) (h1 : TkI n k who lf lp n f q) (h2 : TkI n k who lk pl n f' q') : LawI n f rt q rp 0 f' ld q' pd be go re := by
  obtain ⟨⟨a1, a2⟩, ⟨b1, b2⟩, ⟨c1, c2, c3, c4⟩, _, _⟩ := h
  have hg := TkI.ag a2 hw h1 h2 c1 c3
  exact ⟨⟨a1, a2⟩, ⟨h1.pf a2 hw b1, b2⟩, ⟨hg.1, c2, hg.2, c4⟩, Or.inl rfl, fun q => absurd q (by decide)⟩
theorem LawI.right {n kn re k who : Nat} {lf rt lp rp lk ld pl pd be go f q f' q' : Nat → Nat} (h : LawI n lf rt lp rp kn lk ld pl pd be go re) (hw : who < n) (h1 : TkI n k who rt rp n f q) (h2 : TkI n k who ld pd n f' q') : LawI n lf f lp q 0 lk f' pl q' be go re := by
  obtain ⟨⟨a1, a2⟩, ⟨b1, b2⟩, ⟨c1, c2, c3, c4⟩, _, _⟩ := h
  have hg := TkI.ag a2 hw h1 h2 c2 c4
  exact ⟨⟨a1, a2⟩, ⟨b1, h1.pf a2 hw b2⟩, ⟨c1, hg.1, c3, hg.2⟩, Or.inl rfl, fun q => absurd q (by decide)⟩
theorem LawI.know {n kn re re' : Nat} {lf rt lp rp lk ld pl pd be go be' go' : Nat → Nat} (h : LawI n lf rt lp rp kn lk ld pl pd be go re) (hk : RkI n pl pd (fc n) be' go' re') : LawI n lf rt lp rp 1 lk ld pl pd be' go' re' :=
  ⟨h.1, h.2.1, h.2.2.1, Or.inr rfl, fun _ => hk⟩
theorem LawI.rnE {n kn re : Nat} {lf rt lp rp lk ld pl pd be go : Nat → Nat} (h : LawI n lf rt lp rp kn lk ld pl pd be go re) (v : Nat) : rn n lp rp v = rn n pl pd v := rn_congr h.2.2.1.2.2.1 h.2.2.1.2.2.2 v
theorem LawI.many {n kn re : Nat} {lf rt lp rp lk ld pl pd be go : Nat → Nat} (h : LawI n lf rt lp rp kn lk ld pl pd be go re) : cT (rn n lp rp) (fc n) = cT (rn n pl pd) (fc n) := cT_congr _ (fun v _ => h.rnE v)
theorem LawI.bL {n kn re i : Nat} {lf rt lp rp lk ld pl pd be go g hh : Nat → Nat} (h : LawI n lf rt lp rp kn lk ld pl pd be go re) (S : StM n lf rp g hh) (hb : ∀ g' h', StM n lf rp g' h' → ∀ i, i < n → g i ≤ g' i) (hi : i < n) : bestL n pl pd (fc n) i = g i := by
  have hn := h.1.2
  rw [← best_left (by omega) h.2.1.1 S hb hi]
  exact (bs_congr _ (fun v _ => h.rnE v) (fun v _ => h.2.2.1.2.2.1 i hi _ (oP_lt hi))).symm
theorem LawI.bR {n kn re i : Nat} {lf rt lp rp lk ld pl pd be go g hh : Nat → Nat} (h : LawI n lf rt lp rp kn lk ld pl pd be go re) (S : StM n rt lp g hh) (hb : ∀ g' h', StM n rt lp g' h' → ∀ i, i < n → g i ≤ g' i) (hi : i < n) : bestR n pl pd (fc n) i = g i := by
  have hn := h.1.2
  rw [← best_right (by omega) h.2.1.2 S hb hi]
  exact (bs_congr _ (fun v _ => h.rnE v) (fun v _ => h.2.2.1.2.2.2 i hi _ (iv_lt hi).1)).symm
/-! the law's own numbers -/
theorem law_gt {i L : Nat} (hL : L ≤ 192) (hi : i ≤ 192) (h : ¬ nI L - nI 3 < nI i) : i + 3 ≤ L := by
  rw [Int32.lt_iff_toInt_lt, pk_sub_toInt (by omega) (by omega), nI_toInt (by omega)] at h
  omega
theorem law_and (x : Int32) : ∃ j : Nat, j < 8 ∧ x &&& nI 7 = nI j := ⟨_, Nat.mod_lt _ (by decide), pk_and x 3 (by decide)⟩
end
section
/-! THE CLAIM OUT OF ONE WALK OF THE LAW'S BODY. Your part is whole_start (and what it stands on); all else here is the same for every law, but numbers. -/
def R_law : String := "SuitDeskLaw"
def lw_P (b : Addr) (xs : List Int32) (args : Array Value) (s : State) : Prop := args = #[.ref b] ∧ s.IntsAt b xs ∧ xs.length ≤ 192 ∧ (Jvm.Cond.and given_1 narrow_1).before args s = true
def lw_Q (_ : Array Value) (s : State) (o : Outcome) (t : State) : Prop := o = .returned (some (.int 1)) ∧ Framed s o t [] 600000 7290000
def lw_Z (below : List Frame) (a : Array Value) (s : State) : State → Prop := fun t => ∃ o, t.status = .running ∧ Ended t below o ∧ lw_Q a s o t
/-- the law's own end, with 1 on the stack, nothing written that was there before, its room as the claim has it -/
theorem lw_ret {p : Program} {l : Launch} {e : Env} {s : State} {m : MethodId} {below : List Frame} {meth : Method} {c : Code} {b : Nat} (hx : p.tables.exec = Jvm.exec) (hb : c.code = code) (hr : meth.sig.returnType = ret) (hlocks : meth.locks = false) {pc : Nat} {H : Heap} {ls : Array Slot} (hdg : decode code pc = .ok (.ireturn, 1)) : W p l e room_1 s m #[Value.ref b] below meth c H [] 600000 7290000 (lw_Z below #[Value.ref b] s) (F0 m pc ls [.int 1]) := by
  intro T hT X
  obtain ⟨fs, hret, hrun, hended, hW, hframe⟩ := X.leave (v := some (.int 1)) (hlocks := hlocks) (fun h => by rw [hr] at h; cases h)
  have hmeth' : T.vm.method? m = some meth := X.method'
  refine ⟨T.setFrames fs, ?_, .returned (some (.int 1)), hrun, hended, rfl, ⟨_, rfl⟩, hW, hframe⟩
  jvm_step X.here [X.here.top, hx, hb, hdg, hmeth', hr, ret, narrow_b1]
  (try refine ⟨rfl, ?_⟩); (try refine ⟨rfl, ?_⟩)
  first | (intro acts; rw [hret _ acts rfl rfl rfl]) | rw [hret _ _ rfl rfl rfl]
  exact Steps.refl _
/-- what holds at the law's entry: the machine, the code, the tables' words (any of lw_tbl by 'hts w (by decide +kernel)'), the script of L ints xs at the cell b, what the Statement gives of the start (any of its parts by flat_of_before) -/
def lw_At (p : Program) (s : State) (m : MethodId) (meth : Method) (c : Code) (b L : Nat) (xs : Nat → Int32) : Prop :=
  p.tables.exec = Jvm.exec ∧ c.code = code ∧ meth.sig.returnType = ret ∧ c.maxLocals = 4 ∧ s.vm.findClass R_law = some m.cls ∧ (∀ w ∈ lw_tbl, w.before #[Value.ref b] s = true) ∧ va_X b L xs s s.heap ∧ b < s.heap.size ∧ meth.locks = false ∧ (Jvm.Cond.and given_1 narrow_1).before #[Value.ref b] s = true
set_option maxHeartbeats 4000000 in
/-- the script's k-th int -/
theorem z_sld {p : Program} {l : Launch} {e : Env} {R : Room} {s : State} {m : MethodId} {args : Array Value} {below : List Frame} {meth : Method} {c : Code} {H H0 : Heap} {locs : List Loc} {cells slots : Nat} {Q : State → Prop} {cc : ByteArray} {pc : Nat} {A : Nat → Prop} {ls : Array Slot} {rest : List Value} (hx : p.tables.exec = Jvm.exec) (hb : c.code = cc) {b L : Nat} {xs : Nat → Int32} (hX : va_X b L xs s H0) (hbl : b < H0.size) (hbA : ¬ A b) (hS : va_S A H0 H locs) {i : Nat} (hin : i < L) (hL : L < 2 ^ 31) (hdg : decode cc pc = .ok (.iaload, 1))
    (kk : W p l e R s m args below meth c H locs cells slots Q (F0 m (pc + 1) ls (.int (xs i) :: rest))) : W p l e R s m args below meth c H locs cells slots Q (F0 m pc ls (.int (nI i) :: .ref b :: rest)) := by
  refine va_sld hx hb hX hbl hbA hS (vp_in_nI hin hL) hdg ?_
  rw [nI_clamp (Nat.lt_trans hin hL)]
  exact kk
set_option maxHeartbeats 4000000 in
set_option maxRecDepth 100000 in
/-- THE LAW'S LOOP: at its head the class and its reference agree -/
theorem law_loop {p : Program} {l : Launch} {e : Env} {s : State} {m : MethodId} {below : List Frame} {meth : Method} {c : Code} {D : va_G} {d dz : ClassId} {A : Nat → Prop} {b L : Nat} {xs : Nat → Int32} (hL : L ≤ 192) (C0 : lw_At p s m meth c b L xs) (hbA : ¬ A b) (hAl : ∀ q, A q → s.heap.size ≤ q) (X : z_C p room_1 s m #[Value.ref b] c cL_law 4 R_law D d dz A 6 186 600000 7290000) (ax am : Nat → Nat) :
    ∀ (N : Nat) (i n : Nat) (lf rt lp rp rw fa ha me wt : Nat → Nat) (my kn : Nat) (lk ld pl pd pp ma le be go : Nat → Nat) (re : Nat), i ≤ L → LawI n lf rt lp rp kn lk ld pl pd be go re → L - i < N → ∀ (H : Heap) (locs : List Loc) (ls : Array Slot), z_W D A s (WX ax d dz n lf rt lp rp rw fa ha me wt my ++ WM am d n kn lk ld pl pd pp ma le be go re) H locs → lv_has ls 4 [(0, .ref b), (1, .ref (ax 0)), (2, .ref (am 0)), (3, .int (nI i))] → W p l e room_1 s m #[Value.ref b] below meth c H locs 600000 7290000 (lw_Z below #[Value.ref b] s) (F0 m 18 ls []) := by
  obtain ⟨hx, hb, hr, hml, hown, hts0, hX, hbl, hlocks, hgv⟩ := C0
  intro N
  induction N with
  | zero =>
    intro i n lf rt lp rp rw fa ha me wt my kn lk ld pl pd pp ma le be go re hi I hm
    exact absurd hm (Nat.not_lt_zero _)
  | succ N ih =>
    intro i n lf rt lp rp rw fa ha me wt my kn lk ld pl pd pp ma le be go re hi I hm H locs ls Y hl
    refine lv_iload_n hx hb dL_law_18 rfl (lv_at hl 3 rfl) ?_
    refine lv_aload_n hx hb dL_law_19 rfl (lv_at hl 0 rfl) ?_
    refine va_slen hx hb hX hbl hbA Y.2.2 dL_law_20 ?_
    refine lv_iconst (v := nI 3) hx hb dL_law_21 (by decide) ?_
    refine lv_isub hx hb dL_law_22 ?_
    refine lv_icmp_gt (tgt := 247) hx hb dL_law_23 (by decide) (fun _ => ?_) (fun cg => ?_)
    · refine lv_iconst (v := 1) hx hb dL_law_247 (by decide) ?_
      refine va_forget (fun q hq => hAl _ (Y.2.2.2.2 q hq)) ?_
      exact lw_ret hx hb hr hlocks dL_law_248
    · have hi3 : i + 3 ≤ L := law_gt hL (by omega) cg
      have hn0 := I.1.1
      have hn := I.1.2
      have hPL := I.2.1.1
      have hPR := I.2.1.2
      have hpm := I.pf
      have hk0 := I.2.2.2.1
      have hkn := I.2.2.2.2
      refine lv_aload_n hx hb dL_law_26 rfl (lv_at hl 0 rfl) ?_
      refine lv_iload_n hx hb dL_law_27 rfl (lv_at hl 3 rfl) ?_
      refine z_sld hx hb hX hbl hbA Y.2.2 (by omega) (by omega) dL_law_28 ?_
      refine lv_bipush (v := nI 7) hx hb dL_law_29 (by decide) ?_
      refine lv_iand hx hb dL_law_31 ?_
      obtain ⟨j, hj, ej⟩ := law_and (xs i)
      rw [ej]
      match j, hj with
      | 0, _ =>
        refine lv_tableIn (off := 44) (tgt := 76) hx hb dL_law_32 (by decide) (by decide) (by decide) (by decide) ?_
        refine lv_aload_n hx hb dL_law_76 rfl (lv_at hl 1 rfl) ?_
        refine lv_aload_n hx hb dL_law_77 rfl (lv_at hl 0 rfl) ?_
        refine lv_iload_n hx hb dL_law_78 rfl (lv_at hl 3 rfl) ?_
        refine lv_iconst (v := nI 1) hx hb dL_law_79 (by decide) ?_
        refine z_iadd hx hb dL_law_80 ?_
        refine z_sld hx hb hX hbl hbA Y.2.2 (by omega) (by omega) dL_law_81 ?_
        refine z_cvS (n := 1) (q0 := 0) (ci := 0) (wr := WM am d n kn lk ld pl pd pp ma le be go re) (rest := []) X Y [0, 1, 2, 3, 4, 5, 6, 7, 8, 9] [10, 11, 12, 13, 14, 15, 16, 17, 18, 19] rfl rfl (by decide) (by decide) (by decide) (c_size l D d dz ax n lf rt lp rp rw fa ha me wt my (xs (i + 1))) (lw_V q74 q75 q76 q15 q77) (by decide +kernel) ⟨by decide, by decide⟩ rfl rfl rfl rfl hl.1 rfl (Nat.le_of_ble_eq_true rfl) dL_law_82 ⟨Nat.le_refl _, Nat.le_refl _⟩ (fun u H locs hp Y => ?_)
        have Y : z_W D A s (WM am d n kn lk ld pl pd pp ma le be go re ++ WX ax d dz (1 + mx (xs (i + 1)) % 6) (u.2.1) (u.2.2.2.1) (u.2.2.1) (u.2.2.2.2) (u.1) fa ha me wt my) H locs := Y
        refine lv_aload_n hx hb dL_law_85 rfl (lv_at hl 2 rfl) ?_
        refine lv_aload_n hx hb dL_law_86 rfl (lv_at hl 0 rfl) ?_
        refine lv_iload_n hx hb dL_law_87 rfl (lv_at hl 3 rfl) ?_
        refine lv_iconst (v := nI 1) hx hb dL_law_88 (by decide) ?_
        refine z_iadd hx hb dL_law_89 ?_
        refine z_sld hx hb hX hbl hbA Y.2.2 (by omega) (by omega) dL_law_90 ?_
        refine z_cvS (n := 1) (q0 := 0) (ci := 1) (wr := WX ax d dz (1 + mx (xs (i + 1)) % 6) (u.2.1) (u.2.2.2.1) (u.2.2.1) (u.2.2.2.2) (u.1) fa ha me wt my) (rest := []) X Y [0, 1, 2, 3, 4, 5, 6, 7, 8, 9] [10, 11, 12, 13, 14, 15, 16, 17, 18, 19] rfl rfl (by decide) (by decide) (by decide) (m_size l D d dz am n kn lk ld pl pd pp ma le be go re (xs (i + 1))) (lw_V q185 q144 q145 q16 q146) (by decide +kernel) ⟨by decide, by decide⟩ rfl rfl rfl rfl hl.1 rfl (Nat.le_of_ble_eq_true rfl) dL_law_91 ⟨Nat.le_refl _, Nat.le_refl _⟩ (fun w H locs hq Y => ?_)
        have Y : z_W D A s (WX ax d dz (1 + mx (xs (i + 1)) % 6) (u.2.1) (u.2.2.2.1) (u.2.2.1) (u.2.2.2.2) (u.1) fa ha me wt my ++ WM am d (1 + mx (xs (i + 1)) % 6) 0 (w.1) (w.2.1) (w.2.2.1) (w.2.2.2) pp ma le be go re) H locs := Y
        refine lv_goto (tgt := 241) hx hb dL_law_94 (by decide) ?_
        refine lv_iinc (v := nI (i + 3)) (lv' := [(3, .int (nI (i + 3))), (0, .ref b), (1, .ref (ax 0)), (2, .ref (am 0))]) hx hb dL_law_241 hl (k := 3) rfl (z_inc3 _) (by decide) rfl (fun ls hl => ?_)
        refine lv_goto (tgt := 18) hx hb dL_law_244 (by decide) ?_
        exact ih (i + 3) (1 + mx (xs (i + 1)) % 6) (u.2.1) (u.2.2.2.1) (u.2.2.1) (u.2.2.2.2) (u.1) fa ha me wt my 0 (w.1) (w.2.1) (w.2.2.1) (w.2.2.2) pp ma le be go re hi3 (LawI.fresh (by omega) (by omega) hp.1 hp.2 hq.1 hq.2.1 hq.2.2.1 hq.2.2.2) (by omega) H locs ls Y (lv_sub hl [1, 2, 3, 0] rfl)
      | 1, _ =>
        refine lv_tableIn (off := 65) (tgt := 97) hx hb dL_law_32 (by decide) (by decide) (by decide) (by decide) ?_
        refine lv_aload_n hx hb dL_law_97 rfl (lv_at hl 1 rfl) ?_
        refine lv_aload_n hx hb dL_law_98 rfl (lv_at hl 0 rfl) ?_
        refine lv_iload_n hx hb dL_law_99 rfl (lv_at hl 3 rfl) ?_
        refine lv_iconst (v := nI 1) hx hb dL_law_100 (by decide) ?_
        refine z_iadd hx hb dL_law_101 ?_
        refine z_sld hx hb hX hbl hbA Y.2.2 (by omega) (by omega) dL_law_102 ?_
        refine lv_aload_n hx hb dL_law_103 rfl (lv_at hl 0 rfl) ?_
        refine lv_iload_n hx hb dL_law_104 rfl (lv_at hl 3 rfl) ?_
        refine lv_iconst (v := nI 2) hx hb dL_law_105 (by decide) ?_
        refine z_iadd hx hb dL_law_106 ?_
        refine z_sld hx hb hX hbl hbA Y.2.2 (by omega) (by omega) dL_law_107 ?_
        refine z_cvS (n := 2) (q0 := 0) (ci := 0) (wr := WM am d n kn lk ld pl pd pp ma le be go re) (rest := []) X Y [0, 1, 2, 3, 4, 5, 6, 7, 8, 9] [10, 11, 12, 13, 14, 15, 16, 17, 18, 19] rfl rfl (by decide) (by decide) (by decide) (c_left l D d dz ax n lf rt lp rp rw fa ha me wt my (xs (i + 1)) (xs (i + 2)) hn0 hn) (lw_V q79 q80 q81 q15 q82) (by decide +kernel) ⟨by decide, by decide⟩ rfl rfl rfl rfl hl.1 rfl (Nat.le_of_ble_eq_true rfl) dL_law_108 ⟨Nat.le_refl _, Nat.le_refl _⟩ (fun u H locs hp Y => ?_)
        have Y : z_W D A s (WM am d n kn lk ld pl pd pp ma le be go re ++ WX ax d dz n (u.2.1) rt (u.2.2) rp (u.1) fa ha me wt my) H locs := Y
        refine lv_aload_n hx hb dL_law_111 rfl (lv_at hl 2 rfl) ?_
        refine lv_aload_n hx hb dL_law_112 rfl (lv_at hl 0 rfl) ?_
        refine lv_iload_n hx hb dL_law_113 rfl (lv_at hl 3 rfl) ?_
        refine lv_iconst (v := nI 1) hx hb dL_law_114 (by decide) ?_
        refine z_iadd hx hb dL_law_115 ?_
        refine z_sld hx hb hX hbl hbA Y.2.2 (by omega) (by omega) dL_law_116 ?_
        refine lv_aload_n hx hb dL_law_117 rfl (lv_at hl 0 rfl) ?_
        refine lv_iload_n hx hb dL_law_118 rfl (lv_at hl 3 rfl) ?_
        refine lv_iconst (v := nI 2) hx hb dL_law_119 (by decide) ?_
        refine z_iadd hx hb dL_law_120 ?_
        refine z_sld hx hb hX hbl hbA Y.2.2 (by omega) (by omega) dL_law_121 ?_
        refine z_cvS (n := 2) (q0 := 0) (ci := 1) (wr := WX ax d dz n (u.2.1) rt (u.2.2) rp (u.1) fa ha me wt my) (rest := []) X Y [0, 1, 2, 3, 4, 5, 6, 7, 8, 9] [10, 11, 12, 13, 14, 15, 16, 17, 18, 19] rfl rfl (by decide) (by decide) (by decide) (m_left l D d dz am n kn lk ld pl pd pp ma le be go re (xs (i + 1)) (xs (i + 2)) hn0 hn) (lw_V q186 q187 q188 q16 q189) (by decide +kernel) ⟨by decide, by decide⟩ rfl rfl rfl rfl hl.1 rfl (Nat.le_of_ble_eq_true rfl) dL_law_122 ⟨Nat.le_refl _, Nat.le_refl _⟩ (fun w H locs hq Y => ?_)
        have Y : z_W D A s (WX ax d dz n (u.2.1) rt (u.2.2) rp (u.1) fa ha me wt my ++ WM am d n 0 (w.1) ld (w.2.1) pd (w.2.2.1) ma (w.2.2.2) be go re) H locs := Y
        refine lv_goto (tgt := 241) hx hb dL_law_125 (by decide) ?_
        refine lv_iinc (v := nI (i + 3)) (lv' := [(3, .int (nI (i + 3))), (0, .ref b), (1, .ref (ax 0)), (2, .ref (am 0))]) hx hb dL_law_241 hl (k := 3) rfl (z_inc3 _) (by decide) rfl (fun ls hl => ?_)
        refine lv_goto (tgt := 18) hx hb dL_law_244 (by decide) ?_
        exact ih (i + 3) n (u.2.1) rt (u.2.2) rp (u.1) fa ha me wt my 0 (w.1) ld (w.2.1) pd (w.2.2.1) ma (w.2.2.2) be go re hi3 (I.left (Nat.mod_lt _ hn0) hp hq) (by omega) H locs ls Y (lv_sub hl [1, 2, 3, 0] rfl)
      | 2, _ =>
        refine lv_tableIn (off := 96) (tgt := 128) hx hb dL_law_32 (by decide) (by decide) (by decide) (by decide) ?_
        refine lv_aload_n hx hb dL_law_128 rfl (lv_at hl 1 rfl) ?_
        refine lv_aload_n hx hb dL_law_129 rfl (lv_at hl 0 rfl) ?_
        refine lv_iload_n hx hb dL_law_130 rfl (lv_at hl 3 rfl) ?_
        refine lv_iconst (v := nI 1) hx hb dL_law_131 (by decide) ?_
        refine z_iadd hx hb dL_law_132 ?_
        refine z_sld hx hb hX hbl hbA Y.2.2 (by omega) (by omega) dL_law_133 ?_
        refine lv_aload_n hx hb dL_law_134 rfl (lv_at hl 0 rfl) ?_
        refine lv_iload_n hx hb dL_law_135 rfl (lv_at hl 3 rfl) ?_
        refine lv_iconst (v := nI 2) hx hb dL_law_136 (by decide) ?_
        refine z_iadd hx hb dL_law_137 ?_
        refine z_sld hx hb hX hbl hbA Y.2.2 (by omega) (by omega) dL_law_138 ?_
        refine z_cvS (n := 2) (q0 := 0) (ci := 0) (wr := WM am d n kn lk ld pl pd pp ma le be go re) (rest := []) X Y [0, 1, 2, 3, 4, 5, 6, 7, 8, 9] [10, 11, 12, 13, 14, 15, 16, 17, 18, 19] rfl rfl (by decide) (by decide) (by decide) (c_right l D d dz ax n lf rt lp rp rw fa ha me wt my (xs (i + 1)) (xs (i + 2)) hn0 hn) (lw_V q91 q92 q93 q15 q94) (by decide +kernel) ⟨by decide, by decide⟩ rfl rfl rfl rfl hl.1 rfl (Nat.le_of_ble_eq_true rfl) dL_law_139 ⟨Nat.le_refl _, Nat.le_refl _⟩ (fun u H locs hp Y => ?_)
        have Y : z_W D A s (WM am d n kn lk ld pl pd pp ma le be go re ++ WX ax d dz n lf (u.2.1) lp (u.2.2) (u.1) fa ha me wt my) H locs := Y
        refine lv_aload_n hx hb dL_law_142 rfl (lv_at hl 2 rfl) ?_
        refine lv_aload_n hx hb dL_law_143 rfl (lv_at hl 0 rfl) ?_
        refine lv_iload_n hx hb dL_law_144 rfl (lv_at hl 3 rfl) ?_
        refine lv_iconst (v := nI 1) hx hb dL_law_145 (by decide) ?_
        refine z_iadd hx hb dL_law_146 ?_
        refine z_sld hx hb hX hbl hbA Y.2.2 (by omega) (by omega) dL_law_147 ?_
        refine lv_aload_n hx hb dL_law_148 rfl (lv_at hl 0 rfl) ?_
        refine lv_iload_n hx hb dL_law_149 rfl (lv_at hl 3 rfl) ?_
        refine lv_iconst (v := nI 2) hx hb dL_law_150 (by decide) ?_
        refine z_iadd hx hb dL_law_151 ?_
        refine z_sld hx hb hX hbl hbA Y.2.2 (by omega) (by omega) dL_law_152 ?_
        refine z_cvS (n := 2) (q0 := 0) (ci := 1) (wr := WX ax d dz n lf (u.2.1) lp (u.2.2) (u.1) fa ha me wt my) (rest := []) X Y [0, 1, 2, 3, 4, 5, 6, 7, 8, 9] [10, 11, 12, 13, 14, 15, 16, 17, 18, 19] rfl rfl (by decide) (by decide) (by decide) (m_right l D d dz am n kn lk ld pl pd pp ma le be go re (xs (i + 1)) (xs (i + 2)) hn0 hn) (lw_V q198 q199 q200 q16 q201) (by decide +kernel) ⟨by decide, by decide⟩ rfl rfl rfl rfl hl.1 rfl (Nat.le_of_ble_eq_true rfl) dL_law_153 ⟨Nat.le_refl _, Nat.le_refl _⟩ (fun w H locs hq Y => ?_)
        have Y : z_W D A s (WX ax d dz n lf (u.2.1) lp (u.2.2) (u.1) fa ha me wt my ++ WM am d n 0 lk (w.1) pl (w.2.1) (w.2.2.1) ma (w.2.2.2) be go re) H locs := Y
        refine lv_goto (tgt := 241) hx hb dL_law_156 (by decide) ?_
        refine lv_iinc (v := nI (i + 3)) (lv' := [(3, .int (nI (i + 3))), (0, .ref b), (1, .ref (ax 0)), (2, .ref (am 0))]) hx hb dL_law_241 hl (k := 3) rfl (z_inc3 _) (by decide) rfl (fun ls hl => ?_)
        refine lv_goto (tgt := 18) hx hb dL_law_244 (by decide) ?_
        exact ih (i + 3) n lf (u.2.1) lp (u.2.2) (u.1) fa ha me wt my 0 lk (w.1) pl (w.2.1) (w.2.2.1) ma (w.2.2.2) be go re hi3 (I.right (Nat.mod_lt _ hn0) hp hq) (by omega) H locs ls Y (lv_sub hl [1, 2, 3, 0] rfl)
      | 3, _ =>
        refine lv_tableIn (off := 127) (tgt := 159) hx hb dL_law_32 (by decide) (by decide) (by decide) (by decide) ?_
        refine lv_aload_n hx hb dL_law_159 rfl (lv_at hl 1 rfl) ?_
        refine z_ciS (n := 0) (q0 := 0) (ci := 0) (wr := WM am d n kn lk ld pl pd pp ma le be go re) (rest := []) X Y [0, 1, 2, 3, 4, 5, 6, 7, 8, 9] [10, 11, 12, 13, 14, 15, 16, 17, 18, 19] rfl rfl (by decide) (by decide) (by decide) (c_steadyOnes l D d dz ax n lf rt lp rp rw fa ha me wt my hn0 hn hPL hPR) (lw_V q110 q111 q112 q15 q113) (by decide +kernel) ⟨by decide, by decide⟩ rfl rfl rfl rfl hl.1 rfl (Nat.le_of_ble_eq_true rfl) dL_law_160 ⟨Nat.le_refl _, Nat.le_refl _⟩ (fun r1 u H locs hp Y => ?_)
        have Y : z_W D A s (WM am d n kn lk ld pl pd pp ma le be go re ++ WX ax d dz n lf rt lp rp (u.1) (u.2.1) (u.2.2.1) (u.2.2.2.1) (u.2.2.2.2.1) (u.2.2.2.2.2)) H locs := Y
        refine lv_aload_n hx hb dL_law_163 rfl (lv_at hl 2 rfl) ?_
        refine z_ciS (n := 0) (q0 := 0) (ci := 1) (wr := WX ax d dz n lf rt lp rp (u.1) (u.2.1) (u.2.2.1) (u.2.2.2.1) (u.2.2.2.2.1) (u.2.2.2.2.2)) (rest := [.int (nI r1)]) X Y [0, 1, 2, 3, 4, 5, 6, 7, 8, 9] [10, 11, 12, 13, 14, 15, 16, 17, 18, 19] rfl rfl (by decide) (by decide) (by decide) (m_steadyOnes l D d dz am n kn lk ld pl pd pp ma le be go re hn0 hn hpm.1 hpm.2 hk0 hkn) (lw_V q202 q203 q204 q16 q205) (by decide +kernel) ⟨by decide, by decide⟩ rfl rfl rfl rfl hl.1 rfl (Nat.le_of_ble_eq_true rfl) dL_law_164 ⟨Nat.le_refl _, Nat.le_refl _⟩ (fun r2 w H locs hq Y => ?_)
        have Y : z_W D A s (WX ax d dz n lf rt lp rp (u.1) (u.2.1) (u.2.2.1) (u.2.2.2.1) (u.2.2.2.2.1) (u.2.2.2.2.2) ++ WM am d n 1 lk ld pl pd (w.1) (w.2.1) (w.2.2.1) (w.2.2.2.1) (w.2.2.2.2.1) (w.2.2.2.2.2)) H locs := Y
        have heq : r1 = r2 := by rw [hp, hq.1]; exact I.many
        refine lv_icmp_eq (tgt := 241) hx hb dL_law_167 (by decide) (fun _ => ?_) (fun hne => absurd (congrArg nI heq) hne)
        refine lv_iinc (v := nI (i + 3)) (lv' := [(3, .int (nI (i + 3))), (0, .ref b), (1, .ref (ax 0)), (2, .ref (am 0))]) hx hb dL_law_241 hl (k := 3) rfl (z_inc3 _) (by decide) rfl (fun ls hl => ?_)
        refine lv_goto (tgt := 18) hx hb dL_law_244 (by decide) ?_
        exact ih (i + 3) n lf rt lp rp (u.1) (u.2.1) (u.2.2.1) (u.2.2.2.1) (u.2.2.2.2.1) (u.2.2.2.2.2) 1 lk ld pl pd (w.1) (w.2.1) (w.2.2.1) (w.2.2.2.1) (w.2.2.2.2.1) (w.2.2.2.2.2) hi3 (I.know hq.2) (by omega) H locs ls Y (lv_sub hl [1, 2, 3, 0] rfl)
      | 4, _ =>
        refine lv_tableIn (off := 140) (tgt := 172) hx hb dL_law_32 (by decide) (by decide) (by decide) (by decide) ?_
        refine lv_aload_n hx hb dL_law_172 rfl (lv_at hl 1 rfl) ?_
        refine lv_aload_n hx hb dL_law_173 rfl (lv_at hl 0 rfl) ?_
        refine lv_iload_n hx hb dL_law_174 rfl (lv_at hl 3 rfl) ?_
        refine lv_iconst (v := nI 1) hx hb dL_law_175 (by decide) ?_
        refine z_iadd hx hb dL_law_176 ?_
        refine z_sld hx hb hX hbl hbA Y.2.2 (by omega) (by omega) dL_law_177 ?_
        refine z_ciS (n := 1) (q0 := 0) (ci := 0) (wr := WM am d n kn lk ld pl pd pp ma le be go re) (rest := []) X Y [0, 1, 2, 3, 4, 5, 6, 7, 8, 9] [10, 11, 12, 13, 14, 15, 16, 17, 18, 19] rfl rfl (by decide) (by decide) (by decide) (c_partner l D d dz ax n lf rt lp rp rw fa ha me wt my (xs (i + 1)) hn0 hn hPL hPR) (lw_V q95 q96 q97 q15 q98) (by decide +kernel) ⟨by decide, by decide⟩ rfl rfl rfl rfl hl.1 rfl (Nat.le_of_ble_eq_true rfl) dL_law_178 ⟨Nat.le_refl _, Nat.le_refl _⟩ (fun r1 u H locs hp Y => ?_)
        have Y : z_W D A s (WM am d n kn lk ld pl pd pp ma le be go re ++ WX ax d dz n lf rt lp rp rw (u.1) (u.2) me wt my) H locs := Y
        have hmn : mx (xs (i + 1)) % n < n := Nat.mod_lt _ hn0
        have hbst := I.bL hp.2.1 hp.2.2 hmn
        have hgl := (hp.2.1.1 _ hmn).1
        refine lv_aload_n hx hb dL_law_181 rfl (lv_at hl 2 rfl) ?_
        refine lv_aload_n hx hb dL_law_182 rfl (lv_at hl 0 rfl) ?_
        refine lv_iload_n hx hb dL_law_183 rfl (lv_at hl 3 rfl) ?_
        refine lv_iconst (v := nI 1) hx hb dL_law_184 (by decide) ?_
        refine z_iadd hx hb dL_law_185 ?_
        refine z_sld hx hb hX hbl hbA Y.2.2 (by omega) (by omega) dL_law_186 ?_
        refine z_ciS (n := 1) (q0 := 0) (ci := 1) (wr := WX ax d dz n lf rt lp rp rw (u.1) (u.2) me wt my) (rest := [.int (nI r1)]) X Y [0, 1, 2, 3, 4, 5, 6, 7, 8, 9] [10, 11, 12, 13, 14, 15, 16, 17, 18, 19] rfl rfl (by decide) (by decide) (by decide) (m_partner l D d dz am n kn lk ld pl pd pp ma le be go re (xs (i + 1)) hn0 hn hpm.1 hpm.2 hk0 hkn (by rw [hbst]; exact hgl)) (lw_V q214 q215 q216 q16 q217) (by decide +kernel) ⟨by decide, by decide⟩ rfl rfl rfl rfl hl.1 rfl (Nat.le_of_ble_eq_true rfl) dL_law_187 ⟨Nat.le_refl _, Nat.le_refl _⟩ (fun r2 w H locs hq Y => ?_)
        have Y : z_W D A s (WX ax d dz n lf rt lp rp rw (u.1) (u.2) me wt my ++ WM am d n 1 lk ld pl pd (w.1) (w.2.1) (w.2.2.1) (w.2.2.2.1) (w.2.2.2.2.1) (w.2.2.2.2.2)) H locs := Y
        have heq : r1 = r2 := by rw [hp.1, hq.1, hbst]; exact I.2.2.1.1 _ hmn _ hgl
        refine lv_icmp_eq (tgt := 241) hx hb dL_law_190 (by decide) (fun _ => ?_) (fun hne => absurd (congrArg nI heq) hne)
        refine lv_iinc (v := nI (i + 3)) (lv' := [(3, .int (nI (i + 3))), (0, .ref b), (1, .ref (ax 0)), (2, .ref (am 0))]) hx hb dL_law_241 hl (k := 3) rfl (z_inc3 _) (by decide) rfl (fun ls hl => ?_)
        refine lv_goto (tgt := 18) hx hb dL_law_244 (by decide) ?_
        exact ih (i + 3) n lf rt lp rp rw (u.1) (u.2) me wt my 1 lk ld pl pd (w.1) (w.2.1) (w.2.2.1) (w.2.2.2.1) (w.2.2.2.2.1) (w.2.2.2.2.2) hi3 (I.know hq.2) (by omega) H locs ls Y (lv_sub hl [1, 2, 3, 0] rfl)
      | 5, _ =>
        refine lv_tableIn (off := 163) (tgt := 195) hx hb dL_law_32 (by decide) (by decide) (by decide) (by decide) ?_
        refine lv_aload_n hx hb dL_law_195 rfl (lv_at hl 1 rfl) ?_
        refine lv_aload_n hx hb dL_law_196 rfl (lv_at hl 0 rfl) ?_
        refine lv_iload_n hx hb dL_law_197 rfl (lv_at hl 3 rfl) ?_
        refine lv_iconst (v := nI 1) hx hb dL_law_198 (by decide) ?_
        refine z_iadd hx hb dL_law_199 ?_
        refine z_sld hx hb hX hbl hbA Y.2.2 (by omega) (by omega) dL_law_200 ?_
        refine z_ciS (n := 1) (q0 := 0) (ci := 0) (wr := WM am d n kn lk ld pl pd pp ma le be go re) (rest := []) X Y [0, 1, 2, 3, 4, 5, 6, 7, 8, 9] [10, 11, 12, 13, 14, 15, 16, 17, 18, 19] rfl rfl (by decide) (by decide) (by decide) (c_other l D d dz ax n lf rt lp rp rw fa ha me wt my (xs (i + 1)) hn0 hn hPL hPR) (lw_V q106 q107 q108 q15 q109) (by decide +kernel) ⟨by decide, by decide⟩ rfl rfl rfl rfl hl.1 rfl (Nat.le_of_ble_eq_true rfl) dL_law_201 ⟨Nat.le_refl _, Nat.le_refl _⟩ (fun r1 u H locs hp Y => ?_)
        have Y : z_W D A s (WM am d n kn lk ld pl pd pp ma le be go re ++ WX ax d dz n lf rt lp rp rw (u.1) (u.2) me wt my) H locs := Y
        have hmn : mx (xs (i + 1)) % n < n := Nat.mod_lt _ hn0
        have hbst := I.bR hp.2.1 hp.2.2 hmn
        have hgl := (hp.2.1.1 _ hmn).1
        refine lv_aload_n hx hb dL_law_204 rfl (lv_at hl 2 rfl) ?_
        refine lv_aload_n hx hb dL_law_205 rfl (lv_at hl 0 rfl) ?_
        refine lv_iload_n hx hb dL_law_206 rfl (lv_at hl 3 rfl) ?_
        refine lv_iconst (v := nI 1) hx hb dL_law_207 (by decide) ?_
        refine z_iadd hx hb dL_law_208 ?_
        refine z_sld hx hb hX hbl hbA Y.2.2 (by omega) (by omega) dL_law_209 ?_
        refine z_ciS (n := 1) (q0 := 0) (ci := 1) (wr := WX ax d dz n lf rt lp rp rw (u.1) (u.2) me wt my) (rest := [.int (nI r1)]) X Y [0, 1, 2, 3, 4, 5, 6, 7, 8, 9] [10, 11, 12, 13, 14, 15, 16, 17, 18, 19] rfl rfl (by decide) (by decide) (by decide) (m_other l D d dz am n kn lk ld pl pd pp ma le be go re (xs (i + 1)) hn0 hn hpm.1 hpm.2 hk0 hkn (by rw [hbst]; exact hgl)) (lw_V q218 q219 q220 q16 q221) (by decide +kernel) ⟨by decide, by decide⟩ rfl rfl rfl rfl hl.1 rfl (Nat.le_of_ble_eq_true rfl) dL_law_210 ⟨Nat.le_refl _, Nat.le_refl _⟩ (fun r2 w H locs hq Y => ?_)
        have Y : z_W D A s (WX ax d dz n lf rt lp rp rw (u.1) (u.2) me wt my ++ WM am d n 1 lk ld pl pd (w.1) (w.2.1) (w.2.2.1) (w.2.2.2.1) (w.2.2.2.2.1) (w.2.2.2.2.2)) H locs := Y
        have heq : r1 = r2 := by rw [hp.1, hq.1, hbst]; exact I.2.2.1.2.1 _ hmn _ hgl
        refine lv_icmp_eq (tgt := 241) hx hb dL_law_213 (by decide) (fun _ => ?_) (fun hne => absurd (congrArg nI heq) hne)
        refine lv_iinc (v := nI (i + 3)) (lv' := [(3, .int (nI (i + 3))), (0, .ref b), (1, .ref (ax 0)), (2, .ref (am 0))]) hx hb dL_law_241 hl (k := 3) rfl (z_inc3 _) (by decide) rfl (fun ls hl => ?_)
        refine lv_goto (tgt := 18) hx hb dL_law_244 (by decide) ?_
        exact ih (i + 3) n lf rt lp rp rw (u.1) (u.2) me wt my 1 lk ld pl pd (w.1) (w.2.1) (w.2.2.1) (w.2.2.2.1) (w.2.2.2.2.1) (w.2.2.2.2.2) hi3 (I.know hq.2) (by omega) H locs ls Y (lv_sub hl [1, 2, 3, 0] rfl)
      | 6, _ =>
        refine lv_tableIn (off := 186) (tgt := 218) hx hb dL_law_32 (by decide) (by decide) (by decide) (by decide) ?_
        refine lv_aload_n hx hb dL_law_218 rfl (lv_at hl 1 rfl) ?_
        refine lv_aload_n hx hb dL_law_219 rfl (lv_at hl 0 rfl) ?_
        refine lv_iload_n hx hb dL_law_220 rfl (lv_at hl 3 rfl) ?_
        refine lv_iconst (v := nI 1) hx hb dL_law_221 (by decide) ?_
        refine z_iadd hx hb dL_law_222 ?_
        refine z_sld hx hb hX hbl hbA Y.2.2 (by omega) (by omega) dL_law_223 ?_
        refine z_ciS (n := 1) (q0 := 0) (ci := 0) (wr := WM am d n kn lk ld pl pd pp ma le be go re) (rest := []) X Y [0, 1, 2, 3, 4, 5, 6, 7, 8, 9] [10, 11, 12, 13, 14, 15, 16, 17, 18, 19] rfl rfl (by decide) (by decide) (by decide) (c_steady l D d dz ax n lf rt lp rp rw fa ha me wt my (xs (i + 1)) hn0 hn hPL hPR) (lw_V q133 q134 q135 q15 q136) (by decide +kernel) ⟨by decide, by decide⟩ rfl rfl rfl rfl hl.1 rfl (Nat.le_of_ble_eq_true rfl) dL_law_224 ⟨Nat.le_refl _, Nat.le_refl _⟩ (fun r1 u H locs hp Y => ?_)
        have Y : z_W D A s (WM am d n kn lk ld pl pd pp ma le be go re ++ WX ax d dz n lf rt lp rp (u.1) (u.2.1) (u.2.2) me wt my) H locs := Y
        refine lv_aload_n hx hb dL_law_227 rfl (lv_at hl 2 rfl) ?_
        refine lv_aload_n hx hb dL_law_228 rfl (lv_at hl 0 rfl) ?_
        refine lv_iload_n hx hb dL_law_229 rfl (lv_at hl 3 rfl) ?_
        refine lv_iconst (v := nI 1) hx hb dL_law_230 (by decide) ?_
        refine z_iadd hx hb dL_law_231 ?_
        refine z_sld hx hb hX hbl hbA Y.2.2 (by omega) (by omega) dL_law_232 ?_
        refine z_ciS (n := 1) (q0 := 0) (ci := 1) (wr := WX ax d dz n lf rt lp rp (u.1) (u.2.1) (u.2.2) me wt my) (rest := [.int (nI r1)]) X Y [0, 1, 2, 3, 4, 5, 6, 7, 8, 9] [10, 11, 12, 13, 14, 15, 16, 17, 18, 19] rfl rfl (by decide) (by decide) (by decide) (m_steady l D d dz am n kn lk ld pl pd pp ma le be go re (xs (i + 1)) hn0 hn hpm.1 hpm.2) (lw_V q222 q223 q224 q16 q225) (by decide +kernel) ⟨by decide, by decide⟩ rfl rfl rfl rfl hl.1 rfl (Nat.le_of_ble_eq_true rfl) dL_law_233 ⟨Nat.le_refl _, Nat.le_refl _⟩ (fun r2 w H locs hq Y => ?_)
        have Y : z_W D A s (WX ax d dz n lf rt lp rp (u.1) (u.2.1) (u.2.2) me wt my ++ WM am d n kn lk ld pl pd (w.1) (w.2.1) (w.2.2) be go re) H locs := Y
        have heq : r1 = r2 := by rw [hp, hq, I.rnE]
        refine lv_icmp_eq (tgt := 241) hx hb dL_law_236 (by decide) (fun _ => ?_) (fun hne => absurd (congrArg nI heq) hne)
        refine lv_iinc (v := nI (i + 3)) (lv' := [(3, .int (nI (i + 3))), (0, .ref b), (1, .ref (ax 0)), (2, .ref (am 0))]) hx hb dL_law_241 hl (k := 3) rfl (z_inc3 _) (by decide) rfl (fun ls hl => ?_)
        refine lv_goto (tgt := 18) hx hb dL_law_244 (by decide) ?_
        exact ih (i + 3) n lf rt lp rp (u.1) (u.2.1) (u.2.2) me wt my kn lk ld pl pd (w.1) (w.2.1) (w.2.2) be go re hi3 (I) (by omega) H locs ls Y (lv_sub hl [1, 2, 3, 0] rfl)
      | 7, _ =>
        refine lv_tableOut (tgt := 241) hx hb dL_law_32 (by decide) (by decide) ?_
        refine lv_iinc (v := nI (i + 3)) (lv' := [(3, .int (nI (i + 3))), (0, .ref b), (1, .ref (ax 0)), (2, .ref (am 0))]) hx hb dL_law_241 hl (k := 3) rfl (z_inc3 _) (by decide) rfl (fun ls hl => ?_)
        refine lv_goto (tgt := 18) hx hb dL_law_244 (by decide) ?_
        exact ih (i + 3) n lf rt lp rp rw fa ha me wt my kn lk ld pl pd pp ma le be go re hi3 (I) (by omega) H locs ls Y (lv_sub hl [1, 2, 3, 0] rfl)
      | j + 8, hj => exact absurd hj (by omega)
end
section
set_option maxHeartbeats 4000000 in
set_option maxRecDepth 100000 in
/-- THE LAW, from its entry -/
theorem whole_start {p : Program} {e : Env} {s : State} {m : MethodId} {below : List Frame} {meth : Method} {c : Code} (l : Launch) {b L : Nat} {xs : Nat → Int32} (hL : L ≤ 192) (C0 : lw_At p s m meth c b L xs) : W p l e room_1 s m #[Value.ref b] below meth c s.heap [] 0 0 (lw_Z below #[Value.ref b] s) (entryFrame m ([Value.ref b] : List Value).toArray 4) := by
  obtain ⟨hx, hb, hr, hml, hown, hts0, hX, hbl, hlocks, hgv⟩ := id C0
  have hts : ∀ w ∈ lw_all, w.before #[Value.ref b] s = true := fun w h => hts0 w (lw_all_tbl h)
  obtain ⟨c0_, iS0, hKn0⟩ := u_known (C := RX0) (T := TX0) (N := 11) (n := 11) hts in_X0 (hts _ q19)
  obtain ⟨c1_, iS1, hKn1⟩ := u_known (C := RX1) (T := TX1) (N := 12) (n := 12) hts in_X1 (hts _ q138)
  obtain ⟨dC, dI, hKc⟩ : ∃ (dC : Nat → ClassId) (dI : Nat → Nat → Nat), ∀ (k : Nat) (q : vw_C), vwCl[k]? = some q → u_Kn s q.1 q.2.1 q.2.2 (dC k) (dI k) := by
    refine ⟨fun k => if k = 0 then c0_ else c1_, fun k => if k = 0 then iS0 else iS1, ?_⟩
    intro k q hq
    match k, hq with
    | 0, hq => cases hq; exact hKn0
    | 1, hq => cases hq; exact hKn1
    | k + 2, hq => simp [vwCl] at hq
  obtain ⟨d, kA, comp, hf1, hk1, hd1⟩ := Cond.arrayClass_spec (hts _ q72)
  obtain ⟨dz, kZ, compz, hf2, hk2, hd2⟩ := Cond.arrayClass_spec (hts _ q73)
  have hK : va_K (dC, dI) vwCl [(d, .int), (dz, .boolean)] s := by
    refine ⟨hKc, fun k q hq => ?_⟩
    match k, hq with
    | 0, hq => cases hq; exact ⟨fun n z => ⟨fun k h => (by cases h), kA, hk1, comp, hd1⟩, hf1⟩
    | 1, hq => cases hq; exact ⟨fun n z => ⟨fun k h => (by cases h), kZ, hk2, compz, hd2⟩, hf2⟩
    | k + 2, hq => simp at hq
  obtain ⟨A, hAe⟩ : ∃ A : Nat → Prop, A = fun q => s.heap.size ≤ q := ⟨_, rfl⟩
  have hA : ∀ q : Nat, s.heap.size ≤ q → A q := fun q h => by rw [hAe]; exact h
  have hAl : ∀ q : Nat, A q → s.heap.size ≤ q := fun q h => by rw [hAe] at h; exact h
  have hbA : ¬ A b := fun h => absurd (hAl b h) (Nat.not_le.mpr hbl)
  have X : z_C p room_1 s m #[Value.ref b] c cL_law 4 R_law (dC, dI) d dz A 6 186 600000 7290000 := ⟨⟨hx, hb, hml, hown, hts⟩, hK, hA, Nat.le_refl _, Nat.le_refl _, Nat.le_refl _, Nat.le_refl _⟩
  have hP : va_P (dC, dI) vwCl [] s.heap := fun k q h => by simp at h
  have hD : va_D A [] := ⟨fun i j p q h => by simp at h, fun k q h => by simp at h⟩
  have hl := lv_entry ([.ref b]) (n := 4) (Nat.le_of_ble_eq_true rfl)
  rw [lg_entry_eq]
  generalize (lg_sl ([.ref b]) ++ List.replicate (4 - (lg_sl ([.ref b])).length) Slot.unset).toArray = ls at hl ⊢
  have hl : lv_has ls 4 [(0, .ref b)] := hl
  refine va_new (ci := 0) (fs := [.int (nI 0), .null, .null, .null, .null, .null, .null, .null, .null, .null, .int (nI 0)]) (C := RX0) (T := TX0) (N := 11) hx hb hts in_X0 tyX0 tyX0_ok hown (hts _ q18) (hts _ q19) (hts _ q15) hK hP hD va_S.rf hA rfl (fun j hj => by rcases (show j = 0 ∨ j = 1 ∨ j = 2 ∨ j = 3 ∨ j = 4 ∨ j = 5 ∨ j = 6 ∨ j = 7 ∨ j = 8 ∨ j = 9 ∨ j = 10 by omega) with rfl | rfl | rfl | rfl | rfl | rfl | rfl | rfl | rfl | rfl | rfl <;> rfl) (Nat.le_of_ble_eq_true rfl) (Nat.le_of_ble_eq_true rfl) dL_law_0 (fun a0 H hP hD hS => ?_)
  have Y1 : z_W (dC, dI) A s [(a0, .inr (0, [.int (nI 0), .null, .null, .null, .null, .null, .null, .null, .null, .null, .int (nI 0)]))] H [] := ⟨hP, hD, hS⟩
  refine lv_dup hx hb dL_law_3 rfl ?_
  refine z_cI (n := 0) (wr := []) (rest := [.ref a0]) X Y1 [0] [] rfl rfl (by decide) (by decide) (by decide) (c_init l (dC, dI) d dz a0) (lw_meth q22) q15 q20 q21 rfl (by decide +kernel) ⟨by decide, by decide⟩ rfl hl.1 rfl (Nat.le_of_ble_eq_true rfl) dL_law_4 ⟨Nat.le_of_ble_eq_true rfl, Nat.le_of_ble_eq_true rfl⟩ (fun u H locs hp Y => ?_)
  have Y : z_W (dC, dI) A s (WX u.1 d dz 3 u.2.2.1 u.2.2.2.2.1 u.2.2.2.1 u.2.2.2.2.2 u.2.1 (fun _ => 0) (fun _ => 0) (fun _ => 0) (fun _ => 0) 0) H locs := Y
  have hp0 : a0 = u.1 0 := hp.1.symm
  subst hp0
  refine lv_astore_n (lv' := [(1, .ref (u.1 0)), (0, .ref b)]) hx hb dL_law_7 rfl hl (by decide) rfl (fun ls hl => ?_)
  refine va_new (ci := 1) (fs := [.null, .null, .null, .null, .int (nI 0), .int (nI 0), .null, .null, .null, .null, .null, .int (nI 0)]) (C := RX1) (T := TX1) (N := 12) hx hb hts in_X1 tyX1 tyX1_ok hown (hts _ q137) (hts _ q138) (hts _ q16) hK Y.1 Y.2.1 Y.2.2 hA rfl (fun j hj => by rcases (show j = 0 ∨ j = 1 ∨ j = 2 ∨ j = 3 ∨ j = 4 ∨ j = 5 ∨ j = 6 ∨ j = 7 ∨ j = 8 ∨ j = 9 ∨ j = 10 ∨ j = 11 by omega) with rfl | rfl | rfl | rfl | rfl | rfl | rfl | rfl | rfl | rfl | rfl | rfl <;> rfl) (Nat.le_of_ble_eq_true rfl) (Nat.le_of_ble_eq_true rfl) dL_law_8 (fun b0 H hP hD hS => ?_)
  have Y2 : z_W (dC, dI) A s (WX u.1 d dz 3 u.2.2.1 u.2.2.2.2.1 u.2.2.2.1 u.2.2.2.2.2 u.2.1 (fun _ => 0) (fun _ => 0) (fun _ => 0) (fun _ => 0) 0 ++ [(b0, .inr (1, [.null, .null, .null, .null, .int (nI 0), .int (nI 0), .null, .null, .null, .null, .null, .int (nI 0)]))]) H locs := ⟨hP, hD, hS⟩
  refine lv_dup hx hb dL_law_11 rfl ?_
  refine z_cI (n := 0) (wr := WX u.1 d dz 3 u.2.2.1 u.2.2.2.2.1 u.2.2.2.1 u.2.2.2.2.2 u.2.1 (fun _ => 0) (fun _ => 0) (fun _ => 0) (fun _ => 0) 0) (rest := [.ref b0]) X Y2 [10] [0, 1, 2, 3, 4, 5, 6, 7, 8, 9] rfl rfl (by decide) (by decide) (by decide) (m_init l (dC, dI) d dz b0) (lw_meth q141) q16 q139 q140 rfl (by decide +kernel) ⟨by decide, by decide⟩ rfl hl.1 rfl (Nat.le_of_ble_eq_true rfl) dL_law_12 ⟨Nat.le_of_ble_eq_true rfl, Nat.le_of_ble_eq_true rfl⟩ (fun w H locs hq Y => ?_)
  have Y : z_W (dC, dI) A s (WX u.1 d dz 3 u.2.2.1 u.2.2.2.2.1 u.2.2.2.1 u.2.2.2.2.2 u.2.1 (fun _ => 0) (fun _ => 0) (fun _ => 0) (fun _ => 0) 0 ++ WM w.1 d 3 0 w.2.1 w.2.2.1 w.2.2.2.1 w.2.2.2.2 (fun _ => 0) (fun _ => 0) (fun _ => 0) (fun _ => 0) (fun _ => 0) 0) H locs := Y
  have hq0 : b0 = w.1 0 := hq.1.symm
  subst hq0
  refine lv_astore_n (lv' := [(2, .ref (w.1 0)), (1, .ref (u.1 0)), (0, .ref b)]) hx hb dL_law_15 rfl hl (by decide) rfl (fun ls hl => ?_)
  refine lv_iconst (v := nI 0) hx hb dL_law_16 (by decide) ?_
  refine lv_istore_n (lv' := [(3, .int (nI 0)), (2, .ref (w.1 0)), (1, .ref (u.1 0)), (0, .ref b)]) hx hb dL_law_17 rfl hl (by decide) rfl (fun ls hl => ?_)
  refine W.widen (k := 600000) (n := 7290000) (Nat.le_of_ble_eq_true rfl) (Nat.le_of_ble_eq_true rfl) ?_
  exact law_loop hL C0 hbA hAl X u.1 w.1 _ 0 3 u.2.2.1 u.2.2.2.2.1 u.2.2.2.1 u.2.2.2.2.2 u.2.1 (fun _ => 0) (fun _ => 0) (fun _ => 0) (fun _ => 0) 0 0 w.2.1 w.2.2.1 w.2.2.2.1 w.2.2.2.2 (fun _ => 0) (fun _ => 0) (fun _ => 0) (fun _ => 0) (fun _ => 0) 0 (Nat.zero_le _) (LawI.fresh (by decide) (by decide) hp.2.1 hp.2.2 hq.2.1 hq.2.2.1 hq.2.2.2.1 hq.2.2.2.2) (Nat.lt_succ_self _) H locs ls Y (lv_sub hl [3, 2, 1, 0] rfl)
set_option maxHeartbeats 4000000 in
theorem lw_walk (l : Launch) (b : Addr) (xs : List Int32) : MetFree l x (headSpec (Jvm.Cond.code x code maxLocals ret :: tables_1) room_1) (lw_P b xs) (fun _ _ _ _ _ => True) lw_Q := by
  refine MetFree.of_bodyS (code := code) (maxLocals := maxLocals) (ret := ret) (by decide) ?_ ?_
  · intro args s m h hn
    obtain ⟨meth, c, h1, h2, h3, h4, h5, h6, -, -⟩ := Cond.code_spec hn (atoms_spec (ws := Jvm.Cond.code x code maxLocals ret :: tables_1) h _ List.mem_cons_self)
    exact ⟨meth, c, h1, h2, h3, h4, h5, h6⟩
  · intro p e s m args below meth c s₁ B hml0 hP _
    obtain ⟨rfl, hx, hbd, hgv⟩ := hP
    obtain ⟨scr, harrAt, hlist, hof, hsmall⟩ := hx
    obtain ⟨hcb, hkn, -, -⟩ := State.arrayAt?_spec harrAt
    have hown : s.vm.findClass R_law = some m.cls := findClass_of_methodNamed B.named
    have hts0 : ∀ c ∈ (Jvm.Cond.code x code maxLocals ret :: tables_1), c.before #[Value.ref b] s = true := atoms_spec (ws := Jvm.Cond.code x code maxLocals ret :: tables_1) B.pre
    have hts : ∀ w ∈ lw_tbl, w.before #[Value.ref b] s = true := k2_hts_sels lw_privs (fun w hw => hts0 w (List.mem_cons_of_mem _ hw)) lw_privs_ok
    have hml : c.maxLocals = 4 := B.maxLocals_eq (hts0 _ List.mem_cons_self)
    have X₀ : Stand p l e room_1 s m #[Value.ref b] below meth c s₁ [] 0 0 := Stand.of_body B
    have hh0 : s₁.heap = s.heap := by rw [B.state]; rfl
    have hsz : scr.slots.size = xs.length := by rw [← Array.length_toList, hlist, List.length_map]
    have hval : ∀ j : Nat, j < xs.length → scr.slots[j]? = some (.int (xs.getD j 0)) := fun j hj => by
      rw [← Array.getElem?_toList, hlist]
      simp [hj]
    have hbl : b < s.heap.size := (Array.getElem?_eq_some_iff.mp hcb).1
    have hX : va_X b xs.length (fun j => xs.getD j 0) s s.heap := ⟨scr, hcb, hof, hkn, hsz, hval⟩
    have K : W p l e room_1 s m #[Value.ref b] below meth c s₁.heap [] 0 0 (lw_Z below #[Value.ref b] s) (entryFrame m ([Value.ref b] : List Value).toArray 4) := by
      rw [hh0]
      exact whole_start l hbd ⟨B.exec, B.bytes, B.returns, hml, hown, hts, hX, hbl, B.notSynchronized, hgv⟩
    obtain ⟨t, a1, o, b1, b2, b3⟩ := K s₁ rfl X₀
    exact ⟨t, o, a1, b1, b2, b3⟩
theorem lw_pre_spec {args : Array Value} {s : State} (h : (Jvm.Cond.and given_1 narrow_1).before args s = true) (hr : rest_1_c.before args s = true) : ∃ (b : Addr) (xs : List Int32), lw_P b xs args s := by
  have hs := flat_of_before _ h
  have hq := flat_of_before _ hr
  have hc : (Cond.count 1).before args s = true := hs _ (by decide +kernel)
  have harr : (Cond.arrayOf (.arg 0) .int).before args s = true := hs _ (by decide +kernel)
  have hle : (Cond.le (.length (.arg 0)) (.int 192)).before args s = true := hs _ (by decide +kernel)
  have hlen : (Cond.isInt (.length (.arg 0))).before args s = true := hq _ (by decide +kernel)
  have hall : (Cond.all (.arg 0) (.isInt (.elem (.arg 0) (.index 0)))).before args s = true := hq _ (by decide +kernel)
  obtain ⟨b, xs, hb, hx⟩ := State.ints_of_pre rfl harr hlen hall
  have hsm : xs.length < 2 ^ 31 := hx.choose_spec.2.2.2
  have hev : (Term.length (.arg 0)).eval args s none [] s = some (.int xs.length.toInt32) := hx.length_eval hb
  have hv := Cond.le_ints hev (show (Term.int 192).eval args s none [] s = some (.int 192) from rfl)
  have hd : xs.length.toInt32 ≤ 192 := by
    simpa [Cond.before, Cond.holds, hv] using hle
  have hN : xs.length ≤ 192 := (Int32.ofNat_le_ofNat hsm (by decide)).mp (show Int32.ofNat xs.length ≤ Int32.ofNat 192 from hd)
  exact ⟨b, xs, Cond.one_arg hc (show args[0]? = some (.ref b) from hb), hx, hN, h⟩
theorem lw_comes (l : Launch) : Comes l x (Jvm.Cond.code x code maxLocals ret :: tables_1) room_1 (fun tb e args s => Calls_1 tb e args s ∧ rest_1 tb e args s ∧ Pre_1 tb e args s)
    (fun _ _ args s o t => lw_Q args s o t) := by
  intro p e ha hc hk s m args below hf hfit hheap happ hpre
  obtain ⟨b, xs, hP⟩ := lw_pre_spec hpre.2.2 hpre.2.1
  obtain ⟨k, o, h1, h2, h3, hQ⟩ := lw_walk l b xs p e ha hc hk s m args below hf ((Spec.applies_iff_loose hf).mp happ).1 hP trivial
  exact ⟨k, o, h1, h2, h3, hQ⟩
theorem lw_frame {s t : State} {o : Outcome} {args : Array Value} (h : Framed s o t [] 600000 7290000) :
    Framed s o t (fieldLocs frame_1_writes args s ++ arrayLocs frame_1_arrays args s ++ staticLocs frame_1_statics s) 600000 7290000 := h
theorem lw_limb (L : Cond) (hL : ∀ (args : Array Value) (s t : State), L.after args s (.returned (some (.int 1))) t = true) :
    ArmFor flags0 classFile x code maxLocals ret World_1 tables_1 room_1 Calls_1 rest_1 Pre_1
      (fun tb e a s o t => postC L tb e a s o t ∧ Framed s o t (fieldLocs frame_1_writes a s ++ arrayLocs frame_1_arrays a s ++ staticLocs frame_1_statics s) 600000 7290000) := by
  intro l _ _ _ p e ha hc hk s m args below hf hfit hheap happ hpre
  obtain ⟨k, o, h1, h2, h3, rfl, hF⟩ := lw_comes l p e ha hc hk s m args below hf hfit hheap happ hpre
  exact ⟨k, _, h1, h2, h3, hL args s _, lw_frame hF⟩
theorem i_vc : Claimed_1_1 ∧ Claimed_1_2 := ⟨lw_limb limb_1_1 (fun args s t => by simp [limb_1_1, Cond.after, Cond.holds, Cond.value]), lw_limb limb_1_2 (fun args s t => Cond.after_iff.mpr (by
  first | (rw [show limb_1_2 = Cond.eq .result (.int 1) from rfl, Cond.eq_ints (x := 1) (y := 1) rfl rfl]; simp; done) | (simp [limb_1_2, Cond.value, Term.eval]; done)))⟩
end
