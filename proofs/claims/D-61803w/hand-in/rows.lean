section
-- ===== PART A: goes FIRST, ahead of the names: the tables' words, and 'selects' of the private methods out of them =====
/-- a private method of a class that the tables say can be made, by its rows of tables_1 -/
def lw_okq (q : MethodName × Nat) : Prop := (q.1.cls ≠ "java/lang/invoke/MethodHandle" ∧ q.1.cls ≠ "java/lang/invoke/VarHandle") ∧ Cond.instantiable q.1.cls q.2 ∈ tables_1 ∧ Cond.privateMethod q.1 ∈ tables_1 ∧ Cond.instanceMethod q.1 ∈ tables_1
set_option maxRecDepth 100000
theorem lw_t1 {w : Cond} (h : w ∈ tables_1_1) : w ∈ tables_1 := List.mem_append_left _ h
theorem lw_t2 {w : Cond} (h : w ∈ tables_1_2) : w ∈ tables_1 := List.mem_append_right _ h
theorem lw_p0 : lw_okq (⟨"CapabilityServer", "slotRequest", "(IIII)I"⟩, 17) := ⟨⟨by decide +kernel, by decide +kernel⟩, lw_t1 (List.mem_of_getElem? (i := 4) rfl), lw_t1 (List.mem_of_getElem? (i := 70) rfl), lw_t1 (List.mem_of_getElem? (i := 71) rfl)⟩
theorem lw_p1 : lw_okq (⟨"CapabilityServer", "request", "(IIIII)I"⟩, 17) := ⟨⟨by decide +kernel, by decide +kernel⟩, lw_t1 (List.mem_of_getElem? (i := 4) rfl), lw_t1 (List.mem_of_getElem? (i := 80) rfl), lw_t1 (List.mem_of_getElem? (i := 81) rfl)⟩
theorem lw_p2 : lw_okq (⟨"CapabilityServer", "receive", "(I)I"⟩, 17) := ⟨⟨by decide +kernel, by decide +kernel⟩, lw_t1 (List.mem_of_getElem? (i := 4) rfl), lw_t1 (List.mem_of_getElem? (i := 84) rfl), lw_t1 (List.mem_of_getElem? (i := 85) rfl)⟩
theorem lw_p3 : lw_okq (⟨"CapabilityServer", "serve", "(IIII)I"⟩, 17) := ⟨⟨by decide +kernel, by decide +kernel⟩, lw_t1 (List.mem_of_getElem? (i := 4) rfl), lw_t1 (List.mem_of_getElem? (i := 88) rfl), lw_t1 (List.mem_of_getElem? (i := 89) rfl)⟩
theorem lw_p4 : lw_okq (⟨"CapabilityServer", "serveCreate", "(I)I"⟩, 17) := ⟨⟨by decide +kernel, by decide +kernel⟩, lw_t1 (List.mem_of_getElem? (i := 4) rfl), lw_t1 (List.mem_of_getElem? (i := 92) rfl), lw_t1 (List.mem_of_getElem? (i := 93) rfl)⟩
theorem lw_p5 : lw_okq (⟨"CapabilityServer", "newSecret", "()I"⟩, 17) := ⟨⟨by decide +kernel, by decide +kernel⟩, lw_t1 (List.mem_of_getElem? (i := 4) rfl), lw_t1 (List.mem_of_getElem? (i := 96) rfl), lw_t1 (List.mem_of_getElem? (i := 97) rfl)⟩
theorem lw_p6 : lw_okq (⟨"CapabilityServer", "give", "(III)V"⟩, 17) := ⟨⟨by decide +kernel, by decide +kernel⟩, lw_t1 (List.mem_of_getElem? (i := 4) rfl), lw_t1 (List.mem_of_getElem? (i := 101) rfl), lw_t1 (List.mem_of_getElem? (i := 102) rfl)⟩
theorem lw_p7 : lw_okq (⟨"CapabilityServer", "valid", "(I)Z"⟩, 17) := ⟨⟨by decide +kernel, by decide +kernel⟩, lw_t1 (List.mem_of_getElem? (i := 4) rfl), lw_t1 (List.mem_of_getElem? (i := 111) rfl), lw_t1 (List.mem_of_getElem? (i := 112) rfl)⟩
theorem lw_p8 : lw_okq (⟨"CapabilityServerModel", "refusal", "(II)I"⟩, 11) := ⟨⟨by decide +kernel, by decide +kernel⟩, lw_t1 (List.mem_of_getElem? (i := 173) rfl), lw_t1 (List.mem_of_getElem? (i := 217) rfl), lw_t1 (List.mem_of_getElem? (i := 218) rfl)⟩
theorem lw_p9 : lw_okq (⟨"CapabilityServerModel", "give", "(III)V"⟩, 11) := ⟨⟨by decide +kernel, by decide +kernel⟩, lw_t1 (List.mem_of_getElem? (i := 173) rfl), lw_t1 (List.mem_of_getElem? (i := 221) rfl), lw_t1 (List.mem_of_getElem? (i := 222) rfl)⟩
theorem lw_p10 : lw_okq (⟨"CapabilityServerModel", "answered", "(II)I"⟩, 11) := ⟨⟨by decide +kernel, by decide +kernel⟩, lw_t1 (List.mem_of_getElem? (i := 173) rfl), lw_t1 (List.mem_of_getElem? (i := 225) rfl), lw_t1 (List.mem_of_getElem? (i := 226) rfl)⟩
theorem lw_p11 : lw_okq (⟨"CapabilityServerModel", "allows", "(III)Z"⟩, 11) := ⟨⟨by decide +kernel, by decide +kernel⟩, lw_t1 (List.mem_of_getElem? (i := 173) rfl), lw_t1 (List.mem_of_getElem? (i := 233) rfl), lw_t1 (List.mem_of_getElem? (i := 234) rfl)⟩
def lw_privs_1 : List (MethodName × Nat) := [(⟨"CapabilityServer", "slotRequest", "(IIII)I"⟩, 17), (⟨"CapabilityServer", "request", "(IIIII)I"⟩, 17), (⟨"CapabilityServer", "receive", "(I)I"⟩, 17), (⟨"CapabilityServer", "serve", "(IIII)I"⟩, 17), (⟨"CapabilityServer", "serveCreate", "(I)I"⟩, 17), (⟨"CapabilityServer", "newSecret", "()I"⟩, 17), (⟨"CapabilityServer", "give", "(III)V"⟩, 17), (⟨"CapabilityServer", "valid", "(I)Z"⟩, 17), (⟨"CapabilityServerModel", "refusal", "(II)I"⟩, 11), (⟨"CapabilityServerModel", "give", "(III)V"⟩, 11), (⟨"CapabilityServerModel", "answered", "(II)I"⟩, 11), (⟨"CapabilityServerModel", "allows", "(III)Z"⟩, 11)]
theorem lw_r1 : ∀ q ∈ lw_privs_1, lw_okq q := List.forall_mem_cons.mpr ⟨lw_p0, List.forall_mem_cons.mpr ⟨lw_p1, List.forall_mem_cons.mpr ⟨lw_p2, List.forall_mem_cons.mpr ⟨lw_p3, List.forall_mem_cons.mpr ⟨lw_p4, List.forall_mem_cons.mpr ⟨lw_p5, List.forall_mem_cons.mpr ⟨lw_p6, List.forall_mem_cons.mpr ⟨lw_p7, List.forall_mem_cons.mpr ⟨lw_p8, List.forall_mem_cons.mpr ⟨lw_p9, List.forall_mem_cons.mpr ⟨lw_p10, List.forall_mem_cons.mpr ⟨lw_p11, fun _ h => absurd h List.not_mem_nil⟩⟩⟩⟩⟩⟩⟩⟩⟩⟩⟩⟩
def lw_privs : List (MethodName × Nat) := lw_privs_1
def lw_tbl : List Cond := k2_sels lw_privs ++ tables_1
theorem lw_privs_ok : ∀ q ∈ lw_privs, lw_okq q := lw_r1
-- ===== ONE list of words for every method: the tables' words that hold all through a run =====
def lw_all : List Cond := lw_tbl.filter goodWord
/-- a word of the tables by its place: claim/WORDS.tsv -/
theorem lw_w {w : Cond} (i : Nat) (h : lw_tbl[i]? = some w) (g : goodWord w = true) : w ∈ lw_all := List.mem_filter.mpr ⟨List.mem_of_getElem? h, g⟩
theorem lw_all_tbl {w : Cond} (h : w ∈ lw_all) : w ∈ lw_tbl := (List.mem_filter.mp h).1
theorem lw_self : GoodIn lw_all lw_all := fun w h => ⟨h, good_of_word (List.mem_filter.mp h).2⟩
/-- a class's field words, by their places -/
theorem lw_in (ws : List Cond) (ps : List Nat) (hp : ws = ps.filterMap (fun i => lw_tbl[i]?)) (hg : ws.all goodWord = true) : ∀ w ∈ ws, w ∈ lw_all := by
  intro w h
  have h1 := List.all_eq_true.mp hg w h
  rw [hp] at h
  obtain ⟨i, -, hi⟩ := List.mem_filterMap.mp h
  exact lw_w i hi h1
/-- the words of a contract for the method y with code b, L locals, answer r -/
abbrev ws_ (y : MethodName) (b : ByteArray) (L : Nat) (r : Option FieldType) : List Cond := Cond.code y b L r :: lw_all
theorem lw_meth {y : MethodName} {b : ByteArray} {L : Nat} {r : Option FieldType} (h : Cond.code y b L r ∈ lw_all) : GoodIn lw_all (ws_ y b L r) := by
  intro w hw
  rcases List.mem_cons.mp hw with e | e
  · rw [e]
    exact lw_self _ h
  · exact lw_self _ e
theorem lw_app {a c : List Cond} (ha : ∀ w ∈ a, w ∈ lw_all) (hc : GoodIn lw_all c) : GoodIn lw_all (a ++ c) := by
  intro w hw
  rcases List.mem_append.mp hw with e | e
  · exact lw_self w (ha w e)
  · exact hc w e
/-- what a call through an object asks: cwV n hts (lw_V ..) -/
theorem lw_V {own : String} {idx : Nat} {C : String} {y : MethodName} {b : ByteArray} {L : Nat} {r : Option FieldType} (h1 : Cond.methodLink own idx y ∈ lw_all) (h2 : Cond.instanceMethod y ∈ lw_all) (h3 : Cond.selects C y y ∈ lw_all) (h4 : Cond.initialized C ∈ lw_all) (h5 : Cond.code y b L r ∈ lw_all) : GoodIn lw_all (wsV own idx C y (ws_ y b L r)) := by
  refine lw_app ?_ (lw_meth h5)
  intro w hw
  simp only [List.mem_cons, List.not_mem_nil, or_false] at hw
  rcases hw with e | e | e | e
  · rw [e]; exact h1
  · rw [e]; exact h2
  · rw [e]; exact h3
  · rw [e]; exact h4
/-- what a static call asks: va_cwS n hts (lw_S ..) -/
theorem lw_S {own : String} {idx : Nat} {y : MethodName} {b : ByteArray} {L : Nat} {r : Option FieldType} (h1 : Cond.methodLink own idx y ∈ lw_all) (h2 : Cond.static y ∈ lw_all) (h3 : Cond.initialized y.cls ∈ lw_all) (h4 : Cond.code y b L r ∈ lw_all) : GoodIn lw_all (va_wsS own idx y (ws_ y b L r)) := by
  refine lw_app ?_ (lw_meth h4)
  intro w hw
  simp only [List.mem_cons, List.not_mem_nil, or_false] at hw
  rcases hw with e | e | e
  · rw [e]; exact h1
  · rw [e]; exact h2
  · rw [e]; exact h3
/-- the words of a contract for a method WITH HANDLERS (hh: its table) -/
abbrev wsW_ (y : MethodName) (b : ByteArray) (L : Nat) (r : Option FieldType) (hh : List (Nat × Nat × Nat × Nat)) : List Cond := Cond.codeWith y b L r hh :: lw_all
theorem lw_methW {y : MethodName} {b : ByteArray} {L : Nat} {r : Option FieldType} {hh : List (Nat × Nat × Nat × Nat)} (h : Cond.codeWith y b L r hh ∈ lw_all) : GoodIn lw_all (wsW_ y b L r hh) := by
  intro w hw
  rcases List.mem_cons.mp hw with e | e
  · rw [e]
    exact lw_self _ h
  · exact lw_self _ e
/-- any list of words by their places (lw_in), good -/
theorem lw_good {ws : List Cond} (h : ∀ w ∈ ws, w ∈ lw_all) : GoodIn lw_all ws := fun w hw => lw_self w (h w hw)
/-- what a call of a method with handlers asks: vx_cwVW n hts (lw_VW ..), vx_cwSW n hts (lw_SW ..) -/
theorem lw_VW {own : String} {idx : Nat} {C : String} {y : MethodName} {b : ByteArray} {L : Nat} {r : Option FieldType} {hh : List (Nat × Nat × Nat × Nat)} (h1 : Cond.methodLink own idx y ∈ lw_all) (h2 : Cond.instanceMethod y ∈ lw_all) (h3 : Cond.selects C y y ∈ lw_all) (h4 : Cond.initialized C ∈ lw_all) (h5 : Cond.codeWith y b L r hh ∈ lw_all) : GoodIn lw_all (wsV own idx C y (wsW_ y b L r hh)) := by
  refine lw_app ?_ (lw_methW h5)
  intro w hw
  simp only [List.mem_cons, List.not_mem_nil, or_false] at hw
  rcases hw with e | e | e | e
  · rw [e]; exact h1
  · rw [e]; exact h2
  · rw [e]; exact h3
  · rw [e]; exact h4
theorem lw_SW {own : String} {idx : Nat} {y : MethodName} {b : ByteArray} {L : Nat} {r : Option FieldType} {hh : List (Nat × Nat × Nat × Nat)} (h1 : Cond.methodLink own idx y ∈ lw_all) (h2 : Cond.static y ∈ lw_all) (h3 : Cond.initialized y.cls ∈ lw_all) (h4 : Cond.codeWith y b L r hh ∈ lw_all) : GoodIn lw_all (va_wsS own idx y (wsW_ y b L r hh)) := by
  refine lw_app ?_ (lw_methW h4)
  intro w hw
  simp only [List.mem_cons, List.not_mem_nil, or_false] at hw
  rcases hw with e | e | e
  · rw [e]; exact h1
  · rw [e]; exact h2
  · rw [e]; exact h3
/-- a word by its place in its run of the tables -/
theorem lw_at {r : List Cond} (hr : ∀ w ∈ r, w ∈ lw_tbl) {w : Cond} (i : Nat) (h : r[i]? = some w) : w ∈ lw_tbl := hr w (List.mem_of_getElem? h)
theorem lw_g {w : Cond} (h : w ∈ lw_tbl) (g : goodWord w = true) : w ∈ lw_all := List.mem_filter.mpr ⟨h, g⟩
theorem lw_ms : ∀ w ∈ k2_sels lw_privs, w ∈ lw_tbl := fun w h => show w ∈ k2_sels lw_privs ++ tables_1 from List.mem_append_left _ h
theorem lw_m1 : ∀ w ∈ tables_1_1, w ∈ lw_tbl := fun w h => show w ∈ k2_sels lw_privs ++ tables_1 from List.mem_append_right (k2_sels lw_privs) (show w ∈ tables_1 from List.mem_append_left _ h)
theorem lw_m2 : ∀ w ∈ tables_1_2, w ∈ lw_tbl := fun w h => show w ∈ k2_sels lw_privs ++ tables_1 from List.mem_append_right (k2_sels lw_privs) (show w ∈ tables_1 from List.mem_append_right _ h)
theorem qs0 : (Cond.selects "CapabilityServer" ⟨"CapabilityServer", "slotRequest", "(IIII)I"⟩ ⟨"CapabilityServer", "slotRequest", "(IIII)I"⟩) ∈ lw_all := lw_g (lw_at lw_ms 0 rfl) rfl
theorem qs1 : (Cond.selects "CapabilityServer" ⟨"CapabilityServer", "request", "(IIIII)I"⟩ ⟨"CapabilityServer", "request", "(IIIII)I"⟩) ∈ lw_all := lw_g (lw_at lw_ms 1 rfl) rfl
theorem qs2 : (Cond.selects "CapabilityServer" ⟨"CapabilityServer", "receive", "(I)I"⟩ ⟨"CapabilityServer", "receive", "(I)I"⟩) ∈ lw_all := lw_g (lw_at lw_ms 2 rfl) rfl
theorem qs3 : (Cond.selects "CapabilityServer" ⟨"CapabilityServer", "serve", "(IIII)I"⟩ ⟨"CapabilityServer", "serve", "(IIII)I"⟩) ∈ lw_all := lw_g (lw_at lw_ms 3 rfl) rfl
theorem qs4 : (Cond.selects "CapabilityServer" ⟨"CapabilityServer", "serveCreate", "(I)I"⟩ ⟨"CapabilityServer", "serveCreate", "(I)I"⟩) ∈ lw_all := lw_g (lw_at lw_ms 4 rfl) rfl
theorem qs5 : (Cond.selects "CapabilityServer" ⟨"CapabilityServer", "newSecret", "()I"⟩ ⟨"CapabilityServer", "newSecret", "()I"⟩) ∈ lw_all := lw_g (lw_at lw_ms 5 rfl) rfl
theorem qs6 : (Cond.selects "CapabilityServer" ⟨"CapabilityServer", "give", "(III)V"⟩ ⟨"CapabilityServer", "give", "(III)V"⟩) ∈ lw_all := lw_g (lw_at lw_ms 6 rfl) rfl
theorem qs7 : (Cond.selects "CapabilityServer" ⟨"CapabilityServer", "valid", "(I)Z"⟩ ⟨"CapabilityServer", "valid", "(I)Z"⟩) ∈ lw_all := lw_g (lw_at lw_ms 7 rfl) rfl
theorem qs8 : (Cond.selects "CapabilityServerModel" ⟨"CapabilityServerModel", "refusal", "(II)I"⟩ ⟨"CapabilityServerModel", "refusal", "(II)I"⟩) ∈ lw_all := lw_g (lw_at lw_ms 8 rfl) rfl
theorem qs9 : (Cond.selects "CapabilityServerModel" ⟨"CapabilityServerModel", "give", "(III)V"⟩ ⟨"CapabilityServerModel", "give", "(III)V"⟩) ∈ lw_all := lw_g (lw_at lw_ms 9 rfl) rfl
theorem qs10 : (Cond.selects "CapabilityServerModel" ⟨"CapabilityServerModel", "answered", "(II)I"⟩ ⟨"CapabilityServerModel", "answered", "(II)I"⟩) ∈ lw_all := lw_g (lw_at lw_ms 10 rfl) rfl
theorem qs11 : (Cond.selects "CapabilityServerModel" ⟨"CapabilityServerModel", "allows", "(III)Z"⟩ ⟨"CapabilityServerModel", "allows", "(III)Z"⟩) ∈ lw_all := lw_g (lw_at lw_ms 11 rfl) rfl
end
section
/-! CapabilityServer -/
set_option maxRecDepth 100000
def RX1 : String := "CapabilityServer"
def TX1 : u_T := fun k => match k with
  | 0 => ("CapabilityServer", "living", "[Z", true)
  | 1 => ("CapabilityServer", "value", "[I", true)
  | 2 => ("CapabilityServer", "secret", "[I", true)
  | 3 => ("CapabilityServer", "secretsMade", "I", false)
  | 4 => ("CapabilityServer", "secretSource", "I", true)
  | 5 => ("CapabilityServer", "lastNumber", "[I", true)
  | 6 => ("CapabilityServer", "hasAnswer", "[Z", true)
  | 7 => ("CapabilityServer", "lastAnswer", "[I", true)
  | 8 => ("CapabilityServer", "filled", "[Z", true)
  | 9 => ("CapabilityServer", "objectOf", "[I", true)
  | 10 => ("CapabilityServer", "rightsOf", "[I", true)
  | 11 => ("CapabilityServer", "checkOf", "[I", true)
  | 12 => ("CapabilityServer", "sentNumber", "[I", true)
  | 13 => ("CapabilityServer", "sentOp", "[I", true)
  | 14 => ("CapabilityServer", "sentSlot", "[I", true)
  | 15 => ("CapabilityServer", "sentTo", "[I", true)
  | _ => ("CapabilityServer", "sentArgument", "[I", true)
def tyX1 : Nat → FieldType := fun k => match k with
  | 0 => .array .boolean
  | 1 => .array .int
  | 2 => .array .int
  | 3 => .int
  | 4 => .int
  | 5 => .array .int
  | 6 => .array .boolean
  | 7 => .array .int
  | 8 => .array .boolean
  | 9 => .array .int
  | 10 => .array .int
  | 11 => .array .int
  | 12 => .array .int
  | 13 => .array .int
  | 14 => .array .int
  | 15 => .array .int
  | _ => .array .int
abbrev wsX10 : List Cond := u_ws RX1 TX1 17
set_option maxRecDepth 100000 in
theorem nmX1 : ∀ a, a < 17 → ∀ b, b < 17 → a ≠ b → (TX1 a).2.1 ≠ (TX1 b).2.1 := by decide +kernel
set_option maxRecDepth 100000 in
theorem tyX1_ok : ∀ k, k < 17 → parseFieldDescriptor (TX1 k).2.2.1 = some (tyX1 k) := by decide +kernel
abbrev cX1_init : ByteArray := prog_1_method_1_code
def yX1_init : MethodName := ⟨RX1, "<init>", "(I)V"⟩
theorem dX1_init_0 : decode cX1_init 0 = .ok (.aload_n 0, 1) := by decide +kernel
theorem dX1_init_1 : decode cX1_init 1 = .ok (.invokespecial 1, 3) := by decide +kernel
theorem dX1_init_4 : decode cX1_init 4 = .ok (.aload_n 0, 1) := by decide +kernel
theorem dX1_init_5 : decode cX1_init 5 = .ok (.bipush 8, 2) := by decide +kernel
theorem dX1_init_7 : decode cX1_init 7 = .ok (.newarray .boolean, 2) := by decide +kernel
theorem dX1_init_9 : decode cX1_init 9 = .ok (.putfield 7, 3) := by decide +kernel
theorem dX1_init_12 : decode cX1_init 12 = .ok (.aload_n 0, 1) := by decide +kernel
theorem dX1_init_13 : decode cX1_init 13 = .ok (.bipush 8, 2) := by decide +kernel
theorem dX1_init_15 : decode cX1_init 15 = .ok (.newarray .int, 2) := by decide +kernel
theorem dX1_init_17 : decode cX1_init 17 = .ok (.putfield 13, 3) := by decide +kernel
theorem dX1_init_20 : decode cX1_init 20 = .ok (.aload_n 0, 1) := by decide +kernel
theorem dX1_init_21 : decode cX1_init 21 = .ok (.bipush 8, 2) := by decide +kernel
theorem dX1_init_23 : decode cX1_init 23 = .ok (.newarray .int, 2) := by decide +kernel
theorem dX1_init_25 : decode cX1_init 25 = .ok (.putfield 17, 3) := by decide +kernel
theorem dX1_init_28 : decode cX1_init 28 = .ok (.aload_n 0, 1) := by decide +kernel
theorem dX1_init_29 : decode cX1_init 29 = .ok (.iconst 2, 1) := by decide +kernel
theorem dX1_init_30 : decode cX1_init 30 = .ok (.newarray .int, 2) := by decide +kernel
theorem dX1_init_32 : decode cX1_init 32 = .ok (.putfield 20, 3) := by decide +kernel
theorem dX1_init_35 : decode cX1_init 35 = .ok (.aload_n 0, 1) := by decide +kernel
theorem dX1_init_36 : decode cX1_init 36 = .ok (.iconst 2, 1) := by decide +kernel
theorem dX1_init_37 : decode cX1_init 37 = .ok (.newarray .boolean, 2) := by decide +kernel
theorem dX1_init_39 : decode cX1_init 39 = .ok (.putfield 23, 3) := by decide +kernel
theorem dX1_init_42 : decode cX1_init 42 = .ok (.aload_n 0, 1) := by decide +kernel
theorem dX1_init_43 : decode cX1_init 43 = .ok (.iconst 2, 1) := by decide +kernel
theorem dX1_init_44 : decode cX1_init 44 = .ok (.newarray .int, 2) := by decide +kernel
theorem dX1_init_46 : decode cX1_init 46 = .ok (.putfield 26, 3) := by decide +kernel
theorem dX1_init_49 : decode cX1_init 49 = .ok (.aload_n 0, 1) := by decide +kernel
theorem dX1_init_50 : decode cX1_init 50 = .ok (.bipush 16, 2) := by decide +kernel
theorem dX1_init_52 : decode cX1_init 52 = .ok (.newarray .boolean, 2) := by decide +kernel
theorem dX1_init_54 : decode cX1_init 54 = .ok (.putfield 29, 3) := by decide +kernel
theorem dX1_init_57 : decode cX1_init 57 = .ok (.aload_n 0, 1) := by decide +kernel
theorem dX1_init_58 : decode cX1_init 58 = .ok (.bipush 16, 2) := by decide +kernel
theorem dX1_init_60 : decode cX1_init 60 = .ok (.newarray .int, 2) := by decide +kernel
theorem dX1_init_62 : decode cX1_init 62 = .ok (.putfield 32, 3) := by decide +kernel
theorem dX1_init_65 : decode cX1_init 65 = .ok (.aload_n 0, 1) := by decide +kernel
theorem dX1_init_66 : decode cX1_init 66 = .ok (.bipush 16, 2) := by decide +kernel
theorem dX1_init_68 : decode cX1_init 68 = .ok (.newarray .int, 2) := by decide +kernel
theorem dX1_init_70 : decode cX1_init 70 = .ok (.putfield 35, 3) := by decide +kernel
theorem dX1_init_73 : decode cX1_init 73 = .ok (.aload_n 0, 1) := by decide +kernel
theorem dX1_init_74 : decode cX1_init 74 = .ok (.bipush 16, 2) := by decide +kernel
theorem dX1_init_76 : decode cX1_init 76 = .ok (.newarray .int, 2) := by decide +kernel
theorem dX1_init_78 : decode cX1_init 78 = .ok (.putfield 38, 3) := by decide +kernel
theorem dX1_init_81 : decode cX1_init 81 = .ok (.aload_n 0, 1) := by decide +kernel
theorem dX1_init_82 : decode cX1_init 82 = .ok (.iconst 2, 1) := by decide +kernel
theorem dX1_init_83 : decode cX1_init 83 = .ok (.newarray .int, 2) := by decide +kernel
theorem dX1_init_85 : decode cX1_init 85 = .ok (.putfield 41, 3) := by decide +kernel
theorem dX1_init_88 : decode cX1_init 88 = .ok (.aload_n 0, 1) := by decide +kernel
theorem dX1_init_89 : decode cX1_init 89 = .ok (.iconst 2, 1) := by decide +kernel
theorem dX1_init_90 : decode cX1_init 90 = .ok (.newarray .int, 2) := by decide +kernel
theorem dX1_init_92 : decode cX1_init 92 = .ok (.putfield 44, 3) := by decide +kernel
theorem dX1_init_95 : decode cX1_init 95 = .ok (.aload_n 0, 1) := by decide +kernel
theorem dX1_init_96 : decode cX1_init 96 = .ok (.iconst 2, 1) := by decide +kernel
theorem dX1_init_97 : decode cX1_init 97 = .ok (.newarray .int, 2) := by decide +kernel
theorem dX1_init_99 : decode cX1_init 99 = .ok (.putfield 47, 3) := by decide +kernel
theorem dX1_init_102 : decode cX1_init 102 = .ok (.aload_n 0, 1) := by decide +kernel
theorem dX1_init_103 : decode cX1_init 103 = .ok (.iconst 2, 1) := by decide +kernel
theorem dX1_init_104 : decode cX1_init 104 = .ok (.newarray .int, 2) := by decide +kernel
theorem dX1_init_106 : decode cX1_init 106 = .ok (.putfield 50, 3) := by decide +kernel
theorem dX1_init_109 : decode cX1_init 109 = .ok (.aload_n 0, 1) := by decide +kernel
theorem dX1_init_110 : decode cX1_init 110 = .ok (.iconst 2, 1) := by decide +kernel
theorem dX1_init_111 : decode cX1_init 111 = .ok (.newarray .int, 2) := by decide +kernel
theorem dX1_init_113 : decode cX1_init 113 = .ok (.putfield 53, 3) := by decide +kernel
theorem dX1_init_116 : decode cX1_init 116 = .ok (.aload_n 0, 1) := by decide +kernel
theorem dX1_init_117 : decode cX1_init 117 = .ok (.iload_n 1, 1) := by decide +kernel
theorem dX1_init_118 : decode cX1_init 118 = .ok (.putfield 56, 3) := by decide +kernel
theorem dX1_init_121 : decode cX1_init 121 = .ok (.return_, 1) := by decide +kernel
abbrev cX1_create : ByteArray := prog_1_method_14_code
def yX1_create : MethodName := ⟨RX1, "create", "(II)I"⟩
theorem dX1_create_0 : decode cX1_create 0 = .ok (.aload_n 0, 1) := by decide +kernel
theorem dX1_create_1 : decode cX1_create 1 = .ok (.iload_n 1, 1) := by decide +kernel
theorem dX1_create_2 : decode cX1_create 2 = .ok (.iload_n 2, 1) := by decide +kernel
theorem dX1_create_3 : decode cX1_create 3 = .ok (.iconst 0, 1) := by decide +kernel
theorem dX1_create_4 : decode cX1_create 4 = .ok (.iconst 0, 1) := by decide +kernel
theorem dX1_create_5 : decode cX1_create 5 = .ok (.invokevirtual 106, 3) := by decide +kernel
theorem dX1_create_8 : decode cX1_create 8 = .ok (.ireturn, 1) := by decide +kernel
abbrev cX1_slotRequest : ByteArray := prog_1_method_13_code
def yX1_slotRequest : MethodName := ⟨RX1, "slotRequest", "(IIII)I"⟩
theorem dX1_slotRequest_0 : decode cX1_slotRequest 0 = .ok (.iload_n 1, 1) := by decide +kernel
theorem dX1_slotRequest_1 : decode cX1_slotRequest 1 = .ok (.invokestatic 96, 3) := by decide +kernel
theorem dX1_slotRequest_4 : decode cX1_slotRequest 4 = .ok (.ifCond .eq 5, 3) := by decide +kernel
theorem dX1_slotRequest_7 : decode cX1_slotRequest 7 = .ok (.iconst (-1), 1) := by decide +kernel
theorem dX1_slotRequest_8 : decode cX1_slotRequest 8 = .ok (.ireturn, 1) := by decide +kernel
theorem dX1_slotRequest_9 : decode cX1_slotRequest 9 = .ok (.iload_n 2, 1) := by decide +kernel
theorem dX1_slotRequest_10 : decode cX1_slotRequest 10 = .ok (.invokestatic 99, 3) := by decide +kernel
theorem dX1_slotRequest_13 : decode cX1_slotRequest 13 = .ok (.ifCond .eq 6, 3) := by decide +kernel
theorem dX1_slotRequest_16 : decode cX1_slotRequest 16 = .ok (.bipush (-2), 2) := by decide +kernel
theorem dX1_slotRequest_18 : decode cX1_slotRequest 18 = .ok (.ireturn, 1) := by decide +kernel
theorem dX1_slotRequest_19 : decode cX1_slotRequest 19 = .ok (.aload_n 0, 1) := by decide +kernel
theorem dX1_slotRequest_20 : decode cX1_slotRequest 20 = .ok (.iload_n 1, 1) := by decide +kernel
theorem dX1_slotRequest_21 : decode cX1_slotRequest 21 = .ok (.iload_n 3, 1) := by decide +kernel
theorem dX1_slotRequest_22 : decode cX1_slotRequest 22 = .ok (.iload_n 2, 1) := by decide +kernel
theorem dX1_slotRequest_23 : decode cX1_slotRequest 23 = .ok (.iload_n 2, 1) := by decide +kernel
theorem dX1_slotRequest_24 : decode cX1_slotRequest 24 = .ok (.iload 4, 2) := by decide +kernel
theorem dX1_slotRequest_26 : decode cX1_slotRequest 26 = .ok (.invokevirtual 102, 3) := by decide +kernel
theorem dX1_slotRequest_29 : decode cX1_slotRequest 29 = .ok (.ireturn, 1) := by decide +kernel
abbrev cX1_badUser : ByteArray := prog_1_method_2_code
def yX1_badUser : MethodName := ⟨RX1, "badUser", "(I)Z"⟩
theorem dX1_badUser_0 : decode cX1_badUser 0 = .ok (.iload_n 0, 1) := by decide +kernel
theorem dX1_badUser_1 : decode cX1_badUser 1 = .ok (.ifCond .lt 8, 3) := by decide +kernel
theorem dX1_badUser_4 : decode cX1_badUser 4 = .ok (.iload_n 0, 1) := by decide +kernel
theorem dX1_badUser_5 : decode cX1_badUser 5 = .ok (.iconst 1, 1) := by decide +kernel
theorem dX1_badUser_6 : decode cX1_badUser 6 = .ok (.if_icmp .le 7, 3) := by decide +kernel
theorem dX1_badUser_9 : decode cX1_badUser 9 = .ok (.iconst 1, 1) := by decide +kernel
theorem dX1_badUser_10 : decode cX1_badUser 10 = .ok (.goto 4, 3) := by decide +kernel
theorem dX1_badUser_13 : decode cX1_badUser 13 = .ok (.iconst 0, 1) := by decide +kernel
theorem dX1_badUser_14 : decode cX1_badUser 14 = .ok (.ireturn, 1) := by decide +kernel
abbrev cX1_badSlot : ByteArray := prog_1_method_3_code
def yX1_badSlot : MethodName := ⟨RX1, "badSlot", "(I)Z"⟩
theorem dX1_badSlot_0 : decode cX1_badSlot 0 = .ok (.iload_n 0, 1) := by decide +kernel
theorem dX1_badSlot_1 : decode cX1_badSlot 1 = .ok (.ifCond .lt 9, 3) := by decide +kernel
theorem dX1_badSlot_4 : decode cX1_badSlot 4 = .ok (.iload_n 0, 1) := by decide +kernel
theorem dX1_badSlot_5 : decode cX1_badSlot 5 = .ok (.bipush 7, 2) := by decide +kernel
theorem dX1_badSlot_7 : decode cX1_badSlot 7 = .ok (.if_icmp .le 7, 3) := by decide +kernel
theorem dX1_badSlot_10 : decode cX1_badSlot 10 = .ok (.iconst 1, 1) := by decide +kernel
theorem dX1_badSlot_11 : decode cX1_badSlot 11 = .ok (.goto 4, 3) := by decide +kernel
theorem dX1_badSlot_14 : decode cX1_badSlot 14 = .ok (.iconst 0, 1) := by decide +kernel
theorem dX1_badSlot_15 : decode cX1_badSlot 15 = .ok (.ireturn, 1) := by decide +kernel
abbrev cX1_request : ByteArray := prog_1_method_8_code
def yX1_request : MethodName := ⟨RX1, "request", "(IIIII)I"⟩
theorem dX1_request_0 : decode cX1_request 0 = .ok (.aload_n 0, 1) := by decide +kernel
theorem dX1_request_1 : decode cX1_request 1 = .ok (.getfield 41, 3) := by decide +kernel
theorem dX1_request_4 : decode cX1_request 4 = .ok (.iload_n 1, 1) := by decide +kernel
theorem dX1_request_5 : decode cX1_request 5 = .ok (.dup2, 1) := by decide +kernel
theorem dX1_request_6 : decode cX1_request 6 = .ok (.iaload, 1) := by decide +kernel
theorem dX1_request_7 : decode cX1_request 7 = .ok (.iconst 1, 1) := by decide +kernel
theorem dX1_request_8 : decode cX1_request 8 = .ok (.iadd, 1) := by decide +kernel
theorem dX1_request_9 : decode cX1_request 9 = .ok (.iastore, 1) := by decide +kernel
theorem dX1_request_10 : decode cX1_request 10 = .ok (.aload_n 0, 1) := by decide +kernel
theorem dX1_request_11 : decode cX1_request 11 = .ok (.getfield 44, 3) := by decide +kernel
theorem dX1_request_14 : decode cX1_request 14 = .ok (.iload_n 1, 1) := by decide +kernel
theorem dX1_request_15 : decode cX1_request 15 = .ok (.iload_n 2, 1) := by decide +kernel
theorem dX1_request_16 : decode cX1_request 16 = .ok (.iastore, 1) := by decide +kernel
theorem dX1_request_17 : decode cX1_request 17 = .ok (.aload_n 0, 1) := by decide +kernel
theorem dX1_request_18 : decode cX1_request 18 = .ok (.getfield 47, 3) := by decide +kernel
theorem dX1_request_21 : decode cX1_request 21 = .ok (.iload_n 1, 1) := by decide +kernel
theorem dX1_request_22 : decode cX1_request 22 = .ok (.iload_n 1, 1) := by decide +kernel
theorem dX1_request_23 : decode cX1_request 23 = .ok (.bipush 8, 2) := by decide +kernel
theorem dX1_request_25 : decode cX1_request 25 = .ok (.imul, 1) := by decide +kernel
theorem dX1_request_26 : decode cX1_request 26 = .ok (.iload_n 3, 1) := by decide +kernel
theorem dX1_request_27 : decode cX1_request 27 = .ok (.iadd, 1) := by decide +kernel
theorem dX1_request_28 : decode cX1_request 28 = .ok (.iastore, 1) := by decide +kernel
theorem dX1_request_29 : decode cX1_request 29 = .ok (.aload_n 0, 1) := by decide +kernel
theorem dX1_request_30 : decode cX1_request 30 = .ok (.getfield 50, 3) := by decide +kernel
theorem dX1_request_33 : decode cX1_request 33 = .ok (.iload_n 1, 1) := by decide +kernel
theorem dX1_request_34 : decode cX1_request 34 = .ok (.iload_n 1, 1) := by decide +kernel
theorem dX1_request_35 : decode cX1_request 35 = .ok (.bipush 8, 2) := by decide +kernel
theorem dX1_request_37 : decode cX1_request 37 = .ok (.imul, 1) := by decide +kernel
theorem dX1_request_38 : decode cX1_request 38 = .ok (.iload 4, 2) := by decide +kernel
theorem dX1_request_40 : decode cX1_request 40 = .ok (.iadd, 1) := by decide +kernel
theorem dX1_request_41 : decode cX1_request 41 = .ok (.iastore, 1) := by decide +kernel
theorem dX1_request_42 : decode cX1_request 42 = .ok (.aload_n 0, 1) := by decide +kernel
theorem dX1_request_43 : decode cX1_request 43 = .ok (.getfield 53, 3) := by decide +kernel
theorem dX1_request_46 : decode cX1_request 46 = .ok (.iload_n 1, 1) := by decide +kernel
theorem dX1_request_47 : decode cX1_request 47 = .ok (.iload 5, 2) := by decide +kernel
theorem dX1_request_49 : decode cX1_request 49 = .ok (.iastore, 1) := by decide +kernel
theorem dX1_request_50 : decode cX1_request 50 = .ok (.aload_n 0, 1) := by decide +kernel
theorem dX1_request_51 : decode cX1_request 51 = .ok (.iload_n 1, 1) := by decide +kernel
theorem dX1_request_52 : decode cX1_request 52 = .ok (.invokevirtual 71, 3) := by decide +kernel
theorem dX1_request_55 : decode cX1_request 55 = .ok (.ireturn, 1) := by decide +kernel
abbrev cX1_receive : ByteArray := prog_1_method_9_code
def yX1_receive : MethodName := ⟨RX1, "receive", "(I)I"⟩
theorem dX1_receive_0 : decode cX1_receive 0 = .ok (.aload_n 0, 1) := by decide +kernel
theorem dX1_receive_1 : decode cX1_receive 1 = .ok (.getfield 41, 3) := by decide +kernel
theorem dX1_receive_4 : decode cX1_receive 4 = .ok (.iload_n 1, 1) := by decide +kernel
theorem dX1_receive_5 : decode cX1_receive 5 = .ok (.iaload, 1) := by decide +kernel
theorem dX1_receive_6 : decode cX1_receive 6 = .ok (.aload_n 0, 1) := by decide +kernel
theorem dX1_receive_7 : decode cX1_receive 7 = .ok (.getfield 20, 3) := by decide +kernel
theorem dX1_receive_10 : decode cX1_receive 10 = .ok (.iload_n 1, 1) := by decide +kernel
theorem dX1_receive_11 : decode cX1_receive 11 = .ok (.iaload, 1) := by decide +kernel
theorem dX1_receive_12 : decode cX1_receive 12 = .ok (.if_icmp .gt 24, 3) := by decide +kernel
theorem dX1_receive_15 : decode cX1_receive 15 = .ok (.aload_n 0, 1) := by decide +kernel
theorem dX1_receive_16 : decode cX1_receive 16 = .ok (.getfield 23, 3) := by decide +kernel
theorem dX1_receive_19 : decode cX1_receive 19 = .ok (.iload_n 1, 1) := by decide +kernel
theorem dX1_receive_20 : decode cX1_receive 20 = .ok (.baload, 1) := by decide +kernel
theorem dX1_receive_21 : decode cX1_receive 21 = .ok (.ifCond .eq 12, 3) := by decide +kernel
theorem dX1_receive_24 : decode cX1_receive 24 = .ok (.aload_n 0, 1) := by decide +kernel
theorem dX1_receive_25 : decode cX1_receive 25 = .ok (.getfield 26, 3) := by decide +kernel
theorem dX1_receive_28 : decode cX1_receive 28 = .ok (.iload_n 1, 1) := by decide +kernel
theorem dX1_receive_29 : decode cX1_receive 29 = .ok (.iaload, 1) := by decide +kernel
theorem dX1_receive_30 : decode cX1_receive 30 = .ok (.goto 5, 3) := by decide +kernel
theorem dX1_receive_33 : decode cX1_receive 33 = .ok (.bipush (-6), 2) := by decide +kernel
theorem dX1_receive_35 : decode cX1_receive 35 = .ok (.ireturn, 1) := by decide +kernel
theorem dX1_receive_36 : decode cX1_receive 36 = .ok (.aload_n 0, 1) := by decide +kernel
theorem dX1_receive_37 : decode cX1_receive 37 = .ok (.getfield 20, 3) := by decide +kernel
theorem dX1_receive_40 : decode cX1_receive 40 = .ok (.iload_n 1, 1) := by decide +kernel
theorem dX1_receive_41 : decode cX1_receive 41 = .ok (.aload_n 0, 1) := by decide +kernel
theorem dX1_receive_42 : decode cX1_receive 42 = .ok (.getfield 41, 3) := by decide +kernel
theorem dX1_receive_45 : decode cX1_receive 45 = .ok (.iload_n 1, 1) := by decide +kernel
theorem dX1_receive_46 : decode cX1_receive 46 = .ok (.iaload, 1) := by decide +kernel
theorem dX1_receive_47 : decode cX1_receive 47 = .ok (.iastore, 1) := by decide +kernel
theorem dX1_receive_48 : decode cX1_receive 48 = .ok (.aload_n 0, 1) := by decide +kernel
theorem dX1_receive_49 : decode cX1_receive 49 = .ok (.getfield 23, 3) := by decide +kernel
theorem dX1_receive_52 : decode cX1_receive 52 = .ok (.iload_n 1, 1) := by decide +kernel
theorem dX1_receive_53 : decode cX1_receive 53 = .ok (.iconst 1, 1) := by decide +kernel
theorem dX1_receive_54 : decode cX1_receive 54 = .ok (.bastore, 1) := by decide +kernel
theorem dX1_receive_55 : decode cX1_receive 55 = .ok (.aload_n 0, 1) := by decide +kernel
theorem dX1_receive_56 : decode cX1_receive 56 = .ok (.getfield 26, 3) := by decide +kernel
theorem dX1_receive_59 : decode cX1_receive 59 = .ok (.iload_n 1, 1) := by decide +kernel
theorem dX1_receive_60 : decode cX1_receive 60 = .ok (.aload_n 0, 1) := by decide +kernel
theorem dX1_receive_61 : decode cX1_receive 61 = .ok (.aload_n 0, 1) := by decide +kernel
theorem dX1_receive_62 : decode cX1_receive 62 = .ok (.getfield 44, 3) := by decide +kernel
theorem dX1_receive_65 : decode cX1_receive 65 = .ok (.iload_n 1, 1) := by decide +kernel
theorem dX1_receive_66 : decode cX1_receive 66 = .ok (.iaload, 1) := by decide +kernel
theorem dX1_receive_67 : decode cX1_receive 67 = .ok (.aload_n 0, 1) := by decide +kernel
theorem dX1_receive_68 : decode cX1_receive 68 = .ok (.getfield 47, 3) := by decide +kernel
theorem dX1_receive_71 : decode cX1_receive 71 = .ok (.iload_n 1, 1) := by decide +kernel
theorem dX1_receive_72 : decode cX1_receive 72 = .ok (.iaload, 1) := by decide +kernel
theorem dX1_receive_73 : decode cX1_receive 73 = .ok (.aload_n 0, 1) := by decide +kernel
theorem dX1_receive_74 : decode cX1_receive 74 = .ok (.getfield 50, 3) := by decide +kernel
theorem dX1_receive_77 : decode cX1_receive 77 = .ok (.iload_n 1, 1) := by decide +kernel
theorem dX1_receive_78 : decode cX1_receive 78 = .ok (.iaload, 1) := by decide +kernel
theorem dX1_receive_79 : decode cX1_receive 79 = .ok (.aload_n 0, 1) := by decide +kernel
theorem dX1_receive_80 : decode cX1_receive 80 = .ok (.getfield 53, 3) := by decide +kernel
theorem dX1_receive_83 : decode cX1_receive 83 = .ok (.iload_n 1, 1) := by decide +kernel
theorem dX1_receive_84 : decode cX1_receive 84 = .ok (.iaload, 1) := by decide +kernel
theorem dX1_receive_85 : decode cX1_receive 85 = .ok (.invokevirtual 74, 3) := by decide +kernel
theorem dX1_receive_88 : decode cX1_receive 88 = .ok (.iastore, 1) := by decide +kernel
theorem dX1_receive_89 : decode cX1_receive 89 = .ok (.aload_n 0, 1) := by decide +kernel
theorem dX1_receive_90 : decode cX1_receive 90 = .ok (.getfield 26, 3) := by decide +kernel
theorem dX1_receive_93 : decode cX1_receive 93 = .ok (.iload_n 1, 1) := by decide +kernel
theorem dX1_receive_94 : decode cX1_receive 94 = .ok (.iaload, 1) := by decide +kernel
theorem dX1_receive_95 : decode cX1_receive 95 = .ok (.ireturn, 1) := by decide +kernel
abbrev cX1_serve : ByteArray := prog_1_method_11_code
def yX1_serve : MethodName := ⟨RX1, "serve", "(IIII)I"⟩
theorem dX1_serve_0 : decode cX1_serve 0 = .ok (.iload_n 1, 1) := by decide +kernel
theorem dX1_serve_1 : decode cX1_serve 1 = .ok (.ifCond .ne 9, 3) := by decide +kernel
theorem dX1_serve_4 : decode cX1_serve 4 = .ok (.aload_n 0, 1) := by decide +kernel
theorem dX1_serve_5 : decode cX1_serve 5 = .ok (.iload_n 2, 1) := by decide +kernel
theorem dX1_serve_6 : decode cX1_serve 6 = .ok (.invokevirtual 78, 3) := by decide +kernel
theorem dX1_serve_9 : decode cX1_serve 9 = .ok (.ireturn, 1) := by decide +kernel
theorem dX1_serve_10 : decode cX1_serve 10 = .ok (.aload_n 0, 1) := by decide +kernel
theorem dX1_serve_11 : decode cX1_serve 11 = .ok (.iload_n 2, 1) := by decide +kernel
theorem dX1_serve_12 : decode cX1_serve 12 = .ok (.invokevirtual 81, 3) := by decide +kernel
theorem dX1_serve_15 : decode cX1_serve 15 = .ok (.istore 5, 2) := by decide +kernel
theorem dX1_serve_17 : decode cX1_serve 17 = .ok (.iload_n 1, 1) := by decide +kernel
theorem dX1_serve_18 : decode cX1_serve 18 = .ok (.invokestatic 85, 3) := by decide +kernel
theorem dX1_serve_21 : decode cX1_serve 21 = .ok (.istore 6, 2) := by decide +kernel
theorem dX1_serve_23 : decode cX1_serve 23 = .ok (.iload 5, 2) := by decide +kernel
theorem dX1_serve_25 : decode cX1_serve 25 = .ok (.ifCond .eq 17, 3) := by decide +kernel
theorem dX1_serve_28 : decode cX1_serve 28 = .ok (.aload_n 0, 1) := by decide +kernel
theorem dX1_serve_29 : decode cX1_serve 29 = .ok (.getfield 35, 3) := by decide +kernel
theorem dX1_serve_32 : decode cX1_serve 32 = .ok (.iload_n 2, 1) := by decide +kernel
theorem dX1_serve_33 : decode cX1_serve 33 = .ok (.iaload, 1) := by decide +kernel
theorem dX1_serve_34 : decode cX1_serve 34 = .ok (.iload 6, 2) := by decide +kernel
theorem dX1_serve_36 : decode cX1_serve 36 = .ok (.iand, 1) := by decide +kernel
theorem dX1_serve_37 : decode cX1_serve 37 = .ok (.iload 6, 2) := by decide +kernel
theorem dX1_serve_39 : decode cX1_serve 39 = .ok (.if_icmp .eq 6, 3) := by decide +kernel
theorem dX1_serve_42 : decode cX1_serve 42 = .ok (.bipush (-3), 2) := by decide +kernel
theorem dX1_serve_44 : decode cX1_serve 44 = .ok (.ireturn, 1) := by decide +kernel
theorem dX1_serve_45 : decode cX1_serve 45 = .ok (.aload_n 0, 1) := by decide +kernel
theorem dX1_serve_46 : decode cX1_serve 46 = .ok (.getfield 32, 3) := by decide +kernel
theorem dX1_serve_49 : decode cX1_serve 49 = .ok (.iload_n 2, 1) := by decide +kernel
theorem dX1_serve_50 : decode cX1_serve 50 = .ok (.iaload, 1) := by decide +kernel
theorem dX1_serve_51 : decode cX1_serve 51 = .ok (.istore 7, 2) := by decide +kernel
theorem dX1_serve_53 : decode cX1_serve 53 = .ok (.iload_n 1, 1) := by decide +kernel
theorem dX1_serve_54 : decode cX1_serve 54 = .ok (.tableswitch 94 1 4 #[30, 38, 58, 68], 30) := by decide +kernel
theorem dX1_serve_84 : decode cX1_serve 84 = .ok (.aload_n 0, 1) := by decide +kernel
theorem dX1_serve_85 : decode cX1_serve 85 = .ok (.getfield 13, 3) := by decide +kernel
theorem dX1_serve_88 : decode cX1_serve 88 = .ok (.iload 7, 2) := by decide +kernel
theorem dX1_serve_90 : decode cX1_serve 90 = .ok (.iaload, 1) := by decide +kernel
theorem dX1_serve_91 : decode cX1_serve 91 = .ok (.ireturn, 1) := by decide +kernel
theorem dX1_serve_92 : decode cX1_serve 92 = .ok (.aload_n 0, 1) := by decide +kernel
theorem dX1_serve_93 : decode cX1_serve 93 = .ok (.getfield 13, 3) := by decide +kernel
theorem dX1_serve_96 : decode cX1_serve 96 = .ok (.iload 7, 2) := by decide +kernel
theorem dX1_serve_98 : decode cX1_serve 98 = .ok (.dup2, 1) := by decide +kernel
theorem dX1_serve_99 : decode cX1_serve 99 = .ok (.iaload, 1) := by decide +kernel
theorem dX1_serve_100 : decode cX1_serve 100 = .ok (.iload 4, 2) := by decide +kernel
theorem dX1_serve_102 : decode cX1_serve 102 = .ok (.iadd, 1) := by decide +kernel
theorem dX1_serve_103 : decode cX1_serve 103 = .ok (.iastore, 1) := by decide +kernel
theorem dX1_serve_104 : decode cX1_serve 104 = .ok (.aload_n 0, 1) := by decide +kernel
theorem dX1_serve_105 : decode cX1_serve 105 = .ok (.getfield 13, 3) := by decide +kernel
theorem dX1_serve_108 : decode cX1_serve 108 = .ok (.iload 7, 2) := by decide +kernel
theorem dX1_serve_110 : decode cX1_serve 110 = .ok (.iaload, 1) := by decide +kernel
theorem dX1_serve_111 : decode cX1_serve 111 = .ok (.ireturn, 1) := by decide +kernel
theorem dX1_serve_112 : decode cX1_serve 112 = .ok (.aload_n 0, 1) := by decide +kernel
theorem dX1_serve_113 : decode cX1_serve 113 = .ok (.getfield 7, 3) := by decide +kernel
theorem dX1_serve_116 : decode cX1_serve 116 = .ok (.iload 7, 2) := by decide +kernel
theorem dX1_serve_118 : decode cX1_serve 118 = .ok (.iconst 0, 1) := by decide +kernel
theorem dX1_serve_119 : decode cX1_serve 119 = .ok (.bastore, 1) := by decide +kernel
theorem dX1_serve_120 : decode cX1_serve 120 = .ok (.iconst 0, 1) := by decide +kernel
theorem dX1_serve_121 : decode cX1_serve 121 = .ok (.ireturn, 1) := by decide +kernel
theorem dX1_serve_122 : decode cX1_serve 122 = .ok (.aload_n 0, 1) := by decide +kernel
theorem dX1_serve_123 : decode cX1_serve 123 = .ok (.getfield 17, 3) := by decide +kernel
theorem dX1_serve_126 : decode cX1_serve 126 = .ok (.iload 7, 2) := by decide +kernel
theorem dX1_serve_128 : decode cX1_serve 128 = .ok (.aload_n 0, 1) := by decide +kernel
theorem dX1_serve_129 : decode cX1_serve 129 = .ok (.invokevirtual 88, 3) := by decide +kernel
theorem dX1_serve_132 : decode cX1_serve 132 = .ok (.iastore, 1) := by decide +kernel
theorem dX1_serve_133 : decode cX1_serve 133 = .ok (.aload_n 0, 1) := by decide +kernel
theorem dX1_serve_134 : decode cX1_serve 134 = .ok (.iload_n 2, 1) := by decide +kernel
theorem dX1_serve_135 : decode cX1_serve 135 = .ok (.iload 7, 2) := by decide +kernel
theorem dX1_serve_137 : decode cX1_serve 137 = .ok (.aload_n 0, 1) := by decide +kernel
theorem dX1_serve_138 : decode cX1_serve 138 = .ok (.getfield 35, 3) := by decide +kernel
theorem dX1_serve_141 : decode cX1_serve 141 = .ok (.iload_n 2, 1) := by decide +kernel
theorem dX1_serve_142 : decode cX1_serve 142 = .ok (.iaload, 1) := by decide +kernel
theorem dX1_serve_143 : decode cX1_serve 143 = .ok (.invokevirtual 92, 3) := by decide +kernel
theorem dX1_serve_146 : decode cX1_serve 146 = .ok (.iconst 0, 1) := by decide +kernel
theorem dX1_serve_147 : decode cX1_serve 147 = .ok (.ireturn, 1) := by decide +kernel
theorem dX1_serve_148 : decode cX1_serve 148 = .ok (.aload_n 0, 1) := by decide +kernel
theorem dX1_serve_149 : decode cX1_serve 149 = .ok (.iload_n 3, 1) := by decide +kernel
theorem dX1_serve_150 : decode cX1_serve 150 = .ok (.iload 7, 2) := by decide +kernel
theorem dX1_serve_152 : decode cX1_serve 152 = .ok (.aload_n 0, 1) := by decide +kernel
theorem dX1_serve_153 : decode cX1_serve 153 = .ok (.getfield 35, 3) := by decide +kernel
theorem dX1_serve_156 : decode cX1_serve 156 = .ok (.iload_n 2, 1) := by decide +kernel
theorem dX1_serve_157 : decode cX1_serve 157 = .ok (.iaload, 1) := by decide +kernel
theorem dX1_serve_158 : decode cX1_serve 158 = .ok (.iload 4, 2) := by decide +kernel
theorem dX1_serve_160 : decode cX1_serve 160 = .ok (.iand, 1) := by decide +kernel
theorem dX1_serve_161 : decode cX1_serve 161 = .ok (.invokevirtual 92, 3) := by decide +kernel
theorem dX1_serve_164 : decode cX1_serve 164 = .ok (.aload_n 0, 1) := by decide +kernel
theorem dX1_serve_165 : decode cX1_serve 165 = .ok (.getfield 35, 3) := by decide +kernel
theorem dX1_serve_168 : decode cX1_serve 168 = .ok (.iload_n 3, 1) := by decide +kernel
theorem dX1_serve_169 : decode cX1_serve 169 = .ok (.iaload, 1) := by decide +kernel
theorem dX1_serve_170 : decode cX1_serve 170 = .ok (.ireturn, 1) := by decide +kernel
abbrev cX1_serveCreate : ByteArray := prog_1_method_12_code
def yX1_serveCreate : MethodName := ⟨RX1, "serveCreate", "(I)I"⟩
theorem dX1_serveCreate_0 : decode cX1_serveCreate 0 = .ok (.iconst 0, 1) := by decide +kernel
theorem dX1_serveCreate_1 : decode cX1_serveCreate 1 = .ok (.istore_n 2, 1) := by decide +kernel
theorem dX1_serveCreate_2 : decode cX1_serveCreate 2 = .ok (.iload_n 2, 1) := by decide +kernel
theorem dX1_serveCreate_3 : decode cX1_serveCreate 3 = .ok (.bipush 8, 2) := by decide +kernel
theorem dX1_serveCreate_5 : decode cX1_serveCreate 5 = .ok (.if_icmp .ge 18, 3) := by decide +kernel
theorem dX1_serveCreate_8 : decode cX1_serveCreate 8 = .ok (.aload_n 0, 1) := by decide +kernel
theorem dX1_serveCreate_9 : decode cX1_serveCreate 9 = .ok (.getfield 7, 3) := by decide +kernel
theorem dX1_serveCreate_12 : decode cX1_serveCreate 12 = .ok (.iload_n 2, 1) := by decide +kernel
theorem dX1_serveCreate_13 : decode cX1_serveCreate 13 = .ok (.baload, 1) := by decide +kernel
theorem dX1_serveCreate_14 : decode cX1_serveCreate 14 = .ok (.ifCond .eq 9, 3) := by decide +kernel
theorem dX1_serveCreate_17 : decode cX1_serveCreate 17 = .ok (.iinc 2 1, 3) := by decide +kernel
theorem dX1_serveCreate_20 : decode cX1_serveCreate 20 = .ok (.goto (-18), 3) := by decide +kernel
theorem dX1_serveCreate_23 : decode cX1_serveCreate 23 = .ok (.iload_n 2, 1) := by decide +kernel
theorem dX1_serveCreate_24 : decode cX1_serveCreate 24 = .ok (.bipush 8, 2) := by decide +kernel
theorem dX1_serveCreate_26 : decode cX1_serveCreate 26 = .ok (.if_icmp .ne 6, 3) := by decide +kernel
theorem dX1_serveCreate_29 : decode cX1_serveCreate 29 = .ok (.bipush (-4), 2) := by decide +kernel
theorem dX1_serveCreate_31 : decode cX1_serveCreate 31 = .ok (.ireturn, 1) := by decide +kernel
theorem dX1_serveCreate_32 : decode cX1_serveCreate 32 = .ok (.aload_n 0, 1) := by decide +kernel
theorem dX1_serveCreate_33 : decode cX1_serveCreate 33 = .ok (.getfield 7, 3) := by decide +kernel
theorem dX1_serveCreate_36 : decode cX1_serveCreate 36 = .ok (.iload_n 2, 1) := by decide +kernel
theorem dX1_serveCreate_37 : decode cX1_serveCreate 37 = .ok (.iconst 1, 1) := by decide +kernel
theorem dX1_serveCreate_38 : decode cX1_serveCreate 38 = .ok (.bastore, 1) := by decide +kernel
theorem dX1_serveCreate_39 : decode cX1_serveCreate 39 = .ok (.aload_n 0, 1) := by decide +kernel
theorem dX1_serveCreate_40 : decode cX1_serveCreate 40 = .ok (.getfield 13, 3) := by decide +kernel
theorem dX1_serveCreate_43 : decode cX1_serveCreate 43 = .ok (.iload_n 2, 1) := by decide +kernel
theorem dX1_serveCreate_44 : decode cX1_serveCreate 44 = .ok (.iconst 0, 1) := by decide +kernel
theorem dX1_serveCreate_45 : decode cX1_serveCreate 45 = .ok (.iastore, 1) := by decide +kernel
theorem dX1_serveCreate_46 : decode cX1_serveCreate 46 = .ok (.aload_n 0, 1) := by decide +kernel
theorem dX1_serveCreate_47 : decode cX1_serveCreate 47 = .ok (.getfield 17, 3) := by decide +kernel
theorem dX1_serveCreate_50 : decode cX1_serveCreate 50 = .ok (.iload_n 2, 1) := by decide +kernel
theorem dX1_serveCreate_51 : decode cX1_serveCreate 51 = .ok (.aload_n 0, 1) := by decide +kernel
theorem dX1_serveCreate_52 : decode cX1_serveCreate 52 = .ok (.invokevirtual 88, 3) := by decide +kernel
theorem dX1_serveCreate_55 : decode cX1_serveCreate 55 = .ok (.iastore, 1) := by decide +kernel
theorem dX1_serveCreate_56 : decode cX1_serveCreate 56 = .ok (.aload_n 0, 1) := by decide +kernel
theorem dX1_serveCreate_57 : decode cX1_serveCreate 57 = .ok (.iload_n 1, 1) := by decide +kernel
theorem dX1_serveCreate_58 : decode cX1_serveCreate 58 = .ok (.iload_n 2, 1) := by decide +kernel
theorem dX1_serveCreate_59 : decode cX1_serveCreate 59 = .ok (.bipush 15, 2) := by decide +kernel
theorem dX1_serveCreate_61 : decode cX1_serveCreate 61 = .ok (.invokevirtual 92, 3) := by decide +kernel
theorem dX1_serveCreate_64 : decode cX1_serveCreate 64 = .ok (.iload_n 2, 1) := by decide +kernel
theorem dX1_serveCreate_65 : decode cX1_serveCreate 65 = .ok (.ireturn, 1) := by decide +kernel
abbrev cX1_newSecret : ByteArray := prog_1_method_4_code
def yX1_newSecret : MethodName := ⟨RX1, "newSecret", "()I"⟩
theorem dX1_newSecret_0 : decode cX1_newSecret 0 = .ok (.aload_n 0, 1) := by decide +kernel
theorem dX1_newSecret_1 : decode cX1_newSecret 1 = .ok (.dup, 1) := by decide +kernel
theorem dX1_newSecret_2 : decode cX1_newSecret 2 = .ok (.getfield 60, 3) := by decide +kernel
theorem dX1_newSecret_5 : decode cX1_newSecret 5 = .ok (.iconst 1, 1) := by decide +kernel
theorem dX1_newSecret_6 : decode cX1_newSecret 6 = .ok (.iadd, 1) := by decide +kernel
theorem dX1_newSecret_7 : decode cX1_newSecret 7 = .ok (.putfield 60, 3) := by decide +kernel
theorem dX1_newSecret_10 : decode cX1_newSecret 10 = .ok (.aload_n 0, 1) := by decide +kernel
theorem dX1_newSecret_11 : decode cX1_newSecret 11 = .ok (.getfield 60, 3) := by decide +kernel
theorem dX1_newSecret_14 : decode cX1_newSecret 14 = .ok (.ldc 63, 2) := by decide +kernel
theorem dX1_newSecret_16 : decode cX1_newSecret 16 = .ok (.imul, 1) := by decide +kernel
theorem dX1_newSecret_17 : decode cX1_newSecret 17 = .ok (.aload_n 0, 1) := by decide +kernel
theorem dX1_newSecret_18 : decode cX1_newSecret 18 = .ok (.getfield 56, 3) := by decide +kernel
theorem dX1_newSecret_21 : decode cX1_newSecret 21 = .ok (.iadd, 1) := by decide +kernel
theorem dX1_newSecret_22 : decode cX1_newSecret 22 = .ok (.iconst 4, 1) := by decide +kernel
theorem dX1_newSecret_23 : decode cX1_newSecret 23 = .ok (.ishl, 1) := by decide +kernel
theorem dX1_newSecret_24 : decode cX1_newSecret 24 = .ok (.ireturn, 1) := by decide +kernel
abbrev cX1_give : ByteArray := prog_1_method_7_code
def yX1_give : MethodName := ⟨RX1, "give", "(III)V"⟩
theorem dX1_give_0 : decode cX1_give 0 = .ok (.aload_n 0, 1) := by decide +kernel
theorem dX1_give_1 : decode cX1_give 1 = .ok (.getfield 29, 3) := by decide +kernel
theorem dX1_give_4 : decode cX1_give 4 = .ok (.iload_n 1, 1) := by decide +kernel
theorem dX1_give_5 : decode cX1_give 5 = .ok (.iconst 1, 1) := by decide +kernel
theorem dX1_give_6 : decode cX1_give 6 = .ok (.bastore, 1) := by decide +kernel
theorem dX1_give_7 : decode cX1_give 7 = .ok (.aload_n 0, 1) := by decide +kernel
theorem dX1_give_8 : decode cX1_give 8 = .ok (.getfield 32, 3) := by decide +kernel
theorem dX1_give_11 : decode cX1_give 11 = .ok (.iload_n 1, 1) := by decide +kernel
theorem dX1_give_12 : decode cX1_give 12 = .ok (.iload_n 2, 1) := by decide +kernel
theorem dX1_give_13 : decode cX1_give 13 = .ok (.iastore, 1) := by decide +kernel
theorem dX1_give_14 : decode cX1_give 14 = .ok (.aload_n 0, 1) := by decide +kernel
theorem dX1_give_15 : decode cX1_give 15 = .ok (.getfield 35, 3) := by decide +kernel
theorem dX1_give_18 : decode cX1_give 18 = .ok (.iload_n 1, 1) := by decide +kernel
theorem dX1_give_19 : decode cX1_give 19 = .ok (.iload_n 3, 1) := by decide +kernel
theorem dX1_give_20 : decode cX1_give 20 = .ok (.iastore, 1) := by decide +kernel
theorem dX1_give_21 : decode cX1_give 21 = .ok (.aload_n 0, 1) := by decide +kernel
theorem dX1_give_22 : decode cX1_give 22 = .ok (.getfield 38, 3) := by decide +kernel
theorem dX1_give_25 : decode cX1_give 25 = .ok (.iload_n 1, 1) := by decide +kernel
theorem dX1_give_26 : decode cX1_give 26 = .ok (.aload_n 0, 1) := by decide +kernel
theorem dX1_give_27 : decode cX1_give 27 = .ok (.getfield 17, 3) := by decide +kernel
theorem dX1_give_30 : decode cX1_give 30 = .ok (.iload_n 2, 1) := by decide +kernel
theorem dX1_give_31 : decode cX1_give 31 = .ok (.iaload, 1) := by decide +kernel
theorem dX1_give_32 : decode cX1_give 32 = .ok (.iload_n 3, 1) := by decide +kernel
theorem dX1_give_33 : decode cX1_give 33 = .ok (.ixor, 1) := by decide +kernel
theorem dX1_give_34 : decode cX1_give 34 = .ok (.invokestatic 67, 3) := by decide +kernel
theorem dX1_give_37 : decode cX1_give 37 = .ok (.iastore, 1) := by decide +kernel
theorem dX1_give_38 : decode cX1_give 38 = .ok (.return_, 1) := by decide +kernel
abbrev cX1_mix : ByteArray := prog_1_method_5_code
def yX1_mix : MethodName := ⟨RX1, "mix", "(I)I"⟩
theorem dX1_mix_0 : decode cX1_mix 0 = .ok (.iload_n 0, 1) := by decide +kernel
theorem dX1_mix_1 : decode cX1_mix 1 = .ok (.ldc 64, 2) := by decide +kernel
theorem dX1_mix_3 : decode cX1_mix 3 = .ok (.imul, 1) := by decide +kernel
theorem dX1_mix_4 : decode cX1_mix 4 = .ok (.istore_n 1, 1) := by decide +kernel
theorem dX1_mix_5 : decode cX1_mix 5 = .ok (.iload_n 1, 1) := by decide +kernel
theorem dX1_mix_6 : decode cX1_mix 6 = .ok (.iload_n 1, 1) := by decide +kernel
theorem dX1_mix_7 : decode cX1_mix 7 = .ok (.bipush 15, 2) := by decide +kernel
theorem dX1_mix_9 : decode cX1_mix 9 = .ok (.iushr, 1) := by decide +kernel
theorem dX1_mix_10 : decode cX1_mix 10 = .ok (.ixor, 1) := by decide +kernel
theorem dX1_mix_11 : decode cX1_mix 11 = .ok (.istore_n 1, 1) := by decide +kernel
theorem dX1_mix_12 : decode cX1_mix 12 = .ok (.iload_n 1, 1) := by decide +kernel
theorem dX1_mix_13 : decode cX1_mix 13 = .ok (.ldc 65, 2) := by decide +kernel
theorem dX1_mix_15 : decode cX1_mix 15 = .ok (.imul, 1) := by decide +kernel
theorem dX1_mix_16 : decode cX1_mix 16 = .ok (.istore_n 1, 1) := by decide +kernel
theorem dX1_mix_17 : decode cX1_mix 17 = .ok (.iload_n 1, 1) := by decide +kernel
theorem dX1_mix_18 : decode cX1_mix 18 = .ok (.iload_n 1, 1) := by decide +kernel
theorem dX1_mix_19 : decode cX1_mix 19 = .ok (.bipush 13, 2) := by decide +kernel
theorem dX1_mix_21 : decode cX1_mix 21 = .ok (.iushr, 1) := by decide +kernel
theorem dX1_mix_22 : decode cX1_mix 22 = .ok (.ixor, 1) := by decide +kernel
theorem dX1_mix_23 : decode cX1_mix 23 = .ok (.istore_n 1, 1) := by decide +kernel
theorem dX1_mix_24 : decode cX1_mix 24 = .ok (.iload_n 1, 1) := by decide +kernel
theorem dX1_mix_25 : decode cX1_mix 25 = .ok (.ldc 66, 2) := by decide +kernel
theorem dX1_mix_27 : decode cX1_mix 27 = .ok (.imul, 1) := by decide +kernel
theorem dX1_mix_28 : decode cX1_mix 28 = .ok (.iconst 1, 1) := by decide +kernel
theorem dX1_mix_29 : decode cX1_mix 29 = .ok (.iadd, 1) := by decide +kernel
theorem dX1_mix_30 : decode cX1_mix 30 = .ok (.ireturn, 1) := by decide +kernel
abbrev cX1_valid : ByteArray := prog_1_method_6_code
def yX1_valid : MethodName := ⟨RX1, "valid", "(I)Z"⟩
theorem dX1_valid_0 : decode cX1_valid 0 = .ok (.aload_n 0, 1) := by decide +kernel
theorem dX1_valid_1 : decode cX1_valid 1 = .ok (.getfield 29, 3) := by decide +kernel
theorem dX1_valid_4 : decode cX1_valid 4 = .ok (.iload_n 1, 1) := by decide +kernel
theorem dX1_valid_5 : decode cX1_valid 5 = .ok (.baload, 1) := by decide +kernel
theorem dX1_valid_6 : decode cX1_valid 6 = .ok (.ifCond .ne 5, 3) := by decide +kernel
theorem dX1_valid_9 : decode cX1_valid 9 = .ok (.iconst 0, 1) := by decide +kernel
theorem dX1_valid_10 : decode cX1_valid 10 = .ok (.ireturn, 1) := by decide +kernel
theorem dX1_valid_11 : decode cX1_valid 11 = .ok (.aload_n 0, 1) := by decide +kernel
theorem dX1_valid_12 : decode cX1_valid 12 = .ok (.getfield 32, 3) := by decide +kernel
theorem dX1_valid_15 : decode cX1_valid 15 = .ok (.iload_n 1, 1) := by decide +kernel
theorem dX1_valid_16 : decode cX1_valid 16 = .ok (.iaload, 1) := by decide +kernel
theorem dX1_valid_17 : decode cX1_valid 17 = .ok (.istore_n 2, 1) := by decide +kernel
theorem dX1_valid_18 : decode cX1_valid 18 = .ok (.aload_n 0, 1) := by decide +kernel
theorem dX1_valid_19 : decode cX1_valid 19 = .ok (.getfield 7, 3) := by decide +kernel
theorem dX1_valid_22 : decode cX1_valid 22 = .ok (.iload_n 2, 1) := by decide +kernel
theorem dX1_valid_23 : decode cX1_valid 23 = .ok (.baload, 1) := by decide +kernel
theorem dX1_valid_24 : decode cX1_valid 24 = .ok (.ifCond .ne 5, 3) := by decide +kernel
theorem dX1_valid_27 : decode cX1_valid 27 = .ok (.iconst 0, 1) := by decide +kernel
theorem dX1_valid_28 : decode cX1_valid 28 = .ok (.ireturn, 1) := by decide +kernel
theorem dX1_valid_29 : decode cX1_valid 29 = .ok (.aload_n 0, 1) := by decide +kernel
theorem dX1_valid_30 : decode cX1_valid 30 = .ok (.getfield 17, 3) := by decide +kernel
theorem dX1_valid_33 : decode cX1_valid 33 = .ok (.iload_n 2, 1) := by decide +kernel
theorem dX1_valid_34 : decode cX1_valid 34 = .ok (.iaload, 1) := by decide +kernel
theorem dX1_valid_35 : decode cX1_valid 35 = .ok (.aload_n 0, 1) := by decide +kernel
theorem dX1_valid_36 : decode cX1_valid 36 = .ok (.getfield 35, 3) := by decide +kernel
theorem dX1_valid_39 : decode cX1_valid 39 = .ok (.iload_n 1, 1) := by decide +kernel
theorem dX1_valid_40 : decode cX1_valid 40 = .ok (.iaload, 1) := by decide +kernel
theorem dX1_valid_41 : decode cX1_valid 41 = .ok (.ixor, 1) := by decide +kernel
theorem dX1_valid_42 : decode cX1_valid 42 = .ok (.invokestatic 67, 3) := by decide +kernel
theorem dX1_valid_45 : decode cX1_valid 45 = .ok (.istore_n 3, 1) := by decide +kernel
theorem dX1_valid_46 : decode cX1_valid 46 = .ok (.iload_n 3, 1) := by decide +kernel
theorem dX1_valid_47 : decode cX1_valid 47 = .ok (.aload_n 0, 1) := by decide +kernel
theorem dX1_valid_48 : decode cX1_valid 48 = .ok (.getfield 38, 3) := by decide +kernel
theorem dX1_valid_51 : decode cX1_valid 51 = .ok (.iload_n 1, 1) := by decide +kernel
theorem dX1_valid_52 : decode cX1_valid 52 = .ok (.iaload, 1) := by decide +kernel
theorem dX1_valid_53 : decode cX1_valid 53 = .ok (.if_icmp .ne 7, 3) := by decide +kernel
theorem dX1_valid_56 : decode cX1_valid 56 = .ok (.iconst 1, 1) := by decide +kernel
theorem dX1_valid_57 : decode cX1_valid 57 = .ok (.goto 4, 3) := by decide +kernel
theorem dX1_valid_60 : decode cX1_valid 60 = .ok (.iconst 0, 1) := by decide +kernel
theorem dX1_valid_61 : decode cX1_valid 61 = .ok (.ireturn, 1) := by decide +kernel
abbrev cX1_needed : ByteArray := prog_1_method_10_code
def yX1_needed : MethodName := ⟨RX1, "needed", "(I)I"⟩
theorem dX1_needed_0 : decode cX1_needed 0 = .ok (.iload_n 0, 1) := by decide +kernel
theorem dX1_needed_1 : decode cX1_needed 1 = .ok (.tableswitch 40 1 4 #[31, 33, 35, 37], 31) := by decide +kernel
theorem dX1_needed_32 : decode cX1_needed 32 = .ok (.iconst 1, 1) := by decide +kernel
theorem dX1_needed_33 : decode cX1_needed 33 = .ok (.ireturn, 1) := by decide +kernel
theorem dX1_needed_34 : decode cX1_needed 34 = .ok (.iconst 2, 1) := by decide +kernel
theorem dX1_needed_35 : decode cX1_needed 35 = .ok (.ireturn, 1) := by decide +kernel
theorem dX1_needed_36 : decode cX1_needed 36 = .ok (.iconst 4, 1) := by decide +kernel
theorem dX1_needed_37 : decode cX1_needed 37 = .ok (.ireturn, 1) := by decide +kernel
theorem dX1_needed_38 : decode cX1_needed 38 = .ok (.bipush 8, 2) := by decide +kernel
theorem dX1_needed_40 : decode cX1_needed 40 = .ok (.ireturn, 1) := by decide +kernel
theorem dX1_needed_41 : decode cX1_needed 41 = .ok (.iconst 0, 1) := by decide +kernel
theorem dX1_needed_42 : decode cX1_needed 42 = .ok (.ireturn, 1) := by decide +kernel
abbrev cX1_read : ByteArray := prog_1_method_15_code
def yX1_read : MethodName := ⟨RX1, "read", "(II)I"⟩
theorem dX1_read_0 : decode cX1_read 0 = .ok (.aload_n 0, 1) := by decide +kernel
theorem dX1_read_1 : decode cX1_read 1 = .ok (.iload_n 1, 1) := by decide +kernel
theorem dX1_read_2 : decode cX1_read 2 = .ok (.iload_n 2, 1) := by decide +kernel
theorem dX1_read_3 : decode cX1_read 3 = .ok (.iconst 1, 1) := by decide +kernel
theorem dX1_read_4 : decode cX1_read 4 = .ok (.iconst 0, 1) := by decide +kernel
theorem dX1_read_5 : decode cX1_read 5 = .ok (.invokevirtual 106, 3) := by decide +kernel
theorem dX1_read_8 : decode cX1_read 8 = .ok (.ireturn, 1) := by decide +kernel
abbrev cX1_add : ByteArray := prog_1_method_16_code
def yX1_add : MethodName := ⟨RX1, "add", "(III)I"⟩
theorem dX1_add_0 : decode cX1_add 0 = .ok (.aload_n 0, 1) := by decide +kernel
theorem dX1_add_1 : decode cX1_add 1 = .ok (.iload_n 1, 1) := by decide +kernel
theorem dX1_add_2 : decode cX1_add 2 = .ok (.iload_n 2, 1) := by decide +kernel
theorem dX1_add_3 : decode cX1_add 3 = .ok (.iconst 2, 1) := by decide +kernel
theorem dX1_add_4 : decode cX1_add 4 = .ok (.iload_n 3, 1) := by decide +kernel
theorem dX1_add_5 : decode cX1_add 5 = .ok (.invokevirtual 106, 3) := by decide +kernel
theorem dX1_add_8 : decode cX1_add 8 = .ok (.ireturn, 1) := by decide +kernel
abbrev cX1_destroy : ByteArray := prog_1_method_17_code
def yX1_destroy : MethodName := ⟨RX1, "destroy", "(II)I"⟩
theorem dX1_destroy_0 : decode cX1_destroy 0 = .ok (.aload_n 0, 1) := by decide +kernel
theorem dX1_destroy_1 : decode cX1_destroy 1 = .ok (.iload_n 1, 1) := by decide +kernel
theorem dX1_destroy_2 : decode cX1_destroy 2 = .ok (.iload_n 2, 1) := by decide +kernel
theorem dX1_destroy_3 : decode cX1_destroy 3 = .ok (.iconst 3, 1) := by decide +kernel
theorem dX1_destroy_4 : decode cX1_destroy 4 = .ok (.iconst 0, 1) := by decide +kernel
theorem dX1_destroy_5 : decode cX1_destroy 5 = .ok (.invokevirtual 106, 3) := by decide +kernel
theorem dX1_destroy_8 : decode cX1_destroy 8 = .ok (.ireturn, 1) := by decide +kernel
abbrev cX1_revoke : ByteArray := prog_1_method_18_code
def yX1_revoke : MethodName := ⟨RX1, "revoke", "(II)I"⟩
theorem dX1_revoke_0 : decode cX1_revoke 0 = .ok (.aload_n 0, 1) := by decide +kernel
theorem dX1_revoke_1 : decode cX1_revoke 1 = .ok (.iload_n 1, 1) := by decide +kernel
theorem dX1_revoke_2 : decode cX1_revoke 2 = .ok (.iload_n 2, 1) := by decide +kernel
theorem dX1_revoke_3 : decode cX1_revoke 3 = .ok (.iconst 4, 1) := by decide +kernel
theorem dX1_revoke_4 : decode cX1_revoke 4 = .ok (.iconst 0, 1) := by decide +kernel
theorem dX1_revoke_5 : decode cX1_revoke 5 = .ok (.invokevirtual 106, 3) := by decide +kernel
theorem dX1_revoke_8 : decode cX1_revoke 8 = .ok (.ireturn, 1) := by decide +kernel
abbrev cX1_restrict : ByteArray := prog_1_method_19_code
def yX1_restrict : MethodName := ⟨RX1, "restrict", "(IIII)I"⟩
theorem dX1_restrict_0 : decode cX1_restrict 0 = .ok (.iload_n 1, 1) := by decide +kernel
theorem dX1_restrict_1 : decode cX1_restrict 1 = .ok (.invokestatic 96, 3) := by decide +kernel
theorem dX1_restrict_4 : decode cX1_restrict 4 = .ok (.ifCond .eq 5, 3) := by decide +kernel
theorem dX1_restrict_7 : decode cX1_restrict 7 = .ok (.iconst (-1), 1) := by decide +kernel
theorem dX1_restrict_8 : decode cX1_restrict 8 = .ok (.ireturn, 1) := by decide +kernel
theorem dX1_restrict_9 : decode cX1_restrict 9 = .ok (.iload_n 2, 1) := by decide +kernel
theorem dX1_restrict_10 : decode cX1_restrict 10 = .ok (.invokestatic 99, 3) := by decide +kernel
theorem dX1_restrict_13 : decode cX1_restrict 13 = .ok (.ifCond .ne 10, 3) := by decide +kernel
theorem dX1_restrict_16 : decode cX1_restrict 16 = .ok (.iload_n 3, 1) := by decide +kernel
theorem dX1_restrict_17 : decode cX1_restrict 17 = .ok (.invokestatic 99, 3) := by decide +kernel
theorem dX1_restrict_20 : decode cX1_restrict 20 = .ok (.ifCond .eq 6, 3) := by decide +kernel
theorem dX1_restrict_23 : decode cX1_restrict 23 = .ok (.bipush (-2), 2) := by decide +kernel
theorem dX1_restrict_25 : decode cX1_restrict 25 = .ok (.ireturn, 1) := by decide +kernel
theorem dX1_restrict_26 : decode cX1_restrict 26 = .ok (.iload 4, 2) := by decide +kernel
theorem dX1_restrict_28 : decode cX1_restrict 28 = .ok (.ifCond .lt 10, 3) := by decide +kernel
theorem dX1_restrict_31 : decode cX1_restrict 31 = .ok (.iload 4, 2) := by decide +kernel
theorem dX1_restrict_33 : decode cX1_restrict 33 = .ok (.bipush 15, 2) := by decide +kernel
theorem dX1_restrict_35 : decode cX1_restrict 35 = .ok (.if_icmp .le 6, 3) := by decide +kernel
theorem dX1_restrict_38 : decode cX1_restrict 38 = .ok (.bipush (-5), 2) := by decide +kernel
theorem dX1_restrict_40 : decode cX1_restrict 40 = .ok (.ireturn, 1) := by decide +kernel
theorem dX1_restrict_41 : decode cX1_restrict 41 = .ok (.aload_n 0, 1) := by decide +kernel
theorem dX1_restrict_42 : decode cX1_restrict 42 = .ok (.iload_n 1, 1) := by decide +kernel
theorem dX1_restrict_43 : decode cX1_restrict 43 = .ok (.iconst 5, 1) := by decide +kernel
theorem dX1_restrict_44 : decode cX1_restrict 44 = .ok (.iload_n 2, 1) := by decide +kernel
theorem dX1_restrict_45 : decode cX1_restrict 45 = .ok (.iload_n 3, 1) := by decide +kernel
theorem dX1_restrict_46 : decode cX1_restrict 46 = .ok (.iload 4, 2) := by decide +kernel
theorem dX1_restrict_48 : decode cX1_restrict 48 = .ok (.invokevirtual 102, 3) := by decide +kernel
theorem dX1_restrict_51 : decode cX1_restrict 51 = .ok (.ireturn, 1) := by decide +kernel
abbrev cX1_again : ByteArray := prog_1_method_20_code
def yX1_again : MethodName := ⟨RX1, "again", "(I)I"⟩
theorem dX1_again_0 : decode cX1_again 0 = .ok (.iload_n 1, 1) := by decide +kernel
theorem dX1_again_1 : decode cX1_again 1 = .ok (.invokestatic 96, 3) := by decide +kernel
theorem dX1_again_4 : decode cX1_again 4 = .ok (.ifCond .eq 5, 3) := by decide +kernel
theorem dX1_again_7 : decode cX1_again 7 = .ok (.iconst (-1), 1) := by decide +kernel
theorem dX1_again_8 : decode cX1_again 8 = .ok (.ireturn, 1) := by decide +kernel
theorem dX1_again_9 : decode cX1_again 9 = .ok (.aload_n 0, 1) := by decide +kernel
theorem dX1_again_10 : decode cX1_again 10 = .ok (.getfield 41, 3) := by decide +kernel
theorem dX1_again_13 : decode cX1_again 13 = .ok (.iload_n 1, 1) := by decide +kernel
theorem dX1_again_14 : decode cX1_again 14 = .ok (.iaload, 1) := by decide +kernel
theorem dX1_again_15 : decode cX1_again 15 = .ok (.ifCond .ne 6, 3) := by decide +kernel
theorem dX1_again_18 : decode cX1_again 18 = .ok (.bipush (-6), 2) := by decide +kernel
theorem dX1_again_20 : decode cX1_again 20 = .ok (.ireturn, 1) := by decide +kernel
theorem dX1_again_21 : decode cX1_again 21 = .ok (.aload_n 0, 1) := by decide +kernel
theorem dX1_again_22 : decode cX1_again 22 = .ok (.iload_n 1, 1) := by decide +kernel
theorem dX1_again_23 : decode cX1_again 23 = .ok (.invokevirtual 71, 3) := by decide +kernel
theorem dX1_again_26 : decode cX1_again 26 = .ok (.ireturn, 1) := by decide +kernel
abbrev cX1_copy : ByteArray := prog_1_method_21_code
def yX1_copy : MethodName := ⟨RX1, "copy", "(III)I"⟩
theorem dX1_copy_0 : decode cX1_copy 0 = .ok (.iload_n 1, 1) := by decide +kernel
theorem dX1_copy_1 : decode cX1_copy 1 = .ok (.invokestatic 96, 3) := by decide +kernel
theorem dX1_copy_4 : decode cX1_copy 4 = .ok (.ifCond .eq 5, 3) := by decide +kernel
theorem dX1_copy_7 : decode cX1_copy 7 = .ok (.iconst (-1), 1) := by decide +kernel
theorem dX1_copy_8 : decode cX1_copy 8 = .ok (.ireturn, 1) := by decide +kernel
theorem dX1_copy_9 : decode cX1_copy 9 = .ok (.iload_n 2, 1) := by decide +kernel
theorem dX1_copy_10 : decode cX1_copy 10 = .ok (.invokestatic 99, 3) := by decide +kernel
theorem dX1_copy_13 : decode cX1_copy 13 = .ok (.ifCond .eq 6, 3) := by decide +kernel
theorem dX1_copy_16 : decode cX1_copy 16 = .ok (.bipush (-2), 2) := by decide +kernel
theorem dX1_copy_18 : decode cX1_copy 18 = .ok (.ireturn, 1) := by decide +kernel
theorem dX1_copy_19 : decode cX1_copy 19 = .ok (.iload_n 1, 1) := by decide +kernel
theorem dX1_copy_20 : decode cX1_copy 20 = .ok (.bipush 8, 2) := by decide +kernel
theorem dX1_copy_22 : decode cX1_copy 22 = .ok (.imul, 1) := by decide +kernel
theorem dX1_copy_23 : decode cX1_copy 23 = .ok (.iload_n 2, 1) := by decide +kernel
theorem dX1_copy_24 : decode cX1_copy 24 = .ok (.iadd, 1) := by decide +kernel
theorem dX1_copy_25 : decode cX1_copy 25 = .ok (.istore 4, 2) := by decide +kernel
theorem dX1_copy_27 : decode cX1_copy 27 = .ok (.iload_n 3, 1) := by decide +kernel
theorem dX1_copy_28 : decode cX1_copy 28 = .ok (.bipush 15, 2) := by decide +kernel
theorem dX1_copy_30 : decode cX1_copy 30 = .ok (.iand, 1) := by decide +kernel
theorem dX1_copy_31 : decode cX1_copy 31 = .ok (.istore 5, 2) := by decide +kernel
theorem dX1_copy_33 : decode cX1_copy 33 = .ok (.aload_n 0, 1) := by decide +kernel
theorem dX1_copy_34 : decode cX1_copy 34 = .ok (.getfield 29, 3) := by decide +kernel
theorem dX1_copy_37 : decode cX1_copy 37 = .ok (.iload 5, 2) := by decide +kernel
theorem dX1_copy_39 : decode cX1_copy 39 = .ok (.aload_n 0, 1) := by decide +kernel
theorem dX1_copy_40 : decode cX1_copy 40 = .ok (.getfield 29, 3) := by decide +kernel
theorem dX1_copy_43 : decode cX1_copy 43 = .ok (.iload 4, 2) := by decide +kernel
theorem dX1_copy_45 : decode cX1_copy 45 = .ok (.baload, 1) := by decide +kernel
theorem dX1_copy_46 : decode cX1_copy 46 = .ok (.bastore, 1) := by decide +kernel
theorem dX1_copy_47 : decode cX1_copy 47 = .ok (.aload_n 0, 1) := by decide +kernel
theorem dX1_copy_48 : decode cX1_copy 48 = .ok (.getfield 32, 3) := by decide +kernel
theorem dX1_copy_51 : decode cX1_copy 51 = .ok (.iload 5, 2) := by decide +kernel
theorem dX1_copy_53 : decode cX1_copy 53 = .ok (.aload_n 0, 1) := by decide +kernel
theorem dX1_copy_54 : decode cX1_copy 54 = .ok (.getfield 32, 3) := by decide +kernel
theorem dX1_copy_57 : decode cX1_copy 57 = .ok (.iload 4, 2) := by decide +kernel
theorem dX1_copy_59 : decode cX1_copy 59 = .ok (.iaload, 1) := by decide +kernel
theorem dX1_copy_60 : decode cX1_copy 60 = .ok (.iastore, 1) := by decide +kernel
theorem dX1_copy_61 : decode cX1_copy 61 = .ok (.aload_n 0, 1) := by decide +kernel
theorem dX1_copy_62 : decode cX1_copy 62 = .ok (.getfield 35, 3) := by decide +kernel
theorem dX1_copy_65 : decode cX1_copy 65 = .ok (.iload 5, 2) := by decide +kernel
theorem dX1_copy_67 : decode cX1_copy 67 = .ok (.aload_n 0, 1) := by decide +kernel
theorem dX1_copy_68 : decode cX1_copy 68 = .ok (.getfield 35, 3) := by decide +kernel
theorem dX1_copy_71 : decode cX1_copy 71 = .ok (.iload 4, 2) := by decide +kernel
theorem dX1_copy_73 : decode cX1_copy 73 = .ok (.iaload, 1) := by decide +kernel
theorem dX1_copy_74 : decode cX1_copy 74 = .ok (.iastore, 1) := by decide +kernel
theorem dX1_copy_75 : decode cX1_copy 75 = .ok (.aload_n 0, 1) := by decide +kernel
theorem dX1_copy_76 : decode cX1_copy 76 = .ok (.getfield 38, 3) := by decide +kernel
theorem dX1_copy_79 : decode cX1_copy 79 = .ok (.iload 5, 2) := by decide +kernel
theorem dX1_copy_81 : decode cX1_copy 81 = .ok (.aload_n 0, 1) := by decide +kernel
theorem dX1_copy_82 : decode cX1_copy 82 = .ok (.getfield 38, 3) := by decide +kernel
theorem dX1_copy_85 : decode cX1_copy 85 = .ok (.iload 4, 2) := by decide +kernel
theorem dX1_copy_87 : decode cX1_copy 87 = .ok (.iaload, 1) := by decide +kernel
theorem dX1_copy_88 : decode cX1_copy 88 = .ok (.iastore, 1) := by decide +kernel
theorem dX1_copy_89 : decode cX1_copy 89 = .ok (.iconst 0, 1) := by decide +kernel
theorem dX1_copy_90 : decode cX1_copy 90 = .ok (.ireturn, 1) := by decide +kernel
abbrev cX1_tamper : ByteArray := prog_1_method_22_code
def yX1_tamper : MethodName := ⟨RX1, "tamper", "(III)I"⟩
theorem dX1_tamper_0 : decode cX1_tamper 0 = .ok (.iload_n 1, 1) := by decide +kernel
theorem dX1_tamper_1 : decode cX1_tamper 1 = .ok (.invokestatic 96, 3) := by decide +kernel
theorem dX1_tamper_4 : decode cX1_tamper 4 = .ok (.ifCond .eq 5, 3) := by decide +kernel
theorem dX1_tamper_7 : decode cX1_tamper 7 = .ok (.iconst (-1), 1) := by decide +kernel
theorem dX1_tamper_8 : decode cX1_tamper 8 = .ok (.ireturn, 1) := by decide +kernel
theorem dX1_tamper_9 : decode cX1_tamper 9 = .ok (.iload_n 2, 1) := by decide +kernel
theorem dX1_tamper_10 : decode cX1_tamper 10 = .ok (.invokestatic 99, 3) := by decide +kernel
theorem dX1_tamper_13 : decode cX1_tamper 13 = .ok (.ifCond .eq 6, 3) := by decide +kernel
theorem dX1_tamper_16 : decode cX1_tamper 16 = .ok (.bipush (-2), 2) := by decide +kernel
theorem dX1_tamper_18 : decode cX1_tamper 18 = .ok (.ireturn, 1) := by decide +kernel
theorem dX1_tamper_19 : decode cX1_tamper 19 = .ok (.iload_n 1, 1) := by decide +kernel
theorem dX1_tamper_20 : decode cX1_tamper 20 = .ok (.bipush 8, 2) := by decide +kernel
theorem dX1_tamper_22 : decode cX1_tamper 22 = .ok (.imul, 1) := by decide +kernel
theorem dX1_tamper_23 : decode cX1_tamper 23 = .ok (.iload_n 2, 1) := by decide +kernel
theorem dX1_tamper_24 : decode cX1_tamper 24 = .ok (.iadd, 1) := by decide +kernel
theorem dX1_tamper_25 : decode cX1_tamper 25 = .ok (.istore 4, 2) := by decide +kernel
theorem dX1_tamper_27 : decode cX1_tamper 27 = .ok (.aload_n 0, 1) := by decide +kernel
theorem dX1_tamper_28 : decode cX1_tamper 28 = .ok (.getfield 29, 3) := by decide +kernel
theorem dX1_tamper_31 : decode cX1_tamper 31 = .ok (.iload 4, 2) := by decide +kernel
theorem dX1_tamper_33 : decode cX1_tamper 33 = .ok (.baload, 1) := by decide +kernel
theorem dX1_tamper_34 : decode cX1_tamper 34 = .ok (.ifCond .ne 6, 3) := by decide +kernel
theorem dX1_tamper_37 : decode cX1_tamper 37 = .ok (.bipush (-3), 2) := by decide +kernel
theorem dX1_tamper_39 : decode cX1_tamper 39 = .ok (.ireturn, 1) := by decide +kernel
theorem dX1_tamper_40 : decode cX1_tamper 40 = .ok (.aload_n 0, 1) := by decide +kernel
theorem dX1_tamper_41 : decode cX1_tamper 41 = .ok (.getfield 35, 3) := by decide +kernel
theorem dX1_tamper_44 : decode cX1_tamper 44 = .ok (.iload 4, 2) := by decide +kernel
theorem dX1_tamper_46 : decode cX1_tamper 46 = .ok (.dup2, 1) := by decide +kernel
theorem dX1_tamper_47 : decode cX1_tamper 47 = .ok (.iaload, 1) := by decide +kernel
theorem dX1_tamper_48 : decode cX1_tamper 48 = .ok (.iload_n 3, 1) := by decide +kernel
theorem dX1_tamper_49 : decode cX1_tamper 49 = .ok (.bipush 15, 2) := by decide +kernel
theorem dX1_tamper_51 : decode cX1_tamper 51 = .ok (.iand, 1) := by decide +kernel
theorem dX1_tamper_52 : decode cX1_tamper 52 = .ok (.ixor, 1) := by decide +kernel
theorem dX1_tamper_53 : decode cX1_tamper 53 = .ok (.iastore, 1) := by decide +kernel
theorem dX1_tamper_54 : decode cX1_tamper 54 = .ok (.aload_n 0, 1) := by decide +kernel
theorem dX1_tamper_55 : decode cX1_tamper 55 = .ok (.getfield 32, 3) := by decide +kernel
theorem dX1_tamper_58 : decode cX1_tamper 58 = .ok (.iload 4, 2) := by decide +kernel
theorem dX1_tamper_60 : decode cX1_tamper 60 = .ok (.dup2, 1) := by decide +kernel
theorem dX1_tamper_61 : decode cX1_tamper 61 = .ok (.iaload, 1) := by decide +kernel
theorem dX1_tamper_62 : decode cX1_tamper 62 = .ok (.iload_n 3, 1) := by decide +kernel
theorem dX1_tamper_63 : decode cX1_tamper 63 = .ok (.iconst 4, 1) := by decide +kernel
theorem dX1_tamper_64 : decode cX1_tamper 64 = .ok (.ishr, 1) := by decide +kernel
theorem dX1_tamper_65 : decode cX1_tamper 65 = .ok (.bipush 7, 2) := by decide +kernel
theorem dX1_tamper_67 : decode cX1_tamper 67 = .ok (.iand, 1) := by decide +kernel
theorem dX1_tamper_68 : decode cX1_tamper 68 = .ok (.ixor, 1) := by decide +kernel
theorem dX1_tamper_69 : decode cX1_tamper 69 = .ok (.iastore, 1) := by decide +kernel
theorem dX1_tamper_70 : decode cX1_tamper 70 = .ok (.iconst 0, 1) := by decide +kernel
theorem dX1_tamper_71 : decode cX1_tamper 71 = .ok (.ireturn, 1) := by decide +kernel
abbrev cX1_clear : ByteArray := prog_1_method_23_code
def yX1_clear : MethodName := ⟨RX1, "clear", "(II)I"⟩
theorem dX1_clear_0 : decode cX1_clear 0 = .ok (.iload_n 1, 1) := by decide +kernel
theorem dX1_clear_1 : decode cX1_clear 1 = .ok (.invokestatic 96, 3) := by decide +kernel
theorem dX1_clear_4 : decode cX1_clear 4 = .ok (.ifCond .eq 5, 3) := by decide +kernel
theorem dX1_clear_7 : decode cX1_clear 7 = .ok (.iconst (-1), 1) := by decide +kernel
theorem dX1_clear_8 : decode cX1_clear 8 = .ok (.ireturn, 1) := by decide +kernel
theorem dX1_clear_9 : decode cX1_clear 9 = .ok (.iload_n 2, 1) := by decide +kernel
theorem dX1_clear_10 : decode cX1_clear 10 = .ok (.invokestatic 99, 3) := by decide +kernel
theorem dX1_clear_13 : decode cX1_clear 13 = .ok (.ifCond .eq 6, 3) := by decide +kernel
theorem dX1_clear_16 : decode cX1_clear 16 = .ok (.bipush (-2), 2) := by decide +kernel
theorem dX1_clear_18 : decode cX1_clear 18 = .ok (.ireturn, 1) := by decide +kernel
theorem dX1_clear_19 : decode cX1_clear 19 = .ok (.iload_n 1, 1) := by decide +kernel
theorem dX1_clear_20 : decode cX1_clear 20 = .ok (.bipush 8, 2) := by decide +kernel
theorem dX1_clear_22 : decode cX1_clear 22 = .ok (.imul, 1) := by decide +kernel
theorem dX1_clear_23 : decode cX1_clear 23 = .ok (.iload_n 2, 1) := by decide +kernel
theorem dX1_clear_24 : decode cX1_clear 24 = .ok (.iadd, 1) := by decide +kernel
theorem dX1_clear_25 : decode cX1_clear 25 = .ok (.istore_n 3, 1) := by decide +kernel
theorem dX1_clear_26 : decode cX1_clear 26 = .ok (.aload_n 0, 1) := by decide +kernel
theorem dX1_clear_27 : decode cX1_clear 27 = .ok (.getfield 29, 3) := by decide +kernel
theorem dX1_clear_30 : decode cX1_clear 30 = .ok (.iload_n 3, 1) := by decide +kernel
theorem dX1_clear_31 : decode cX1_clear 31 = .ok (.baload, 1) := by decide +kernel
theorem dX1_clear_32 : decode cX1_clear 32 = .ok (.ifCond .eq 7, 3) := by decide +kernel
theorem dX1_clear_35 : decode cX1_clear 35 = .ok (.iconst 1, 1) := by decide +kernel
theorem dX1_clear_36 : decode cX1_clear 36 = .ok (.goto 4, 3) := by decide +kernel
theorem dX1_clear_39 : decode cX1_clear 39 = .ok (.iconst 0, 1) := by decide +kernel
theorem dX1_clear_40 : decode cX1_clear 40 = .ok (.istore 4, 2) := by decide +kernel
theorem dX1_clear_42 : decode cX1_clear 42 = .ok (.aload_n 0, 1) := by decide +kernel
theorem dX1_clear_43 : decode cX1_clear 43 = .ok (.getfield 29, 3) := by decide +kernel
theorem dX1_clear_46 : decode cX1_clear 46 = .ok (.iload_n 3, 1) := by decide +kernel
theorem dX1_clear_47 : decode cX1_clear 47 = .ok (.iconst 0, 1) := by decide +kernel
theorem dX1_clear_48 : decode cX1_clear 48 = .ok (.bastore, 1) := by decide +kernel
theorem dX1_clear_49 : decode cX1_clear 49 = .ok (.iload 4, 2) := by decide +kernel
theorem dX1_clear_51 : decode cX1_clear 51 = .ok (.ireturn, 1) := by decide +kernel
abbrev cX1_restart : ByteArray := prog_1_method_24_code
def yX1_restart : MethodName := ⟨RX1, "restart", "()V"⟩
theorem dX1_restart_0 : decode cX1_restart 0 = .ok (.iconst 0, 1) := by decide +kernel
theorem dX1_restart_1 : decode cX1_restart 1 = .ok (.istore_n 1, 1) := by decide +kernel
theorem dX1_restart_2 : decode cX1_restart 2 = .ok (.iload_n 1, 1) := by decide +kernel
theorem dX1_restart_3 : decode cX1_restart 3 = .ok (.iconst 2, 1) := by decide +kernel
theorem dX1_restart_4 : decode cX1_restart 4 = .ok (.if_icmp .ge 23, 3) := by decide +kernel
theorem dX1_restart_7 : decode cX1_restart 7 = .ok (.aload_n 0, 1) := by decide +kernel
theorem dX1_restart_8 : decode cX1_restart 8 = .ok (.getfield 23, 3) := by decide +kernel
theorem dX1_restart_11 : decode cX1_restart 11 = .ok (.iload_n 1, 1) := by decide +kernel
theorem dX1_restart_12 : decode cX1_restart 12 = .ok (.iconst 0, 1) := by decide +kernel
theorem dX1_restart_13 : decode cX1_restart 13 = .ok (.bastore, 1) := by decide +kernel
theorem dX1_restart_14 : decode cX1_restart 14 = .ok (.aload_n 0, 1) := by decide +kernel
theorem dX1_restart_15 : decode cX1_restart 15 = .ok (.getfield 26, 3) := by decide +kernel
theorem dX1_restart_18 : decode cX1_restart 18 = .ok (.iload_n 1, 1) := by decide +kernel
theorem dX1_restart_19 : decode cX1_restart 19 = .ok (.iconst 0, 1) := by decide +kernel
theorem dX1_restart_20 : decode cX1_restart 20 = .ok (.iastore, 1) := by decide +kernel
theorem dX1_restart_21 : decode cX1_restart 21 = .ok (.iinc 1 1, 3) := by decide +kernel
theorem dX1_restart_24 : decode cX1_restart 24 = .ok (.goto (-22), 3) := by decide +kernel
theorem dX1_restart_27 : decode cX1_restart 27 = .ok (.return_, 1) := by decide +kernel
abbrev cX1_genuine : ByteArray := prog_1_method_25_code
def yX1_genuine : MethodName := ⟨RX1, "genuine", "(II)Z"⟩
theorem dX1_genuine_0 : decode cX1_genuine 0 = .ok (.iload_n 1, 1) := by decide +kernel
theorem dX1_genuine_1 : decode cX1_genuine 1 = .ok (.invokestatic 96, 3) := by decide +kernel
theorem dX1_genuine_4 : decode cX1_genuine 4 = .ok (.ifCond .ne 10, 3) := by decide +kernel
theorem dX1_genuine_7 : decode cX1_genuine 7 = .ok (.iload_n 2, 1) := by decide +kernel
theorem dX1_genuine_8 : decode cX1_genuine 8 = .ok (.invokestatic 99, 3) := by decide +kernel
theorem dX1_genuine_11 : decode cX1_genuine 11 = .ok (.ifCond .eq 5, 3) := by decide +kernel
theorem dX1_genuine_14 : decode cX1_genuine 14 = .ok (.iconst 0, 1) := by decide +kernel
theorem dX1_genuine_15 : decode cX1_genuine 15 = .ok (.ireturn, 1) := by decide +kernel
theorem dX1_genuine_16 : decode cX1_genuine 16 = .ok (.aload_n 0, 1) := by decide +kernel
theorem dX1_genuine_17 : decode cX1_genuine 17 = .ok (.iload_n 1, 1) := by decide +kernel
theorem dX1_genuine_18 : decode cX1_genuine 18 = .ok (.bipush 8, 2) := by decide +kernel
theorem dX1_genuine_20 : decode cX1_genuine 20 = .ok (.imul, 1) := by decide +kernel
theorem dX1_genuine_21 : decode cX1_genuine 21 = .ok (.iload_n 2, 1) := by decide +kernel
theorem dX1_genuine_22 : decode cX1_genuine 22 = .ok (.iadd, 1) := by decide +kernel
theorem dX1_genuine_23 : decode cX1_genuine 23 = .ok (.invokevirtual 81, 3) := by decide +kernel
theorem dX1_genuine_26 : decode cX1_genuine 26 = .ok (.ireturn, 1) := by decide +kernel
abbrev cX1_rights : ByteArray := prog_1_method_26_code
def yX1_rights : MethodName := ⟨RX1, "rights", "(II)I"⟩
theorem dX1_rights_0 : decode cX1_rights 0 = .ok (.iload_n 1, 1) := by decide +kernel
theorem dX1_rights_1 : decode cX1_rights 1 = .ok (.invokestatic 96, 3) := by decide +kernel
theorem dX1_rights_4 : decode cX1_rights 4 = .ok (.ifCond .eq 5, 3) := by decide +kernel
theorem dX1_rights_7 : decode cX1_rights 7 = .ok (.iconst (-1), 1) := by decide +kernel
theorem dX1_rights_8 : decode cX1_rights 8 = .ok (.ireturn, 1) := by decide +kernel
theorem dX1_rights_9 : decode cX1_rights 9 = .ok (.iload_n 2, 1) := by decide +kernel
theorem dX1_rights_10 : decode cX1_rights 10 = .ok (.invokestatic 99, 3) := by decide +kernel
theorem dX1_rights_13 : decode cX1_rights 13 = .ok (.ifCond .eq 6, 3) := by decide +kernel
theorem dX1_rights_16 : decode cX1_rights 16 = .ok (.bipush (-2), 2) := by decide +kernel
theorem dX1_rights_18 : decode cX1_rights 18 = .ok (.ireturn, 1) := by decide +kernel
theorem dX1_rights_19 : decode cX1_rights 19 = .ok (.iload_n 1, 1) := by decide +kernel
theorem dX1_rights_20 : decode cX1_rights 20 = .ok (.bipush 8, 2) := by decide +kernel
theorem dX1_rights_22 : decode cX1_rights 22 = .ok (.imul, 1) := by decide +kernel
theorem dX1_rights_23 : decode cX1_rights 23 = .ok (.iload_n 2, 1) := by decide +kernel
theorem dX1_rights_24 : decode cX1_rights 24 = .ok (.iadd, 1) := by decide +kernel
theorem dX1_rights_25 : decode cX1_rights 25 = .ok (.istore_n 3, 1) := by decide +kernel
theorem dX1_rights_26 : decode cX1_rights 26 = .ok (.aload_n 0, 1) := by decide +kernel
theorem dX1_rights_27 : decode cX1_rights 27 = .ok (.getfield 29, 3) := by decide +kernel
theorem dX1_rights_30 : decode cX1_rights 30 = .ok (.iload_n 3, 1) := by decide +kernel
theorem dX1_rights_31 : decode cX1_rights 31 = .ok (.baload, 1) := by decide +kernel
theorem dX1_rights_32 : decode cX1_rights 32 = .ok (.ifCond .eq 12, 3) := by decide +kernel
theorem dX1_rights_35 : decode cX1_rights 35 = .ok (.aload_n 0, 1) := by decide +kernel
theorem dX1_rights_36 : decode cX1_rights 36 = .ok (.getfield 35, 3) := by decide +kernel
theorem dX1_rights_39 : decode cX1_rights 39 = .ok (.iload_n 3, 1) := by decide +kernel
theorem dX1_rights_40 : decode cX1_rights 40 = .ok (.iaload, 1) := by decide +kernel
theorem dX1_rights_41 : decode cX1_rights 41 = .ok (.goto 4, 3) := by decide +kernel
theorem dX1_rights_44 : decode cX1_rights 44 = .ok (.iconst 0, 1) := by decide +kernel
theorem dX1_rights_45 : decode cX1_rights 45 = .ok (.ireturn, 1) := by decide +kernel
abbrev cX1_alive : ByteArray := prog_1_method_27_code
def yX1_alive : MethodName := ⟨RX1, "alive", "()I"⟩
theorem dX1_alive_0 : decode cX1_alive 0 = .ok (.iconst 0, 1) := by decide +kernel
theorem dX1_alive_1 : decode cX1_alive 1 = .ok (.istore_n 1, 1) := by decide +kernel
theorem dX1_alive_2 : decode cX1_alive 2 = .ok (.iconst 0, 1) := by decide +kernel
theorem dX1_alive_3 : decode cX1_alive 3 = .ok (.istore_n 2, 1) := by decide +kernel
theorem dX1_alive_4 : decode cX1_alive 4 = .ok (.iload_n 2, 1) := by decide +kernel
theorem dX1_alive_5 : decode cX1_alive 5 = .ok (.bipush 8, 2) := by decide +kernel
theorem dX1_alive_7 : decode cX1_alive 7 = .ok (.if_icmp .ge 21, 3) := by decide +kernel
theorem dX1_alive_10 : decode cX1_alive 10 = .ok (.aload_n 0, 1) := by decide +kernel
theorem dX1_alive_11 : decode cX1_alive 11 = .ok (.getfield 7, 3) := by decide +kernel
theorem dX1_alive_14 : decode cX1_alive 14 = .ok (.iload_n 2, 1) := by decide +kernel
theorem dX1_alive_15 : decode cX1_alive 15 = .ok (.baload, 1) := by decide +kernel
theorem dX1_alive_16 : decode cX1_alive 16 = .ok (.ifCond .eq 6, 3) := by decide +kernel
theorem dX1_alive_19 : decode cX1_alive 19 = .ok (.iinc 1 1, 3) := by decide +kernel
theorem dX1_alive_22 : decode cX1_alive 22 = .ok (.iinc 2 1, 3) := by decide +kernel
theorem dX1_alive_25 : decode cX1_alive 25 = .ok (.goto (-21), 3) := by decide +kernel
theorem dX1_alive_28 : decode cX1_alive 28 = .ok (.iload_n 1, 1) := by decide +kernel
theorem dX1_alive_29 : decode cX1_alive 29 = .ok (.ireturn, 1) := by decide +kernel
theorem q13 : (Jvm.Cond.initialized "CapabilityServer") ∈ lw_all := lw_g (lw_at lw_m1 1 rfl) rfl
theorem q16 : (Jvm.Cond.instantiable "CapabilityServer" (17 : Nat)) ∈ lw_all := lw_g (lw_at lw_m1 4 rfl) rfl
theorem q18 : (Jvm.Cond.instanceMethod ({ cls := "CapabilityServer", name := "<init>", desc := "(I)V" } : Jvm.MethodName)) ∈ lw_all := lw_g (lw_at lw_m1 6 rfl) rfl
theorem q19 : (Jvm.Cond.code ({ cls := "CapabilityServer", name := "<init>", desc := "(I)V" } : Jvm.MethodName) prog_1_method_1_code (2 : Nat) (Option.none : Option Jvm.ClassFile.FieldType)) ∈ lw_all := lw_g (lw_at lw_m1 7 rfl) rfl
theorem q20 : (Jvm.Cond.methodLink "CapabilityServer" (1 : Nat) ({ cls := "java/lang/Object", name := "<init>", desc := "()V" } : Jvm.MethodName)) ∈ lw_all := lw_g (lw_at lw_m1 8 rfl) rfl
theorem q23 : (Jvm.Cond.fieldLink "CapabilityServer" (7 : Nat) "CapabilityServer" "living" "[Z") ∈ lw_all := lw_g (lw_at lw_m1 11 rfl) rfl
theorem q24 : (Jvm.Cond.fieldLink "CapabilityServer" (13 : Nat) "CapabilityServer" "value" "[I") ∈ lw_all := lw_g (lw_at lw_m1 12 rfl) rfl
theorem q25 : (Jvm.Cond.fieldLink "CapabilityServer" (17 : Nat) "CapabilityServer" "secret" "[I") ∈ lw_all := lw_g (lw_at lw_m1 13 rfl) rfl
theorem q26 : (Jvm.Cond.fieldLink "CapabilityServer" (60 : Nat) "CapabilityServer" "secretsMade" "I") ∈ lw_all := lw_g (lw_at lw_m1 14 rfl) rfl
theorem q27 : (Jvm.Cond.fieldLink "CapabilityServer" (56 : Nat) "CapabilityServer" "secretSource" "I") ∈ lw_all := lw_g (lw_at lw_m1 15 rfl) rfl
theorem q28 : (Jvm.Cond.fieldLink "CapabilityServer" (20 : Nat) "CapabilityServer" "lastNumber" "[I") ∈ lw_all := lw_g (lw_at lw_m1 16 rfl) rfl
theorem q29 : (Jvm.Cond.fieldLink "CapabilityServer" (23 : Nat) "CapabilityServer" "hasAnswer" "[Z") ∈ lw_all := lw_g (lw_at lw_m1 17 rfl) rfl
theorem q30 : (Jvm.Cond.fieldLink "CapabilityServer" (26 : Nat) "CapabilityServer" "lastAnswer" "[I") ∈ lw_all := lw_g (lw_at lw_m1 18 rfl) rfl
theorem q31 : (Jvm.Cond.fieldLink "CapabilityServer" (29 : Nat) "CapabilityServer" "filled" "[Z") ∈ lw_all := lw_g (lw_at lw_m1 19 rfl) rfl
theorem q32 : (Jvm.Cond.fieldLink "CapabilityServer" (32 : Nat) "CapabilityServer" "objectOf" "[I") ∈ lw_all := lw_g (lw_at lw_m1 20 rfl) rfl
theorem q33 : (Jvm.Cond.fieldLink "CapabilityServer" (35 : Nat) "CapabilityServer" "rightsOf" "[I") ∈ lw_all := lw_g (lw_at lw_m1 21 rfl) rfl
theorem q34 : (Jvm.Cond.fieldLink "CapabilityServer" (38 : Nat) "CapabilityServer" "checkOf" "[I") ∈ lw_all := lw_g (lw_at lw_m1 22 rfl) rfl
theorem q35 : (Jvm.Cond.fieldLink "CapabilityServer" (41 : Nat) "CapabilityServer" "sentNumber" "[I") ∈ lw_all := lw_g (lw_at lw_m1 23 rfl) rfl
theorem q36 : (Jvm.Cond.fieldLink "CapabilityServer" (44 : Nat) "CapabilityServer" "sentOp" "[I") ∈ lw_all := lw_g (lw_at lw_m1 24 rfl) rfl
theorem q37 : (Jvm.Cond.fieldLink "CapabilityServer" (47 : Nat) "CapabilityServer" "sentSlot" "[I") ∈ lw_all := lw_g (lw_at lw_m1 25 rfl) rfl
theorem q38 : (Jvm.Cond.fieldLink "CapabilityServer" (50 : Nat) "CapabilityServer" "sentTo" "[I") ∈ lw_all := lw_g (lw_at lw_m1 26 rfl) rfl
theorem q39 : (Jvm.Cond.fieldLink "CapabilityServer" (53 : Nat) "CapabilityServer" "sentArgument" "[I") ∈ lw_all := lw_g (lw_at lw_m1 27 rfl) rfl
theorem q40 : (Jvm.Cond.laysFinal "CapabilityServer" "CapabilityServer" "living" "[Z") ∈ lw_all := lw_g (lw_at lw_m1 28 rfl) rfl
theorem q41 : (Jvm.Cond.soleField "CapabilityServer" "living") ∈ lw_all := lw_g (lw_at lw_m1 29 rfl) rfl
theorem q42 : (Jvm.Cond.laysFinal "CapabilityServer" "CapabilityServer" "value" "[I") ∈ lw_all := lw_g (lw_at lw_m1 30 rfl) rfl
theorem q43 : (Jvm.Cond.soleField "CapabilityServer" "value") ∈ lw_all := lw_g (lw_at lw_m1 31 rfl) rfl
theorem q44 : (Jvm.Cond.laysFinal "CapabilityServer" "CapabilityServer" "secret" "[I") ∈ lw_all := lw_g (lw_at lw_m1 32 rfl) rfl
theorem q45 : (Jvm.Cond.soleField "CapabilityServer" "secret") ∈ lw_all := lw_g (lw_at lw_m1 33 rfl) rfl
theorem q46 : (Jvm.Cond.lays "CapabilityServer" "CapabilityServer" "secretsMade" "I") ∈ lw_all := lw_g (lw_at lw_m1 34 rfl) rfl
theorem q47 : (Jvm.Cond.soleField "CapabilityServer" "secretsMade") ∈ lw_all := lw_g (lw_at lw_m1 35 rfl) rfl
theorem q48 : (Jvm.Cond.laysFinal "CapabilityServer" "CapabilityServer" "secretSource" "I") ∈ lw_all := lw_g (lw_at lw_m1 36 rfl) rfl
theorem q49 : (Jvm.Cond.soleField "CapabilityServer" "secretSource") ∈ lw_all := lw_g (lw_at lw_m1 37 rfl) rfl
theorem q50 : (Jvm.Cond.laysFinal "CapabilityServer" "CapabilityServer" "lastNumber" "[I") ∈ lw_all := lw_g (lw_at lw_m1 38 rfl) rfl
theorem q51 : (Jvm.Cond.soleField "CapabilityServer" "lastNumber") ∈ lw_all := lw_g (lw_at lw_m1 39 rfl) rfl
theorem q52 : (Jvm.Cond.laysFinal "CapabilityServer" "CapabilityServer" "hasAnswer" "[Z") ∈ lw_all := lw_g (lw_at lw_m1 40 rfl) rfl
theorem q53 : (Jvm.Cond.soleField "CapabilityServer" "hasAnswer") ∈ lw_all := lw_g (lw_at lw_m1 41 rfl) rfl
theorem q54 : (Jvm.Cond.laysFinal "CapabilityServer" "CapabilityServer" "lastAnswer" "[I") ∈ lw_all := lw_g (lw_at lw_m1 42 rfl) rfl
theorem q55 : (Jvm.Cond.soleField "CapabilityServer" "lastAnswer") ∈ lw_all := lw_g (lw_at lw_m1 43 rfl) rfl
theorem q56 : (Jvm.Cond.laysFinal "CapabilityServer" "CapabilityServer" "filled" "[Z") ∈ lw_all := lw_g (lw_at lw_m1 44 rfl) rfl
theorem q57 : (Jvm.Cond.soleField "CapabilityServer" "filled") ∈ lw_all := lw_g (lw_at lw_m1 45 rfl) rfl
theorem q58 : (Jvm.Cond.laysFinal "CapabilityServer" "CapabilityServer" "objectOf" "[I") ∈ lw_all := lw_g (lw_at lw_m1 46 rfl) rfl
theorem q59 : (Jvm.Cond.soleField "CapabilityServer" "objectOf") ∈ lw_all := lw_g (lw_at lw_m1 47 rfl) rfl
theorem q60 : (Jvm.Cond.laysFinal "CapabilityServer" "CapabilityServer" "rightsOf" "[I") ∈ lw_all := lw_g (lw_at lw_m1 48 rfl) rfl
theorem q61 : (Jvm.Cond.soleField "CapabilityServer" "rightsOf") ∈ lw_all := lw_g (lw_at lw_m1 49 rfl) rfl
theorem q62 : (Jvm.Cond.laysFinal "CapabilityServer" "CapabilityServer" "checkOf" "[I") ∈ lw_all := lw_g (lw_at lw_m1 50 rfl) rfl
theorem q63 : (Jvm.Cond.soleField "CapabilityServer" "checkOf") ∈ lw_all := lw_g (lw_at lw_m1 51 rfl) rfl
theorem q64 : (Jvm.Cond.laysFinal "CapabilityServer" "CapabilityServer" "sentNumber" "[I") ∈ lw_all := lw_g (lw_at lw_m1 52 rfl) rfl
theorem q65 : (Jvm.Cond.soleField "CapabilityServer" "sentNumber") ∈ lw_all := lw_g (lw_at lw_m1 53 rfl) rfl
theorem q66 : (Jvm.Cond.laysFinal "CapabilityServer" "CapabilityServer" "sentOp" "[I") ∈ lw_all := lw_g (lw_at lw_m1 54 rfl) rfl
theorem q67 : (Jvm.Cond.soleField "CapabilityServer" "sentOp") ∈ lw_all := lw_g (lw_at lw_m1 55 rfl) rfl
theorem q68 : (Jvm.Cond.laysFinal "CapabilityServer" "CapabilityServer" "sentSlot" "[I") ∈ lw_all := lw_g (lw_at lw_m1 56 rfl) rfl
theorem q69 : (Jvm.Cond.soleField "CapabilityServer" "sentSlot") ∈ lw_all := lw_g (lw_at lw_m1 57 rfl) rfl
theorem q70 : (Jvm.Cond.laysFinal "CapabilityServer" "CapabilityServer" "sentTo" "[I") ∈ lw_all := lw_g (lw_at lw_m1 58 rfl) rfl
theorem q71 : (Jvm.Cond.soleField "CapabilityServer" "sentTo") ∈ lw_all := lw_g (lw_at lw_m1 59 rfl) rfl
theorem q72 : (Jvm.Cond.laysFinal "CapabilityServer" "CapabilityServer" "sentArgument" "[I") ∈ lw_all := lw_g (lw_at lw_m1 60 rfl) rfl
theorem q73 : (Jvm.Cond.soleField "CapabilityServer" "sentArgument") ∈ lw_all := lw_g (lw_at lw_m1 61 rfl) rfl
theorem q74 : (Jvm.Cond.superclass "CapabilityServer" "java/lang/Object") ∈ lw_all := lw_g (lw_at lw_m1 62 rfl) rfl
theorem q78 : (Jvm.Cond.instanceMethod ({ cls := "CapabilityServer", name := "create", desc := "(II)I" } : Jvm.MethodName)) ∈ lw_all := lw_g (lw_at lw_m1 66 rfl) rfl
theorem q79 : (Jvm.Cond.selects "CapabilityServer" ({ cls := "CapabilityServer", name := "create", desc := "(II)I" } : Jvm.MethodName) ({ cls := "CapabilityServer", name := "create", desc := "(II)I" } : Jvm.MethodName)) ∈ lw_all := lw_g (lw_at lw_m1 67 rfl) rfl
theorem q80 : (Jvm.Cond.code ({ cls := "CapabilityServer", name := "create", desc := "(II)I" } : Jvm.MethodName) prog_1_method_14_code (3 : Nat) (Option.some Jvm.ClassFile.FieldType.int)) ∈ lw_all := lw_g (lw_at lw_m1 68 rfl) rfl
theorem q81 : (Jvm.Cond.methodLink "CapabilityServer" (106 : Nat) ({ cls := "CapabilityServer", name := "slotRequest", desc := "(IIII)I" } : Jvm.MethodName)) ∈ lw_all := lw_g (lw_at lw_m1 69 rfl) rfl
theorem q82 : (Jvm.Cond.privateMethod ({ cls := "CapabilityServer", name := "slotRequest", desc := "(IIII)I" } : Jvm.MethodName)) ∈ lw_tbl := lw_at lw_m1 70 rfl
theorem q83 : (Jvm.Cond.instanceMethod ({ cls := "CapabilityServer", name := "slotRequest", desc := "(IIII)I" } : Jvm.MethodName)) ∈ lw_all := lw_g (lw_at lw_m1 71 rfl) rfl
theorem q84 : (Jvm.Cond.code ({ cls := "CapabilityServer", name := "slotRequest", desc := "(IIII)I" } : Jvm.MethodName) prog_1_method_13_code (5 : Nat) (Option.some Jvm.ClassFile.FieldType.int)) ∈ lw_all := lw_g (lw_at lw_m1 72 rfl) rfl
theorem q85 : (Jvm.Cond.methodLink "CapabilityServer" (96 : Nat) ({ cls := "CapabilityServer", name := "badUser", desc := "(I)Z" } : Jvm.MethodName)) ∈ lw_all := lw_g (lw_at lw_m1 73 rfl) rfl
theorem q86 : (Jvm.Cond.static ({ cls := "CapabilityServer", name := "badUser", desc := "(I)Z" } : Jvm.MethodName)) ∈ lw_all := lw_g (lw_at lw_m1 74 rfl) rfl
theorem q87 : (Jvm.Cond.code ({ cls := "CapabilityServer", name := "badUser", desc := "(I)Z" } : Jvm.MethodName) prog_1_method_2_code (1 : Nat) (Option.some Jvm.ClassFile.FieldType.boolean)) ∈ lw_all := lw_g (lw_at lw_m1 75 rfl) rfl
theorem q88 : (Jvm.Cond.methodLink "CapabilityServer" (99 : Nat) ({ cls := "CapabilityServer", name := "badSlot", desc := "(I)Z" } : Jvm.MethodName)) ∈ lw_all := lw_g (lw_at lw_m1 76 rfl) rfl
theorem q89 : (Jvm.Cond.static ({ cls := "CapabilityServer", name := "badSlot", desc := "(I)Z" } : Jvm.MethodName)) ∈ lw_all := lw_g (lw_at lw_m1 77 rfl) rfl
theorem q90 : (Jvm.Cond.code ({ cls := "CapabilityServer", name := "badSlot", desc := "(I)Z" } : Jvm.MethodName) prog_1_method_3_code (1 : Nat) (Option.some Jvm.ClassFile.FieldType.boolean)) ∈ lw_all := lw_g (lw_at lw_m1 78 rfl) rfl
theorem q91 : (Jvm.Cond.methodLink "CapabilityServer" (102 : Nat) ({ cls := "CapabilityServer", name := "request", desc := "(IIIII)I" } : Jvm.MethodName)) ∈ lw_all := lw_g (lw_at lw_m1 79 rfl) rfl
theorem q92 : (Jvm.Cond.privateMethod ({ cls := "CapabilityServer", name := "request", desc := "(IIIII)I" } : Jvm.MethodName)) ∈ lw_tbl := lw_at lw_m1 80 rfl
theorem q93 : (Jvm.Cond.instanceMethod ({ cls := "CapabilityServer", name := "request", desc := "(IIIII)I" } : Jvm.MethodName)) ∈ lw_all := lw_g (lw_at lw_m1 81 rfl) rfl
theorem q94 : (Jvm.Cond.code ({ cls := "CapabilityServer", name := "request", desc := "(IIIII)I" } : Jvm.MethodName) prog_1_method_8_code (6 : Nat) (Option.some Jvm.ClassFile.FieldType.int)) ∈ lw_all := lw_g (lw_at lw_m1 82 rfl) rfl
theorem q95 : (Jvm.Cond.methodLink "CapabilityServer" (71 : Nat) ({ cls := "CapabilityServer", name := "receive", desc := "(I)I" } : Jvm.MethodName)) ∈ lw_all := lw_g (lw_at lw_m1 83 rfl) rfl
theorem q96 : (Jvm.Cond.privateMethod ({ cls := "CapabilityServer", name := "receive", desc := "(I)I" } : Jvm.MethodName)) ∈ lw_tbl := lw_at lw_m1 84 rfl
theorem q97 : (Jvm.Cond.instanceMethod ({ cls := "CapabilityServer", name := "receive", desc := "(I)I" } : Jvm.MethodName)) ∈ lw_all := lw_g (lw_at lw_m1 85 rfl) rfl
theorem q98 : (Jvm.Cond.code ({ cls := "CapabilityServer", name := "receive", desc := "(I)I" } : Jvm.MethodName) prog_1_method_9_code (2 : Nat) (Option.some Jvm.ClassFile.FieldType.int)) ∈ lw_all := lw_g (lw_at lw_m1 86 rfl) rfl
theorem q99 : (Jvm.Cond.methodLink "CapabilityServer" (74 : Nat) ({ cls := "CapabilityServer", name := "serve", desc := "(IIII)I" } : Jvm.MethodName)) ∈ lw_all := lw_g (lw_at lw_m1 87 rfl) rfl
theorem q100 : (Jvm.Cond.privateMethod ({ cls := "CapabilityServer", name := "serve", desc := "(IIII)I" } : Jvm.MethodName)) ∈ lw_tbl := lw_at lw_m1 88 rfl
theorem q101 : (Jvm.Cond.instanceMethod ({ cls := "CapabilityServer", name := "serve", desc := "(IIII)I" } : Jvm.MethodName)) ∈ lw_all := lw_g (lw_at lw_m1 89 rfl) rfl
theorem q102 : (Jvm.Cond.code ({ cls := "CapabilityServer", name := "serve", desc := "(IIII)I" } : Jvm.MethodName) prog_1_method_11_code (8 : Nat) (Option.some Jvm.ClassFile.FieldType.int)) ∈ lw_all := lw_g (lw_at lw_m1 90 rfl) rfl
theorem q103 : (Jvm.Cond.methodLink "CapabilityServer" (78 : Nat) ({ cls := "CapabilityServer", name := "serveCreate", desc := "(I)I" } : Jvm.MethodName)) ∈ lw_all := lw_g (lw_at lw_m1 91 rfl) rfl
theorem q104 : (Jvm.Cond.privateMethod ({ cls := "CapabilityServer", name := "serveCreate", desc := "(I)I" } : Jvm.MethodName)) ∈ lw_tbl := lw_at lw_m1 92 rfl
theorem q105 : (Jvm.Cond.instanceMethod ({ cls := "CapabilityServer", name := "serveCreate", desc := "(I)I" } : Jvm.MethodName)) ∈ lw_all := lw_g (lw_at lw_m1 93 rfl) rfl
theorem q106 : (Jvm.Cond.code ({ cls := "CapabilityServer", name := "serveCreate", desc := "(I)I" } : Jvm.MethodName) prog_1_method_12_code (3 : Nat) (Option.some Jvm.ClassFile.FieldType.int)) ∈ lw_all := lw_g (lw_at lw_m1 94 rfl) rfl
theorem q107 : (Jvm.Cond.methodLink "CapabilityServer" (88 : Nat) ({ cls := "CapabilityServer", name := "newSecret", desc := "()I" } : Jvm.MethodName)) ∈ lw_all := lw_g (lw_at lw_m1 95 rfl) rfl
theorem q108 : (Jvm.Cond.privateMethod ({ cls := "CapabilityServer", name := "newSecret", desc := "()I" } : Jvm.MethodName)) ∈ lw_tbl := lw_at lw_m1 96 rfl
theorem q109 : (Jvm.Cond.instanceMethod ({ cls := "CapabilityServer", name := "newSecret", desc := "()I" } : Jvm.MethodName)) ∈ lw_all := lw_g (lw_at lw_m1 97 rfl) rfl
theorem q110 : (Jvm.Cond.code ({ cls := "CapabilityServer", name := "newSecret", desc := "()I" } : Jvm.MethodName) prog_1_method_4_code (1 : Nat) (Option.some Jvm.ClassFile.FieldType.int)) ∈ lw_all := lw_g (lw_at lw_m1 98 rfl) rfl
theorem q111 : (Jvm.Cond.constant "CapabilityServer" (63 : Nat) (41358785 : Int32)) ∈ lw_all := lw_g (lw_at lw_m1 99 rfl) rfl
theorem q112 : (Jvm.Cond.methodLink "CapabilityServer" (92 : Nat) ({ cls := "CapabilityServer", name := "give", desc := "(III)V" } : Jvm.MethodName)) ∈ lw_all := lw_g (lw_at lw_m1 100 rfl) rfl
theorem q113 : (Jvm.Cond.privateMethod ({ cls := "CapabilityServer", name := "give", desc := "(III)V" } : Jvm.MethodName)) ∈ lw_tbl := lw_at lw_m1 101 rfl
theorem q114 : (Jvm.Cond.instanceMethod ({ cls := "CapabilityServer", name := "give", desc := "(III)V" } : Jvm.MethodName)) ∈ lw_all := lw_g (lw_at lw_m1 102 rfl) rfl
theorem q115 : (Jvm.Cond.code ({ cls := "CapabilityServer", name := "give", desc := "(III)V" } : Jvm.MethodName) prog_1_method_7_code (4 : Nat) (Option.none : Option Jvm.ClassFile.FieldType)) ∈ lw_all := lw_g (lw_at lw_m1 103 rfl) rfl
theorem q116 : (Jvm.Cond.methodLink "CapabilityServer" (67 : Nat) ({ cls := "CapabilityServer", name := "mix", desc := "(I)I" } : Jvm.MethodName)) ∈ lw_all := lw_g (lw_at lw_m1 104 rfl) rfl
theorem q117 : (Jvm.Cond.static ({ cls := "CapabilityServer", name := "mix", desc := "(I)I" } : Jvm.MethodName)) ∈ lw_all := lw_g (lw_at lw_m1 105 rfl) rfl
theorem q118 : (Jvm.Cond.code ({ cls := "CapabilityServer", name := "mix", desc := "(I)I" } : Jvm.MethodName) prog_1_method_5_code (2 : Nat) (Option.some Jvm.ClassFile.FieldType.int)) ∈ lw_all := lw_g (lw_at lw_m1 106 rfl) rfl
theorem q119 : (Jvm.Cond.constant "CapabilityServer" (64 : Nat) (1540483477 : Int32)) ∈ lw_all := lw_g (lw_at lw_m1 107 rfl) rfl
theorem q120 : (Jvm.Cond.constant "CapabilityServer" (65 : Nat) (668265263 : Int32)) ∈ lw_all := lw_g (lw_at lw_m1 108 rfl) rfl
theorem q121 : (Jvm.Cond.constant "CapabilityServer" (66 : Nat) (374761393 : Int32)) ∈ lw_all := lw_g (lw_at lw_m1 109 rfl) rfl
theorem q122 : (Jvm.Cond.methodLink "CapabilityServer" (81 : Nat) ({ cls := "CapabilityServer", name := "valid", desc := "(I)Z" } : Jvm.MethodName)) ∈ lw_all := lw_g (lw_at lw_m1 110 rfl) rfl
theorem q123 : (Jvm.Cond.privateMethod ({ cls := "CapabilityServer", name := "valid", desc := "(I)Z" } : Jvm.MethodName)) ∈ lw_tbl := lw_at lw_m1 111 rfl
theorem q124 : (Jvm.Cond.instanceMethod ({ cls := "CapabilityServer", name := "valid", desc := "(I)Z" } : Jvm.MethodName)) ∈ lw_all := lw_g (lw_at lw_m1 112 rfl) rfl
theorem q125 : (Jvm.Cond.code ({ cls := "CapabilityServer", name := "valid", desc := "(I)Z" } : Jvm.MethodName) prog_1_method_6_code (4 : Nat) (Option.some Jvm.ClassFile.FieldType.boolean)) ∈ lw_all := lw_g (lw_at lw_m1 113 rfl) rfl
theorem q126 : (Jvm.Cond.methodLink "CapabilityServer" (85 : Nat) ({ cls := "CapabilityServer", name := "needed", desc := "(I)I" } : Jvm.MethodName)) ∈ lw_all := lw_g (lw_at lw_m1 114 rfl) rfl
theorem q127 : (Jvm.Cond.static ({ cls := "CapabilityServer", name := "needed", desc := "(I)I" } : Jvm.MethodName)) ∈ lw_all := lw_g (lw_at lw_m1 115 rfl) rfl
theorem q128 : (Jvm.Cond.code ({ cls := "CapabilityServer", name := "needed", desc := "(I)I" } : Jvm.MethodName) prog_1_method_10_code (1 : Nat) (Option.some Jvm.ClassFile.FieldType.int)) ∈ lw_all := lw_g (lw_at lw_m1 116 rfl) rfl
theorem q130 : (Jvm.Cond.instanceMethod ({ cls := "CapabilityServer", name := "read", desc := "(II)I" } : Jvm.MethodName)) ∈ lw_all := lw_g (lw_at lw_m1 118 rfl) rfl
theorem q131 : (Jvm.Cond.selects "CapabilityServer" ({ cls := "CapabilityServer", name := "read", desc := "(II)I" } : Jvm.MethodName) ({ cls := "CapabilityServer", name := "read", desc := "(II)I" } : Jvm.MethodName)) ∈ lw_all := lw_g (lw_at lw_m1 119 rfl) rfl
theorem q132 : (Jvm.Cond.code ({ cls := "CapabilityServer", name := "read", desc := "(II)I" } : Jvm.MethodName) prog_1_method_15_code (3 : Nat) (Option.some Jvm.ClassFile.FieldType.int)) ∈ lw_all := lw_g (lw_at lw_m1 120 rfl) rfl
theorem q134 : (Jvm.Cond.instanceMethod ({ cls := "CapabilityServer", name := "add", desc := "(III)I" } : Jvm.MethodName)) ∈ lw_all := lw_g (lw_at lw_m1 122 rfl) rfl
theorem q135 : (Jvm.Cond.selects "CapabilityServer" ({ cls := "CapabilityServer", name := "add", desc := "(III)I" } : Jvm.MethodName) ({ cls := "CapabilityServer", name := "add", desc := "(III)I" } : Jvm.MethodName)) ∈ lw_all := lw_g (lw_at lw_m1 123 rfl) rfl
theorem q136 : (Jvm.Cond.code ({ cls := "CapabilityServer", name := "add", desc := "(III)I" } : Jvm.MethodName) prog_1_method_16_code (4 : Nat) (Option.some Jvm.ClassFile.FieldType.int)) ∈ lw_all := lw_g (lw_at lw_m1 124 rfl) rfl
theorem q138 : (Jvm.Cond.instanceMethod ({ cls := "CapabilityServer", name := "destroy", desc := "(II)I" } : Jvm.MethodName)) ∈ lw_all := lw_g (lw_at lw_m1 126 rfl) rfl
theorem q139 : (Jvm.Cond.selects "CapabilityServer" ({ cls := "CapabilityServer", name := "destroy", desc := "(II)I" } : Jvm.MethodName) ({ cls := "CapabilityServer", name := "destroy", desc := "(II)I" } : Jvm.MethodName)) ∈ lw_all := lw_g (lw_at lw_m1 127 rfl) rfl
theorem q140 : (Jvm.Cond.code ({ cls := "CapabilityServer", name := "destroy", desc := "(II)I" } : Jvm.MethodName) prog_1_method_17_code (3 : Nat) (Option.some Jvm.ClassFile.FieldType.int)) ∈ lw_all := lw_g (lw_at lw_m1 128 rfl) rfl
theorem q142 : (Jvm.Cond.instanceMethod ({ cls := "CapabilityServer", name := "revoke", desc := "(II)I" } : Jvm.MethodName)) ∈ lw_all := lw_g (lw_at lw_m1 130 rfl) rfl
theorem q143 : (Jvm.Cond.selects "CapabilityServer" ({ cls := "CapabilityServer", name := "revoke", desc := "(II)I" } : Jvm.MethodName) ({ cls := "CapabilityServer", name := "revoke", desc := "(II)I" } : Jvm.MethodName)) ∈ lw_all := lw_g (lw_at lw_m1 131 rfl) rfl
theorem q144 : (Jvm.Cond.code ({ cls := "CapabilityServer", name := "revoke", desc := "(II)I" } : Jvm.MethodName) prog_1_method_18_code (3 : Nat) (Option.some Jvm.ClassFile.FieldType.int)) ∈ lw_all := lw_g (lw_at lw_m1 132 rfl) rfl
theorem q146 : (Jvm.Cond.instanceMethod ({ cls := "CapabilityServer", name := "restrict", desc := "(IIII)I" } : Jvm.MethodName)) ∈ lw_all := lw_g (lw_at lw_m1 134 rfl) rfl
theorem q147 : (Jvm.Cond.selects "CapabilityServer" ({ cls := "CapabilityServer", name := "restrict", desc := "(IIII)I" } : Jvm.MethodName) ({ cls := "CapabilityServer", name := "restrict", desc := "(IIII)I" } : Jvm.MethodName)) ∈ lw_all := lw_g (lw_at lw_m1 135 rfl) rfl
theorem q148 : (Jvm.Cond.code ({ cls := "CapabilityServer", name := "restrict", desc := "(IIII)I" } : Jvm.MethodName) prog_1_method_19_code (5 : Nat) (Option.some Jvm.ClassFile.FieldType.int)) ∈ lw_all := lw_g (lw_at lw_m1 136 rfl) rfl
theorem q150 : (Jvm.Cond.instanceMethod ({ cls := "CapabilityServer", name := "again", desc := "(I)I" } : Jvm.MethodName)) ∈ lw_all := lw_g (lw_at lw_m1 138 rfl) rfl
theorem q151 : (Jvm.Cond.selects "CapabilityServer" ({ cls := "CapabilityServer", name := "again", desc := "(I)I" } : Jvm.MethodName) ({ cls := "CapabilityServer", name := "again", desc := "(I)I" } : Jvm.MethodName)) ∈ lw_all := lw_g (lw_at lw_m1 139 rfl) rfl
theorem q152 : (Jvm.Cond.code ({ cls := "CapabilityServer", name := "again", desc := "(I)I" } : Jvm.MethodName) prog_1_method_20_code (2 : Nat) (Option.some Jvm.ClassFile.FieldType.int)) ∈ lw_all := lw_g (lw_at lw_m1 140 rfl) rfl
theorem q154 : (Jvm.Cond.instanceMethod ({ cls := "CapabilityServer", name := "copy", desc := "(III)I" } : Jvm.MethodName)) ∈ lw_all := lw_g (lw_at lw_m1 142 rfl) rfl
theorem q155 : (Jvm.Cond.selects "CapabilityServer" ({ cls := "CapabilityServer", name := "copy", desc := "(III)I" } : Jvm.MethodName) ({ cls := "CapabilityServer", name := "copy", desc := "(III)I" } : Jvm.MethodName)) ∈ lw_all := lw_g (lw_at lw_m1 143 rfl) rfl
theorem q156 : (Jvm.Cond.code ({ cls := "CapabilityServer", name := "copy", desc := "(III)I" } : Jvm.MethodName) prog_1_method_21_code (6 : Nat) (Option.some Jvm.ClassFile.FieldType.int)) ∈ lw_all := lw_g (lw_at lw_m1 144 rfl) rfl
theorem q158 : (Jvm.Cond.instanceMethod ({ cls := "CapabilityServer", name := "tamper", desc := "(III)I" } : Jvm.MethodName)) ∈ lw_all := lw_g (lw_at lw_m1 146 rfl) rfl
theorem q159 : (Jvm.Cond.selects "CapabilityServer" ({ cls := "CapabilityServer", name := "tamper", desc := "(III)I" } : Jvm.MethodName) ({ cls := "CapabilityServer", name := "tamper", desc := "(III)I" } : Jvm.MethodName)) ∈ lw_all := lw_g (lw_at lw_m1 147 rfl) rfl
theorem q160 : (Jvm.Cond.code ({ cls := "CapabilityServer", name := "tamper", desc := "(III)I" } : Jvm.MethodName) prog_1_method_22_code (5 : Nat) (Option.some Jvm.ClassFile.FieldType.int)) ∈ lw_all := lw_g (lw_at lw_m1 148 rfl) rfl
theorem q162 : (Jvm.Cond.instanceMethod ({ cls := "CapabilityServer", name := "clear", desc := "(II)I" } : Jvm.MethodName)) ∈ lw_all := lw_g (lw_at lw_m1 150 rfl) rfl
theorem q163 : (Jvm.Cond.selects "CapabilityServer" ({ cls := "CapabilityServer", name := "clear", desc := "(II)I" } : Jvm.MethodName) ({ cls := "CapabilityServer", name := "clear", desc := "(II)I" } : Jvm.MethodName)) ∈ lw_all := lw_g (lw_at lw_m1 151 rfl) rfl
theorem q164 : (Jvm.Cond.code ({ cls := "CapabilityServer", name := "clear", desc := "(II)I" } : Jvm.MethodName) prog_1_method_23_code (5 : Nat) (Option.some Jvm.ClassFile.FieldType.int)) ∈ lw_all := lw_g (lw_at lw_m1 152 rfl) rfl
theorem q166 : (Jvm.Cond.instanceMethod ({ cls := "CapabilityServer", name := "restart", desc := "()V" } : Jvm.MethodName)) ∈ lw_all := lw_g (lw_at lw_m1 154 rfl) rfl
theorem q167 : (Jvm.Cond.selects "CapabilityServer" ({ cls := "CapabilityServer", name := "restart", desc := "()V" } : Jvm.MethodName) ({ cls := "CapabilityServer", name := "restart", desc := "()V" } : Jvm.MethodName)) ∈ lw_all := lw_g (lw_at lw_m1 155 rfl) rfl
theorem q168 : (Jvm.Cond.code ({ cls := "CapabilityServer", name := "restart", desc := "()V" } : Jvm.MethodName) prog_1_method_24_code (2 : Nat) (Option.none : Option Jvm.ClassFile.FieldType)) ∈ lw_all := lw_g (lw_at lw_m1 156 rfl) rfl
theorem q170 : (Jvm.Cond.instanceMethod ({ cls := "CapabilityServer", name := "genuine", desc := "(II)Z" } : Jvm.MethodName)) ∈ lw_all := lw_g (lw_at lw_m1 158 rfl) rfl
theorem q171 : (Jvm.Cond.selects "CapabilityServer" ({ cls := "CapabilityServer", name := "genuine", desc := "(II)Z" } : Jvm.MethodName) ({ cls := "CapabilityServer", name := "genuine", desc := "(II)Z" } : Jvm.MethodName)) ∈ lw_all := lw_g (lw_at lw_m1 159 rfl) rfl
theorem q172 : (Jvm.Cond.code ({ cls := "CapabilityServer", name := "genuine", desc := "(II)Z" } : Jvm.MethodName) prog_1_method_25_code (3 : Nat) (Option.some Jvm.ClassFile.FieldType.boolean)) ∈ lw_all := lw_g (lw_at lw_m1 160 rfl) rfl
theorem q174 : (Jvm.Cond.instanceMethod ({ cls := "CapabilityServer", name := "rights", desc := "(II)I" } : Jvm.MethodName)) ∈ lw_all := lw_g (lw_at lw_m1 162 rfl) rfl
theorem q175 : (Jvm.Cond.selects "CapabilityServer" ({ cls := "CapabilityServer", name := "rights", desc := "(II)I" } : Jvm.MethodName) ({ cls := "CapabilityServer", name := "rights", desc := "(II)I" } : Jvm.MethodName)) ∈ lw_all := lw_g (lw_at lw_m1 163 rfl) rfl
theorem q176 : (Jvm.Cond.code ({ cls := "CapabilityServer", name := "rights", desc := "(II)I" } : Jvm.MethodName) prog_1_method_26_code (4 : Nat) (Option.some Jvm.ClassFile.FieldType.int)) ∈ lw_all := lw_g (lw_at lw_m1 164 rfl) rfl
theorem q178 : (Jvm.Cond.instanceMethod ({ cls := "CapabilityServer", name := "alive", desc := "()I" } : Jvm.MethodName)) ∈ lw_all := lw_g (lw_at lw_m1 166 rfl) rfl
theorem q179 : (Jvm.Cond.selects "CapabilityServer" ({ cls := "CapabilityServer", name := "alive", desc := "()I" } : Jvm.MethodName) ({ cls := "CapabilityServer", name := "alive", desc := "()I" } : Jvm.MethodName)) ∈ lw_all := lw_g (lw_at lw_m1 167 rfl) rfl
theorem q180 : (Jvm.Cond.code ({ cls := "CapabilityServer", name := "alive", desc := "()I" } : Jvm.MethodName) prog_1_method_27_code (3 : Nat) (Option.some Jvm.ClassFile.FieldType.int)) ∈ lw_all := lw_g (lw_at lw_m1 168 rfl) rfl
theorem in_X1 : ∀ w ∈ wsX10, w ∈ lw_all := lw_in wsX10 [40, 42, 44, 46, 48, 50, 52, 54, 56, 58, 60, 62, 64, 66, 68, 70, 72] (by decide +kernel) (by decide +kernel)
/-! java/lang/Object -/
set_option maxRecDepth 100000
def RJ0 : String := "java/lang/Object"
abbrev cJ0_init : ByteArray := object_method_1_code
def yJ0_init : MethodName := ⟨RJ0, "<init>", "()V"⟩
theorem dJ0_init_0 : decode cJ0_init 0 = .ok (.return_, 1) := by decide +kernel
theorem q21 : (Jvm.Cond.instanceMethod ({ cls := "java/lang/Object", name := "<init>", desc := "()V" } : Jvm.MethodName)) ∈ lw_all := lw_g (lw_at lw_m1 9 rfl) rfl
theorem q22 : (Jvm.Cond.code ({ cls := "java/lang/Object", name := "<init>", desc := "()V" } : Jvm.MethodName) object_method_1_code (1 : Nat) (Option.none : Option Jvm.ClassFile.FieldType)) ∈ lw_all := lw_g (lw_at lw_m1 10 rfl) rfl
theorem q75 : (Jvm.Cond.arrayClass Jvm.ClassFile.FieldType.boolean) ∈ lw_all := lw_g (lw_at lw_m1 63 rfl) rfl
set_option maxRecDepth 100000
theorem q76 : (Jvm.Cond.arrayClass Jvm.ClassFile.FieldType.int) ∈ lw_all := lw_g (lw_at lw_m1 64 rfl) rfl
end
section
/-! CapabilityServerModel -/
set_option maxRecDepth 100000
def RX2 : String := "CapabilityServerModel"
def TX2 : u_T := fun k => match k with
  | 0 => ("CapabilityServerModel", "living", "[Z", true)
  | 1 => ("CapabilityServerModel", "values", "[I", true)
  | 2 => ("CapabilityServerModel", "rounds", "[I", true)
  | 3 => ("CapabilityServerModel", "held", "[Z", true)
  | 4 => ("CapabilityServerModel", "givenObject", "[I", true)
  | 5 => ("CapabilityServerModel", "givenRights", "[I", true)
  | 6 => ("CapabilityServerModel", "givenRound", "[I", true)
  | 7 => ("CapabilityServerModel", "nowObject", "[I", true)
  | 8 => ("CapabilityServerModel", "nowRights", "[I", true)
  | 9 => ("CapabilityServerModel", "known", "[Z", true)
  | _ => ("CapabilityServerModel", "last", "[I", true)
def tyX2 : Nat → FieldType := fun k => match k with
  | 0 => .array .boolean
  | 1 => .array .int
  | 2 => .array .int
  | 3 => .array .boolean
  | 4 => .array .int
  | 5 => .array .int
  | 6 => .array .int
  | 7 => .array .int
  | 8 => .array .int
  | 9 => .array .boolean
  | _ => .array .int
abbrev wsX20 : List Cond := u_ws RX2 TX2 11
theorem nmX2 : ∀ a, a < 11 → ∀ b, b < 11 → a ≠ b → (TX2 a).2.1 ≠ (TX2 b).2.1 := by decide +kernel
theorem tyX2_ok : ∀ k, k < 11 → parseFieldDescriptor (TX2 k).2.2.1 = some (tyX2 k) := by decide +kernel
abbrev cX2_init : ByteArray := prog_3_method_1_code
def yX2_init : MethodName := ⟨RX2, "<init>", "(I)V"⟩
theorem dX2_init_0 : decode cX2_init 0 = .ok (.aload_n 0, 1) := by decide +kernel
theorem dX2_init_1 : decode cX2_init 1 = .ok (.invokespecial 1, 3) := by decide +kernel
theorem dX2_init_4 : decode cX2_init 4 = .ok (.aload_n 0, 1) := by decide +kernel
theorem dX2_init_5 : decode cX2_init 5 = .ok (.bipush 8, 2) := by decide +kernel
theorem dX2_init_7 : decode cX2_init 7 = .ok (.newarray .boolean, 2) := by decide +kernel
theorem dX2_init_9 : decode cX2_init 9 = .ok (.putfield 7, 3) := by decide +kernel
theorem dX2_init_12 : decode cX2_init 12 = .ok (.aload_n 0, 1) := by decide +kernel
theorem dX2_init_13 : decode cX2_init 13 = .ok (.bipush 8, 2) := by decide +kernel
theorem dX2_init_15 : decode cX2_init 15 = .ok (.newarray .int, 2) := by decide +kernel
theorem dX2_init_17 : decode cX2_init 17 = .ok (.putfield 13, 3) := by decide +kernel
theorem dX2_init_20 : decode cX2_init 20 = .ok (.aload_n 0, 1) := by decide +kernel
theorem dX2_init_21 : decode cX2_init 21 = .ok (.bipush 8, 2) := by decide +kernel
theorem dX2_init_23 : decode cX2_init 23 = .ok (.newarray .int, 2) := by decide +kernel
theorem dX2_init_25 : decode cX2_init 25 = .ok (.putfield 17, 3) := by decide +kernel
theorem dX2_init_28 : decode cX2_init 28 = .ok (.aload_n 0, 1) := by decide +kernel
theorem dX2_init_29 : decode cX2_init 29 = .ok (.bipush 16, 2) := by decide +kernel
theorem dX2_init_31 : decode cX2_init 31 = .ok (.newarray .boolean, 2) := by decide +kernel
theorem dX2_init_33 : decode cX2_init 33 = .ok (.putfield 20, 3) := by decide +kernel
theorem dX2_init_36 : decode cX2_init 36 = .ok (.aload_n 0, 1) := by decide +kernel
theorem dX2_init_37 : decode cX2_init 37 = .ok (.bipush 16, 2) := by decide +kernel
theorem dX2_init_39 : decode cX2_init 39 = .ok (.newarray .int, 2) := by decide +kernel
theorem dX2_init_41 : decode cX2_init 41 = .ok (.putfield 23, 3) := by decide +kernel
theorem dX2_init_44 : decode cX2_init 44 = .ok (.aload_n 0, 1) := by decide +kernel
theorem dX2_init_45 : decode cX2_init 45 = .ok (.bipush 16, 2) := by decide +kernel
theorem dX2_init_47 : decode cX2_init 47 = .ok (.newarray .int, 2) := by decide +kernel
theorem dX2_init_49 : decode cX2_init 49 = .ok (.putfield 26, 3) := by decide +kernel
theorem dX2_init_52 : decode cX2_init 52 = .ok (.aload_n 0, 1) := by decide +kernel
theorem dX2_init_53 : decode cX2_init 53 = .ok (.bipush 16, 2) := by decide +kernel
theorem dX2_init_55 : decode cX2_init 55 = .ok (.newarray .int, 2) := by decide +kernel
theorem dX2_init_57 : decode cX2_init 57 = .ok (.putfield 29, 3) := by decide +kernel
theorem dX2_init_60 : decode cX2_init 60 = .ok (.aload_n 0, 1) := by decide +kernel
theorem dX2_init_61 : decode cX2_init 61 = .ok (.bipush 16, 2) := by decide +kernel
theorem dX2_init_63 : decode cX2_init 63 = .ok (.newarray .int, 2) := by decide +kernel
theorem dX2_init_65 : decode cX2_init 65 = .ok (.putfield 32, 3) := by decide +kernel
theorem dX2_init_68 : decode cX2_init 68 = .ok (.aload_n 0, 1) := by decide +kernel
theorem dX2_init_69 : decode cX2_init 69 = .ok (.bipush 16, 2) := by decide +kernel
theorem dX2_init_71 : decode cX2_init 71 = .ok (.newarray .int, 2) := by decide +kernel
theorem dX2_init_73 : decode cX2_init 73 = .ok (.putfield 35, 3) := by decide +kernel
theorem dX2_init_76 : decode cX2_init 76 = .ok (.aload_n 0, 1) := by decide +kernel
theorem dX2_init_77 : decode cX2_init 77 = .ok (.iconst 2, 1) := by decide +kernel
theorem dX2_init_78 : decode cX2_init 78 = .ok (.newarray .boolean, 2) := by decide +kernel
theorem dX2_init_80 : decode cX2_init 80 = .ok (.putfield 38, 3) := by decide +kernel
theorem dX2_init_83 : decode cX2_init 83 = .ok (.aload_n 0, 1) := by decide +kernel
theorem dX2_init_84 : decode cX2_init 84 = .ok (.iconst 2, 1) := by decide +kernel
theorem dX2_init_85 : decode cX2_init 85 = .ok (.newarray .int, 2) := by decide +kernel
theorem dX2_init_87 : decode cX2_init 87 = .ok (.putfield 41, 3) := by decide +kernel
theorem dX2_init_90 : decode cX2_init 90 = .ok (.return_, 1) := by decide +kernel
abbrev cX2_create : ByteArray := prog_3_method_6_code
def yX2_create : MethodName := ⟨RX2, "create", "(II)I"⟩
theorem dX2_create_0 : decode cX2_create 0 = .ok (.aload_n 0, 1) := by decide +kernel
theorem dX2_create_1 : decode cX2_create 1 = .ok (.iload_n 1, 1) := by decide +kernel
theorem dX2_create_2 : decode cX2_create 2 = .ok (.iload_n 2, 1) := by decide +kernel
theorem dX2_create_3 : decode cX2_create 3 = .ok (.invokevirtual 48, 3) := by decide +kernel
theorem dX2_create_6 : decode cX2_create 6 = .ok (.istore_n 3, 1) := by decide +kernel
theorem dX2_create_7 : decode cX2_create 7 = .ok (.iload_n 3, 1) := by decide +kernel
theorem dX2_create_8 : decode cX2_create 8 = .ok (.ifCond .ge 5, 3) := by decide +kernel
theorem dX2_create_11 : decode cX2_create 11 = .ok (.iload_n 3, 1) := by decide +kernel
theorem dX2_create_12 : decode cX2_create 12 = .ok (.ireturn, 1) := by decide +kernel
theorem dX2_create_13 : decode cX2_create 13 = .ok (.iconst 0, 1) := by decide +kernel
theorem dX2_create_14 : decode cX2_create 14 = .ok (.istore 4, 2) := by decide +kernel
theorem dX2_create_16 : decode cX2_create 16 = .ok (.iload 4, 2) := by decide +kernel
theorem dX2_create_18 : decode cX2_create 18 = .ok (.bipush 8, 2) := by decide +kernel
theorem dX2_create_20 : decode cX2_create 20 = .ok (.if_icmp .ge 68, 3) := by decide +kernel
theorem dX2_create_23 : decode cX2_create 23 = .ok (.aload_n 0, 1) := by decide +kernel
theorem dX2_create_24 : decode cX2_create 24 = .ok (.getfield 7, 3) := by decide +kernel
theorem dX2_create_27 : decode cX2_create 27 = .ok (.iload 4, 2) := by decide +kernel
theorem dX2_create_29 : decode cX2_create 29 = .ok (.baload, 1) := by decide +kernel
theorem dX2_create_30 : decode cX2_create 30 = .ok (.ifCond .ne 52, 3) := by decide +kernel
theorem dX2_create_33 : decode cX2_create 33 = .ok (.aload_n 0, 1) := by decide +kernel
theorem dX2_create_34 : decode cX2_create 34 = .ok (.getfield 7, 3) := by decide +kernel
theorem dX2_create_37 : decode cX2_create 37 = .ok (.iload 4, 2) := by decide +kernel
theorem dX2_create_39 : decode cX2_create 39 = .ok (.iconst 1, 1) := by decide +kernel
theorem dX2_create_40 : decode cX2_create 40 = .ok (.bastore, 1) := by decide +kernel
theorem dX2_create_41 : decode cX2_create 41 = .ok (.aload_n 0, 1) := by decide +kernel
theorem dX2_create_42 : decode cX2_create 42 = .ok (.getfield 13, 3) := by decide +kernel
theorem dX2_create_45 : decode cX2_create 45 = .ok (.iload 4, 2) := by decide +kernel
theorem dX2_create_47 : decode cX2_create 47 = .ok (.iconst 0, 1) := by decide +kernel
theorem dX2_create_48 : decode cX2_create 48 = .ok (.iastore, 1) := by decide +kernel
theorem dX2_create_49 : decode cX2_create 49 = .ok (.aload_n 0, 1) := by decide +kernel
theorem dX2_create_50 : decode cX2_create 50 = .ok (.getfield 17, 3) := by decide +kernel
theorem dX2_create_53 : decode cX2_create 53 = .ok (.iload 4, 2) := by decide +kernel
theorem dX2_create_55 : decode cX2_create 55 = .ok (.dup2, 1) := by decide +kernel
theorem dX2_create_56 : decode cX2_create 56 = .ok (.iaload, 1) := by decide +kernel
theorem dX2_create_57 : decode cX2_create 57 = .ok (.iconst 1, 1) := by decide +kernel
theorem dX2_create_58 : decode cX2_create 58 = .ok (.iadd, 1) := by decide +kernel
theorem dX2_create_59 : decode cX2_create 59 = .ok (.iastore, 1) := by decide +kernel
theorem dX2_create_60 : decode cX2_create 60 = .ok (.aload_n 0, 1) := by decide +kernel
theorem dX2_create_61 : decode cX2_create 61 = .ok (.iload_n 1, 1) := by decide +kernel
theorem dX2_create_62 : decode cX2_create 62 = .ok (.bipush 8, 2) := by decide +kernel
theorem dX2_create_64 : decode cX2_create 64 = .ok (.imul, 1) := by decide +kernel
theorem dX2_create_65 : decode cX2_create 65 = .ok (.iload_n 2, 1) := by decide +kernel
theorem dX2_create_66 : decode cX2_create 66 = .ok (.iadd, 1) := by decide +kernel
theorem dX2_create_67 : decode cX2_create 67 = .ok (.iload 4, 2) := by decide +kernel
theorem dX2_create_69 : decode cX2_create 69 = .ok (.bipush 15, 2) := by decide +kernel
theorem dX2_create_71 : decode cX2_create 71 = .ok (.invokevirtual 52, 3) := by decide +kernel
theorem dX2_create_74 : decode cX2_create 74 = .ok (.aload_n 0, 1) := by decide +kernel
theorem dX2_create_75 : decode cX2_create 75 = .ok (.iload_n 1, 1) := by decide +kernel
theorem dX2_create_76 : decode cX2_create 76 = .ok (.iload 4, 2) := by decide +kernel
theorem dX2_create_78 : decode cX2_create 78 = .ok (.invokevirtual 56, 3) := by decide +kernel
theorem dX2_create_81 : decode cX2_create 81 = .ok (.ireturn, 1) := by decide +kernel
theorem dX2_create_82 : decode cX2_create 82 = .ok (.iinc 4 1, 3) := by decide +kernel
theorem dX2_create_85 : decode cX2_create 85 = .ok (.goto (-69), 3) := by decide +kernel
theorem dX2_create_88 : decode cX2_create 88 = .ok (.aload_n 0, 1) := by decide +kernel
theorem dX2_create_89 : decode cX2_create 89 = .ok (.iload_n 1, 1) := by decide +kernel
theorem dX2_create_90 : decode cX2_create 90 = .ok (.bipush (-4), 2) := by decide +kernel
theorem dX2_create_92 : decode cX2_create 92 = .ok (.invokevirtual 56, 3) := by decide +kernel
theorem dX2_create_95 : decode cX2_create 95 = .ok (.ireturn, 1) := by decide +kernel
abbrev cX2_refusal : ByteArray := prog_3_method_2_code
def yX2_refusal : MethodName := ⟨RX2, "refusal", "(II)I"⟩
theorem dX2_refusal_0 : decode cX2_refusal 0 = .ok (.iload_n 1, 1) := by decide +kernel
theorem dX2_refusal_1 : decode cX2_refusal 1 = .ok (.ifCond .eq 10, 3) := by decide +kernel
theorem dX2_refusal_4 : decode cX2_refusal 4 = .ok (.iload_n 1, 1) := by decide +kernel
theorem dX2_refusal_5 : decode cX2_refusal 5 = .ok (.iconst 1, 1) := by decide +kernel
theorem dX2_refusal_6 : decode cX2_refusal 6 = .ok (.if_icmp .eq 5, 3) := by decide +kernel
theorem dX2_refusal_9 : decode cX2_refusal 9 = .ok (.iconst (-1), 1) := by decide +kernel
theorem dX2_refusal_10 : decode cX2_refusal 10 = .ok (.ireturn, 1) := by decide +kernel
theorem dX2_refusal_11 : decode cX2_refusal 11 = .ok (.iload_n 2, 1) := by decide +kernel
theorem dX2_refusal_12 : decode cX2_refusal 12 = .ok (.ifCond .lt 9, 3) := by decide +kernel
theorem dX2_refusal_15 : decode cX2_refusal 15 = .ok (.iload_n 2, 1) := by decide +kernel
theorem dX2_refusal_16 : decode cX2_refusal 16 = .ok (.bipush 7, 2) := by decide +kernel
theorem dX2_refusal_18 : decode cX2_refusal 18 = .ok (.if_icmp .le 8, 3) := by decide +kernel
theorem dX2_refusal_21 : decode cX2_refusal 21 = .ok (.bipush (-2), 2) := by decide +kernel
theorem dX2_refusal_23 : decode cX2_refusal 23 = .ok (.goto 4, 3) := by decide +kernel
theorem dX2_refusal_26 : decode cX2_refusal 26 = .ok (.iconst 0, 1) := by decide +kernel
theorem dX2_refusal_27 : decode cX2_refusal 27 = .ok (.ireturn, 1) := by decide +kernel
abbrev cX2_give : ByteArray := prog_3_method_4_code
def yX2_give : MethodName := ⟨RX2, "give", "(III)V"⟩
theorem dX2_give_0 : decode cX2_give 0 = .ok (.aload_n 0, 1) := by decide +kernel
theorem dX2_give_1 : decode cX2_give 1 = .ok (.getfield 20, 3) := by decide +kernel
theorem dX2_give_4 : decode cX2_give 4 = .ok (.iload_n 1, 1) := by decide +kernel
theorem dX2_give_5 : decode cX2_give 5 = .ok (.iconst 1, 1) := by decide +kernel
theorem dX2_give_6 : decode cX2_give 6 = .ok (.bastore, 1) := by decide +kernel
theorem dX2_give_7 : decode cX2_give 7 = .ok (.aload_n 0, 1) := by decide +kernel
theorem dX2_give_8 : decode cX2_give 8 = .ok (.getfield 23, 3) := by decide +kernel
theorem dX2_give_11 : decode cX2_give 11 = .ok (.iload_n 1, 1) := by decide +kernel
theorem dX2_give_12 : decode cX2_give 12 = .ok (.iload_n 2, 1) := by decide +kernel
theorem dX2_give_13 : decode cX2_give 13 = .ok (.iastore, 1) := by decide +kernel
theorem dX2_give_14 : decode cX2_give 14 = .ok (.aload_n 0, 1) := by decide +kernel
theorem dX2_give_15 : decode cX2_give 15 = .ok (.getfield 26, 3) := by decide +kernel
theorem dX2_give_18 : decode cX2_give 18 = .ok (.iload_n 1, 1) := by decide +kernel
theorem dX2_give_19 : decode cX2_give 19 = .ok (.iload_n 3, 1) := by decide +kernel
theorem dX2_give_20 : decode cX2_give 20 = .ok (.iastore, 1) := by decide +kernel
theorem dX2_give_21 : decode cX2_give 21 = .ok (.aload_n 0, 1) := by decide +kernel
theorem dX2_give_22 : decode cX2_give 22 = .ok (.getfield 29, 3) := by decide +kernel
theorem dX2_give_25 : decode cX2_give 25 = .ok (.iload_n 1, 1) := by decide +kernel
theorem dX2_give_26 : decode cX2_give 26 = .ok (.aload_n 0, 1) := by decide +kernel
theorem dX2_give_27 : decode cX2_give 27 = .ok (.getfield 17, 3) := by decide +kernel
theorem dX2_give_30 : decode cX2_give 30 = .ok (.iload_n 2, 1) := by decide +kernel
theorem dX2_give_31 : decode cX2_give 31 = .ok (.iaload, 1) := by decide +kernel
theorem dX2_give_32 : decode cX2_give 32 = .ok (.iastore, 1) := by decide +kernel
theorem dX2_give_33 : decode cX2_give 33 = .ok (.aload_n 0, 1) := by decide +kernel
theorem dX2_give_34 : decode cX2_give 34 = .ok (.getfield 32, 3) := by decide +kernel
theorem dX2_give_37 : decode cX2_give 37 = .ok (.iload_n 1, 1) := by decide +kernel
theorem dX2_give_38 : decode cX2_give 38 = .ok (.iload_n 2, 1) := by decide +kernel
theorem dX2_give_39 : decode cX2_give 39 = .ok (.iastore, 1) := by decide +kernel
theorem dX2_give_40 : decode cX2_give 40 = .ok (.aload_n 0, 1) := by decide +kernel
theorem dX2_give_41 : decode cX2_give 41 = .ok (.getfield 35, 3) := by decide +kernel
theorem dX2_give_44 : decode cX2_give 44 = .ok (.iload_n 1, 1) := by decide +kernel
theorem dX2_give_45 : decode cX2_give 45 = .ok (.iload_n 3, 1) := by decide +kernel
theorem dX2_give_46 : decode cX2_give 46 = .ok (.iastore, 1) := by decide +kernel
theorem dX2_give_47 : decode cX2_give 47 = .ok (.return_, 1) := by decide +kernel
abbrev cX2_answered : ByteArray := prog_3_method_3_code
def yX2_answered : MethodName := ⟨RX2, "answered", "(II)I"⟩
theorem dX2_answered_0 : decode cX2_answered 0 = .ok (.aload_n 0, 1) := by decide +kernel
theorem dX2_answered_1 : decode cX2_answered 1 = .ok (.getfield 38, 3) := by decide +kernel
theorem dX2_answered_4 : decode cX2_answered 4 = .ok (.iload_n 1, 1) := by decide +kernel
theorem dX2_answered_5 : decode cX2_answered 5 = .ok (.iconst 1, 1) := by decide +kernel
theorem dX2_answered_6 : decode cX2_answered 6 = .ok (.bastore, 1) := by decide +kernel
theorem dX2_answered_7 : decode cX2_answered 7 = .ok (.aload_n 0, 1) := by decide +kernel
theorem dX2_answered_8 : decode cX2_answered 8 = .ok (.getfield 41, 3) := by decide +kernel
theorem dX2_answered_11 : decode cX2_answered 11 = .ok (.iload_n 1, 1) := by decide +kernel
theorem dX2_answered_12 : decode cX2_answered 12 = .ok (.iload_n 2, 1) := by decide +kernel
theorem dX2_answered_13 : decode cX2_answered 13 = .ok (.iastore, 1) := by decide +kernel
theorem dX2_answered_14 : decode cX2_answered 14 = .ok (.iload_n 2, 1) := by decide +kernel
theorem dX2_answered_15 : decode cX2_answered 15 = .ok (.ireturn, 1) := by decide +kernel
abbrev cX2_read : ByteArray := prog_3_method_7_code
def yX2_read : MethodName := ⟨RX2, "read", "(II)I"⟩
theorem dX2_read_0 : decode cX2_read 0 = .ok (.aload_n 0, 1) := by decide +kernel
theorem dX2_read_1 : decode cX2_read 1 = .ok (.iload_n 1, 1) := by decide +kernel
theorem dX2_read_2 : decode cX2_read 2 = .ok (.iload_n 2, 1) := by decide +kernel
theorem dX2_read_3 : decode cX2_read 3 = .ok (.invokevirtual 48, 3) := by decide +kernel
theorem dX2_read_6 : decode cX2_read 6 = .ok (.istore_n 3, 1) := by decide +kernel
theorem dX2_read_7 : decode cX2_read 7 = .ok (.iload_n 3, 1) := by decide +kernel
theorem dX2_read_8 : decode cX2_read 8 = .ok (.ifCond .ge 5, 3) := by decide +kernel
theorem dX2_read_11 : decode cX2_read 11 = .ok (.iload_n 3, 1) := by decide +kernel
theorem dX2_read_12 : decode cX2_read 12 = .ok (.ireturn, 1) := by decide +kernel
theorem dX2_read_13 : decode cX2_read 13 = .ok (.aload_n 0, 1) := by decide +kernel
theorem dX2_read_14 : decode cX2_read 14 = .ok (.iload_n 1, 1) := by decide +kernel
theorem dX2_read_15 : decode cX2_read 15 = .ok (.iload_n 2, 1) := by decide +kernel
theorem dX2_read_16 : decode cX2_read 16 = .ok (.iconst 1, 1) := by decide +kernel
theorem dX2_read_17 : decode cX2_read 17 = .ok (.invokevirtual 59, 3) := by decide +kernel
theorem dX2_read_20 : decode cX2_read 20 = .ok (.ifCond .ne 11, 3) := by decide +kernel
theorem dX2_read_23 : decode cX2_read 23 = .ok (.aload_n 0, 1) := by decide +kernel
theorem dX2_read_24 : decode cX2_read 24 = .ok (.iload_n 1, 1) := by decide +kernel
theorem dX2_read_25 : decode cX2_read 25 = .ok (.bipush (-3), 2) := by decide +kernel
theorem dX2_read_27 : decode cX2_read 27 = .ok (.invokevirtual 56, 3) := by decide +kernel
theorem dX2_read_30 : decode cX2_read 30 = .ok (.ireturn, 1) := by decide +kernel
theorem dX2_read_31 : decode cX2_read 31 = .ok (.aload_n 0, 1) := by decide +kernel
theorem dX2_read_32 : decode cX2_read 32 = .ok (.iload_n 1, 1) := by decide +kernel
theorem dX2_read_33 : decode cX2_read 33 = .ok (.aload_n 0, 1) := by decide +kernel
theorem dX2_read_34 : decode cX2_read 34 = .ok (.getfield 13, 3) := by decide +kernel
theorem dX2_read_37 : decode cX2_read 37 = .ok (.aload_n 0, 1) := by decide +kernel
theorem dX2_read_38 : decode cX2_read 38 = .ok (.getfield 32, 3) := by decide +kernel
theorem dX2_read_41 : decode cX2_read 41 = .ok (.iload_n 1, 1) := by decide +kernel
theorem dX2_read_42 : decode cX2_read 42 = .ok (.bipush 8, 2) := by decide +kernel
theorem dX2_read_44 : decode cX2_read 44 = .ok (.imul, 1) := by decide +kernel
theorem dX2_read_45 : decode cX2_read 45 = .ok (.iload_n 2, 1) := by decide +kernel
theorem dX2_read_46 : decode cX2_read 46 = .ok (.iadd, 1) := by decide +kernel
theorem dX2_read_47 : decode cX2_read 47 = .ok (.iaload, 1) := by decide +kernel
theorem dX2_read_48 : decode cX2_read 48 = .ok (.iaload, 1) := by decide +kernel
theorem dX2_read_49 : decode cX2_read 49 = .ok (.invokevirtual 56, 3) := by decide +kernel
theorem dX2_read_52 : decode cX2_read 52 = .ok (.ireturn, 1) := by decide +kernel
abbrev cX2_allows : ByteArray := prog_3_method_5_code
def yX2_allows : MethodName := ⟨RX2, "allows", "(III)Z"⟩
theorem dX2_allows_0 : decode cX2_allows 0 = .ok (.aload_n 0, 1) := by decide +kernel
theorem dX2_allows_1 : decode cX2_allows 1 = .ok (.iload_n 1, 1) := by decide +kernel
theorem dX2_allows_2 : decode cX2_allows 2 = .ok (.iload_n 2, 1) := by decide +kernel
theorem dX2_allows_3 : decode cX2_allows 3 = .ok (.invokevirtual 44, 3) := by decide +kernel
theorem dX2_allows_6 : decode cX2_allows 6 = .ok (.ifCond .eq 24, 3) := by decide +kernel
theorem dX2_allows_9 : decode cX2_allows 9 = .ok (.aload_n 0, 1) := by decide +kernel
theorem dX2_allows_10 : decode cX2_allows 10 = .ok (.getfield 35, 3) := by decide +kernel
theorem dX2_allows_13 : decode cX2_allows 13 = .ok (.iload_n 1, 1) := by decide +kernel
theorem dX2_allows_14 : decode cX2_allows 14 = .ok (.bipush 8, 2) := by decide +kernel
theorem dX2_allows_16 : decode cX2_allows 16 = .ok (.imul, 1) := by decide +kernel
theorem dX2_allows_17 : decode cX2_allows 17 = .ok (.iload_n 2, 1) := by decide +kernel
theorem dX2_allows_18 : decode cX2_allows 18 = .ok (.iadd, 1) := by decide +kernel
theorem dX2_allows_19 : decode cX2_allows 19 = .ok (.iaload, 1) := by decide +kernel
theorem dX2_allows_20 : decode cX2_allows 20 = .ok (.iload_n 3, 1) := by decide +kernel
theorem dX2_allows_21 : decode cX2_allows 21 = .ok (.iand, 1) := by decide +kernel
theorem dX2_allows_22 : decode cX2_allows 22 = .ok (.iload_n 3, 1) := by decide +kernel
theorem dX2_allows_23 : decode cX2_allows 23 = .ok (.if_icmp .ne 7, 3) := by decide +kernel
theorem dX2_allows_26 : decode cX2_allows 26 = .ok (.iconst 1, 1) := by decide +kernel
theorem dX2_allows_27 : decode cX2_allows 27 = .ok (.goto 4, 3) := by decide +kernel
theorem dX2_allows_30 : decode cX2_allows 30 = .ok (.iconst 0, 1) := by decide +kernel
theorem dX2_allows_31 : decode cX2_allows 31 = .ok (.ireturn, 1) := by decide +kernel
abbrev cX2_genuine : ByteArray := prog_3_method_17_code
def yX2_genuine : MethodName := ⟨RX2, "genuine", "(II)Z"⟩
theorem dX2_genuine_0 : decode cX2_genuine 0 = .ok (.aload_n 0, 1) := by decide +kernel
theorem dX2_genuine_1 : decode cX2_genuine 1 = .ok (.iload_n 1, 1) := by decide +kernel
theorem dX2_genuine_2 : decode cX2_genuine 2 = .ok (.iload_n 2, 1) := by decide +kernel
theorem dX2_genuine_3 : decode cX2_genuine 3 = .ok (.invokevirtual 48, 3) := by decide +kernel
theorem dX2_genuine_6 : decode cX2_genuine 6 = .ok (.ifCond .ge 5, 3) := by decide +kernel
theorem dX2_genuine_9 : decode cX2_genuine 9 = .ok (.iconst 0, 1) := by decide +kernel
theorem dX2_genuine_10 : decode cX2_genuine 10 = .ok (.ireturn, 1) := by decide +kernel
theorem dX2_genuine_11 : decode cX2_genuine 11 = .ok (.iload_n 1, 1) := by decide +kernel
theorem dX2_genuine_12 : decode cX2_genuine 12 = .ok (.bipush 8, 2) := by decide +kernel
theorem dX2_genuine_14 : decode cX2_genuine 14 = .ok (.imul, 1) := by decide +kernel
theorem dX2_genuine_15 : decode cX2_genuine 15 = .ok (.iload_n 2, 1) := by decide +kernel
theorem dX2_genuine_16 : decode cX2_genuine 16 = .ok (.iadd, 1) := by decide +kernel
theorem dX2_genuine_17 : decode cX2_genuine 17 = .ok (.istore_n 3, 1) := by decide +kernel
theorem dX2_genuine_18 : decode cX2_genuine 18 = .ok (.aload_n 0, 1) := by decide +kernel
theorem dX2_genuine_19 : decode cX2_genuine 19 = .ok (.getfield 20, 3) := by decide +kernel
theorem dX2_genuine_22 : decode cX2_genuine 22 = .ok (.iload_n 3, 1) := by decide +kernel
theorem dX2_genuine_23 : decode cX2_genuine 23 = .ok (.baload, 1) := by decide +kernel
theorem dX2_genuine_24 : decode cX2_genuine 24 = .ok (.ifCond .eq 33, 3) := by decide +kernel
theorem dX2_genuine_27 : decode cX2_genuine 27 = .ok (.aload_n 0, 1) := by decide +kernel
theorem dX2_genuine_28 : decode cX2_genuine 28 = .ok (.getfield 32, 3) := by decide +kernel
theorem dX2_genuine_31 : decode cX2_genuine 31 = .ok (.iload_n 3, 1) := by decide +kernel
theorem dX2_genuine_32 : decode cX2_genuine 32 = .ok (.iaload, 1) := by decide +kernel
theorem dX2_genuine_33 : decode cX2_genuine 33 = .ok (.aload_n 0, 1) := by decide +kernel
theorem dX2_genuine_34 : decode cX2_genuine 34 = .ok (.getfield 23, 3) := by decide +kernel
theorem dX2_genuine_37 : decode cX2_genuine 37 = .ok (.iload_n 3, 1) := by decide +kernel
theorem dX2_genuine_38 : decode cX2_genuine 38 = .ok (.iaload, 1) := by decide +kernel
theorem dX2_genuine_39 : decode cX2_genuine 39 = .ok (.if_icmp .ne 18, 3) := by decide +kernel
theorem dX2_genuine_42 : decode cX2_genuine 42 = .ok (.aload_n 0, 1) := by decide +kernel
theorem dX2_genuine_43 : decode cX2_genuine 43 = .ok (.getfield 35, 3) := by decide +kernel
theorem dX2_genuine_46 : decode cX2_genuine 46 = .ok (.iload_n 3, 1) := by decide +kernel
theorem dX2_genuine_47 : decode cX2_genuine 47 = .ok (.iaload, 1) := by decide +kernel
theorem dX2_genuine_48 : decode cX2_genuine 48 = .ok (.aload_n 0, 1) := by decide +kernel
theorem dX2_genuine_49 : decode cX2_genuine 49 = .ok (.getfield 26, 3) := by decide +kernel
theorem dX2_genuine_52 : decode cX2_genuine 52 = .ok (.iload_n 3, 1) := by decide +kernel
theorem dX2_genuine_53 : decode cX2_genuine 53 = .ok (.iaload, 1) := by decide +kernel
theorem dX2_genuine_54 : decode cX2_genuine 54 = .ok (.if_icmp .eq 5, 3) := by decide +kernel
theorem dX2_genuine_57 : decode cX2_genuine 57 = .ok (.iconst 0, 1) := by decide +kernel
theorem dX2_genuine_58 : decode cX2_genuine 58 = .ok (.ireturn, 1) := by decide +kernel
theorem dX2_genuine_59 : decode cX2_genuine 59 = .ok (.aload_n 0, 1) := by decide +kernel
theorem dX2_genuine_60 : decode cX2_genuine 60 = .ok (.getfield 7, 3) := by decide +kernel
theorem dX2_genuine_63 : decode cX2_genuine 63 = .ok (.aload_n 0, 1) := by decide +kernel
theorem dX2_genuine_64 : decode cX2_genuine 64 = .ok (.getfield 32, 3) := by decide +kernel
theorem dX2_genuine_67 : decode cX2_genuine 67 = .ok (.iload_n 3, 1) := by decide +kernel
theorem dX2_genuine_68 : decode cX2_genuine 68 = .ok (.iaload, 1) := by decide +kernel
theorem dX2_genuine_69 : decode cX2_genuine 69 = .ok (.baload, 1) := by decide +kernel
theorem dX2_genuine_70 : decode cX2_genuine 70 = .ok (.ifCond .eq 27, 3) := by decide +kernel
theorem dX2_genuine_73 : decode cX2_genuine 73 = .ok (.aload_n 0, 1) := by decide +kernel
theorem dX2_genuine_74 : decode cX2_genuine 74 = .ok (.getfield 17, 3) := by decide +kernel
theorem dX2_genuine_77 : decode cX2_genuine 77 = .ok (.aload_n 0, 1) := by decide +kernel
theorem dX2_genuine_78 : decode cX2_genuine 78 = .ok (.getfield 32, 3) := by decide +kernel
theorem dX2_genuine_81 : decode cX2_genuine 81 = .ok (.iload_n 3, 1) := by decide +kernel
theorem dX2_genuine_82 : decode cX2_genuine 82 = .ok (.iaload, 1) := by decide +kernel
theorem dX2_genuine_83 : decode cX2_genuine 83 = .ok (.iaload, 1) := by decide +kernel
theorem dX2_genuine_84 : decode cX2_genuine 84 = .ok (.aload_n 0, 1) := by decide +kernel
theorem dX2_genuine_85 : decode cX2_genuine 85 = .ok (.getfield 29, 3) := by decide +kernel
theorem dX2_genuine_88 : decode cX2_genuine 88 = .ok (.iload_n 3, 1) := by decide +kernel
theorem dX2_genuine_89 : decode cX2_genuine 89 = .ok (.iaload, 1) := by decide +kernel
theorem dX2_genuine_90 : decode cX2_genuine 90 = .ok (.if_icmp .ne 7, 3) := by decide +kernel
theorem dX2_genuine_93 : decode cX2_genuine 93 = .ok (.iconst 1, 1) := by decide +kernel
theorem dX2_genuine_94 : decode cX2_genuine 94 = .ok (.goto 4, 3) := by decide +kernel
theorem dX2_genuine_97 : decode cX2_genuine 97 = .ok (.iconst 0, 1) := by decide +kernel
theorem dX2_genuine_98 : decode cX2_genuine 98 = .ok (.ireturn, 1) := by decide +kernel
abbrev cX2_add : ByteArray := prog_3_method_8_code
def yX2_add : MethodName := ⟨RX2, "add", "(III)I"⟩
theorem dX2_add_0 : decode cX2_add 0 = .ok (.aload_n 0, 1) := by decide +kernel
theorem dX2_add_1 : decode cX2_add 1 = .ok (.iload_n 1, 1) := by decide +kernel
theorem dX2_add_2 : decode cX2_add 2 = .ok (.iload_n 2, 1) := by decide +kernel
theorem dX2_add_3 : decode cX2_add 3 = .ok (.invokevirtual 48, 3) := by decide +kernel
theorem dX2_add_6 : decode cX2_add 6 = .ok (.istore 4, 2) := by decide +kernel
theorem dX2_add_8 : decode cX2_add 8 = .ok (.iload 4, 2) := by decide +kernel
theorem dX2_add_10 : decode cX2_add 10 = .ok (.ifCond .ge 6, 3) := by decide +kernel
theorem dX2_add_13 : decode cX2_add 13 = .ok (.iload 4, 2) := by decide +kernel
theorem dX2_add_15 : decode cX2_add 15 = .ok (.ireturn, 1) := by decide +kernel
theorem dX2_add_16 : decode cX2_add 16 = .ok (.aload_n 0, 1) := by decide +kernel
theorem dX2_add_17 : decode cX2_add 17 = .ok (.iload_n 1, 1) := by decide +kernel
theorem dX2_add_18 : decode cX2_add 18 = .ok (.iload_n 2, 1) := by decide +kernel
theorem dX2_add_19 : decode cX2_add 19 = .ok (.iconst 2, 1) := by decide +kernel
theorem dX2_add_20 : decode cX2_add 20 = .ok (.invokevirtual 59, 3) := by decide +kernel
theorem dX2_add_23 : decode cX2_add 23 = .ok (.ifCond .ne 11, 3) := by decide +kernel
theorem dX2_add_26 : decode cX2_add 26 = .ok (.aload_n 0, 1) := by decide +kernel
theorem dX2_add_27 : decode cX2_add 27 = .ok (.iload_n 1, 1) := by decide +kernel
theorem dX2_add_28 : decode cX2_add 28 = .ok (.bipush (-3), 2) := by decide +kernel
theorem dX2_add_30 : decode cX2_add 30 = .ok (.invokevirtual 56, 3) := by decide +kernel
theorem dX2_add_33 : decode cX2_add 33 = .ok (.ireturn, 1) := by decide +kernel
theorem dX2_add_34 : decode cX2_add 34 = .ok (.aload_n 0, 1) := by decide +kernel
theorem dX2_add_35 : decode cX2_add 35 = .ok (.getfield 32, 3) := by decide +kernel
theorem dX2_add_38 : decode cX2_add 38 = .ok (.iload_n 1, 1) := by decide +kernel
theorem dX2_add_39 : decode cX2_add 39 = .ok (.bipush 8, 2) := by decide +kernel
theorem dX2_add_41 : decode cX2_add 41 = .ok (.imul, 1) := by decide +kernel
theorem dX2_add_42 : decode cX2_add 42 = .ok (.iload_n 2, 1) := by decide +kernel
theorem dX2_add_43 : decode cX2_add 43 = .ok (.iadd, 1) := by decide +kernel
theorem dX2_add_44 : decode cX2_add 44 = .ok (.iaload, 1) := by decide +kernel
theorem dX2_add_45 : decode cX2_add 45 = .ok (.istore 5, 2) := by decide +kernel
theorem dX2_add_47 : decode cX2_add 47 = .ok (.aload_n 0, 1) := by decide +kernel
theorem dX2_add_48 : decode cX2_add 48 = .ok (.getfield 13, 3) := by decide +kernel
theorem dX2_add_51 : decode cX2_add 51 = .ok (.iload 5, 2) := by decide +kernel
theorem dX2_add_53 : decode cX2_add 53 = .ok (.dup2, 1) := by decide +kernel
theorem dX2_add_54 : decode cX2_add 54 = .ok (.iaload, 1) := by decide +kernel
theorem dX2_add_55 : decode cX2_add 55 = .ok (.iload_n 3, 1) := by decide +kernel
theorem dX2_add_56 : decode cX2_add 56 = .ok (.iadd, 1) := by decide +kernel
theorem dX2_add_57 : decode cX2_add 57 = .ok (.iastore, 1) := by decide +kernel
theorem dX2_add_58 : decode cX2_add 58 = .ok (.aload_n 0, 1) := by decide +kernel
theorem dX2_add_59 : decode cX2_add 59 = .ok (.iload_n 1, 1) := by decide +kernel
theorem dX2_add_60 : decode cX2_add 60 = .ok (.aload_n 0, 1) := by decide +kernel
theorem dX2_add_61 : decode cX2_add 61 = .ok (.getfield 13, 3) := by decide +kernel
theorem dX2_add_64 : decode cX2_add 64 = .ok (.iload 5, 2) := by decide +kernel
theorem dX2_add_66 : decode cX2_add 66 = .ok (.iaload, 1) := by decide +kernel
theorem dX2_add_67 : decode cX2_add 67 = .ok (.invokevirtual 56, 3) := by decide +kernel
theorem dX2_add_70 : decode cX2_add 70 = .ok (.ireturn, 1) := by decide +kernel
abbrev cX2_destroy : ByteArray := prog_3_method_9_code
def yX2_destroy : MethodName := ⟨RX2, "destroy", "(II)I"⟩
theorem dX2_destroy_0 : decode cX2_destroy 0 = .ok (.aload_n 0, 1) := by decide +kernel
theorem dX2_destroy_1 : decode cX2_destroy 1 = .ok (.iload_n 1, 1) := by decide +kernel
theorem dX2_destroy_2 : decode cX2_destroy 2 = .ok (.iload_n 2, 1) := by decide +kernel
theorem dX2_destroy_3 : decode cX2_destroy 3 = .ok (.invokevirtual 48, 3) := by decide +kernel
theorem dX2_destroy_6 : decode cX2_destroy 6 = .ok (.istore_n 3, 1) := by decide +kernel
theorem dX2_destroy_7 : decode cX2_destroy 7 = .ok (.iload_n 3, 1) := by decide +kernel
theorem dX2_destroy_8 : decode cX2_destroy 8 = .ok (.ifCond .ge 5, 3) := by decide +kernel
theorem dX2_destroy_11 : decode cX2_destroy 11 = .ok (.iload_n 3, 1) := by decide +kernel
theorem dX2_destroy_12 : decode cX2_destroy 12 = .ok (.ireturn, 1) := by decide +kernel
theorem dX2_destroy_13 : decode cX2_destroy 13 = .ok (.aload_n 0, 1) := by decide +kernel
theorem dX2_destroy_14 : decode cX2_destroy 14 = .ok (.iload_n 1, 1) := by decide +kernel
theorem dX2_destroy_15 : decode cX2_destroy 15 = .ok (.iload_n 2, 1) := by decide +kernel
theorem dX2_destroy_16 : decode cX2_destroy 16 = .ok (.iconst 4, 1) := by decide +kernel
theorem dX2_destroy_17 : decode cX2_destroy 17 = .ok (.invokevirtual 59, 3) := by decide +kernel
theorem dX2_destroy_20 : decode cX2_destroy 20 = .ok (.ifCond .ne 11, 3) := by decide +kernel
theorem dX2_destroy_23 : decode cX2_destroy 23 = .ok (.aload_n 0, 1) := by decide +kernel
theorem dX2_destroy_24 : decode cX2_destroy 24 = .ok (.iload_n 1, 1) := by decide +kernel
theorem dX2_destroy_25 : decode cX2_destroy 25 = .ok (.bipush (-3), 2) := by decide +kernel
theorem dX2_destroy_27 : decode cX2_destroy 27 = .ok (.invokevirtual 56, 3) := by decide +kernel
theorem dX2_destroy_30 : decode cX2_destroy 30 = .ok (.ireturn, 1) := by decide +kernel
theorem dX2_destroy_31 : decode cX2_destroy 31 = .ok (.aload_n 0, 1) := by decide +kernel
theorem dX2_destroy_32 : decode cX2_destroy 32 = .ok (.getfield 7, 3) := by decide +kernel
theorem dX2_destroy_35 : decode cX2_destroy 35 = .ok (.aload_n 0, 1) := by decide +kernel
theorem dX2_destroy_36 : decode cX2_destroy 36 = .ok (.getfield 32, 3) := by decide +kernel
theorem dX2_destroy_39 : decode cX2_destroy 39 = .ok (.iload_n 1, 1) := by decide +kernel
theorem dX2_destroy_40 : decode cX2_destroy 40 = .ok (.bipush 8, 2) := by decide +kernel
theorem dX2_destroy_42 : decode cX2_destroy 42 = .ok (.imul, 1) := by decide +kernel
theorem dX2_destroy_43 : decode cX2_destroy 43 = .ok (.iload_n 2, 1) := by decide +kernel
theorem dX2_destroy_44 : decode cX2_destroy 44 = .ok (.iadd, 1) := by decide +kernel
theorem dX2_destroy_45 : decode cX2_destroy 45 = .ok (.iaload, 1) := by decide +kernel
theorem dX2_destroy_46 : decode cX2_destroy 46 = .ok (.iconst 0, 1) := by decide +kernel
theorem dX2_destroy_47 : decode cX2_destroy 47 = .ok (.bastore, 1) := by decide +kernel
theorem dX2_destroy_48 : decode cX2_destroy 48 = .ok (.aload_n 0, 1) := by decide +kernel
theorem dX2_destroy_49 : decode cX2_destroy 49 = .ok (.iload_n 1, 1) := by decide +kernel
theorem dX2_destroy_50 : decode cX2_destroy 50 = .ok (.iconst 0, 1) := by decide +kernel
theorem dX2_destroy_51 : decode cX2_destroy 51 = .ok (.invokevirtual 56, 3) := by decide +kernel
theorem dX2_destroy_54 : decode cX2_destroy 54 = .ok (.ireturn, 1) := by decide +kernel
abbrev cX2_revoke : ByteArray := prog_3_method_10_code
def yX2_revoke : MethodName := ⟨RX2, "revoke", "(II)I"⟩
theorem dX2_revoke_0 : decode cX2_revoke 0 = .ok (.aload_n 0, 1) := by decide +kernel
theorem dX2_revoke_1 : decode cX2_revoke 1 = .ok (.iload_n 1, 1) := by decide +kernel
theorem dX2_revoke_2 : decode cX2_revoke 2 = .ok (.iload_n 2, 1) := by decide +kernel
theorem dX2_revoke_3 : decode cX2_revoke 3 = .ok (.invokevirtual 48, 3) := by decide +kernel
theorem dX2_revoke_6 : decode cX2_revoke 6 = .ok (.istore_n 3, 1) := by decide +kernel
theorem dX2_revoke_7 : decode cX2_revoke 7 = .ok (.iload_n 3, 1) := by decide +kernel
theorem dX2_revoke_8 : decode cX2_revoke 8 = .ok (.ifCond .ge 5, 3) := by decide +kernel
theorem dX2_revoke_11 : decode cX2_revoke 11 = .ok (.iload_n 3, 1) := by decide +kernel
theorem dX2_revoke_12 : decode cX2_revoke 12 = .ok (.ireturn, 1) := by decide +kernel
theorem dX2_revoke_13 : decode cX2_revoke 13 = .ok (.aload_n 0, 1) := by decide +kernel
theorem dX2_revoke_14 : decode cX2_revoke 14 = .ok (.iload_n 1, 1) := by decide +kernel
theorem dX2_revoke_15 : decode cX2_revoke 15 = .ok (.iload_n 2, 1) := by decide +kernel
theorem dX2_revoke_16 : decode cX2_revoke 16 = .ok (.bipush 8, 2) := by decide +kernel
theorem dX2_revoke_18 : decode cX2_revoke 18 = .ok (.invokevirtual 59, 3) := by decide +kernel
theorem dX2_revoke_21 : decode cX2_revoke 21 = .ok (.ifCond .ne 11, 3) := by decide +kernel
theorem dX2_revoke_24 : decode cX2_revoke 24 = .ok (.aload_n 0, 1) := by decide +kernel
theorem dX2_revoke_25 : decode cX2_revoke 25 = .ok (.iload_n 1, 1) := by decide +kernel
theorem dX2_revoke_26 : decode cX2_revoke 26 = .ok (.bipush (-3), 2) := by decide +kernel
theorem dX2_revoke_28 : decode cX2_revoke 28 = .ok (.invokevirtual 56, 3) := by decide +kernel
theorem dX2_revoke_31 : decode cX2_revoke 31 = .ok (.ireturn, 1) := by decide +kernel
theorem dX2_revoke_32 : decode cX2_revoke 32 = .ok (.iload_n 1, 1) := by decide +kernel
theorem dX2_revoke_33 : decode cX2_revoke 33 = .ok (.bipush 8, 2) := by decide +kernel
theorem dX2_revoke_35 : decode cX2_revoke 35 = .ok (.imul, 1) := by decide +kernel
theorem dX2_revoke_36 : decode cX2_revoke 36 = .ok (.iload_n 2, 1) := by decide +kernel
theorem dX2_revoke_37 : decode cX2_revoke 37 = .ok (.iadd, 1) := by decide +kernel
theorem dX2_revoke_38 : decode cX2_revoke 38 = .ok (.istore 4, 2) := by decide +kernel
theorem dX2_revoke_40 : decode cX2_revoke 40 = .ok (.aload_n 0, 1) := by decide +kernel
theorem dX2_revoke_41 : decode cX2_revoke 41 = .ok (.getfield 17, 3) := by decide +kernel
theorem dX2_revoke_44 : decode cX2_revoke 44 = .ok (.aload_n 0, 1) := by decide +kernel
theorem dX2_revoke_45 : decode cX2_revoke 45 = .ok (.getfield 32, 3) := by decide +kernel
theorem dX2_revoke_48 : decode cX2_revoke 48 = .ok (.iload 4, 2) := by decide +kernel
theorem dX2_revoke_50 : decode cX2_revoke 50 = .ok (.iaload, 1) := by decide +kernel
theorem dX2_revoke_51 : decode cX2_revoke 51 = .ok (.dup2, 1) := by decide +kernel
theorem dX2_revoke_52 : decode cX2_revoke 52 = .ok (.iaload, 1) := by decide +kernel
theorem dX2_revoke_53 : decode cX2_revoke 53 = .ok (.iconst 1, 1) := by decide +kernel
theorem dX2_revoke_54 : decode cX2_revoke 54 = .ok (.iadd, 1) := by decide +kernel
theorem dX2_revoke_55 : decode cX2_revoke 55 = .ok (.iastore, 1) := by decide +kernel
theorem dX2_revoke_56 : decode cX2_revoke 56 = .ok (.aload_n 0, 1) := by decide +kernel
theorem dX2_revoke_57 : decode cX2_revoke 57 = .ok (.iload 4, 2) := by decide +kernel
theorem dX2_revoke_59 : decode cX2_revoke 59 = .ok (.aload_n 0, 1) := by decide +kernel
theorem dX2_revoke_60 : decode cX2_revoke 60 = .ok (.getfield 32, 3) := by decide +kernel
theorem dX2_revoke_63 : decode cX2_revoke 63 = .ok (.iload 4, 2) := by decide +kernel
theorem dX2_revoke_65 : decode cX2_revoke 65 = .ok (.iaload, 1) := by decide +kernel
theorem dX2_revoke_66 : decode cX2_revoke 66 = .ok (.aload_n 0, 1) := by decide +kernel
theorem dX2_revoke_67 : decode cX2_revoke 67 = .ok (.getfield 35, 3) := by decide +kernel
theorem dX2_revoke_70 : decode cX2_revoke 70 = .ok (.iload 4, 2) := by decide +kernel
theorem dX2_revoke_72 : decode cX2_revoke 72 = .ok (.iaload, 1) := by decide +kernel
theorem dX2_revoke_73 : decode cX2_revoke 73 = .ok (.invokevirtual 52, 3) := by decide +kernel
theorem dX2_revoke_76 : decode cX2_revoke 76 = .ok (.aload_n 0, 1) := by decide +kernel
theorem dX2_revoke_77 : decode cX2_revoke 77 = .ok (.iload_n 1, 1) := by decide +kernel
theorem dX2_revoke_78 : decode cX2_revoke 78 = .ok (.iconst 0, 1) := by decide +kernel
theorem dX2_revoke_79 : decode cX2_revoke 79 = .ok (.invokevirtual 56, 3) := by decide +kernel
theorem dX2_revoke_82 : decode cX2_revoke 82 = .ok (.ireturn, 1) := by decide +kernel
abbrev cX2_restrict : ByteArray := prog_3_method_11_code
def yX2_restrict : MethodName := ⟨RX2, "restrict", "(IIII)I"⟩
theorem dX2_restrict_0 : decode cX2_restrict 0 = .ok (.aload_n 0, 1) := by decide +kernel
theorem dX2_restrict_1 : decode cX2_restrict 1 = .ok (.iload_n 1, 1) := by decide +kernel
theorem dX2_restrict_2 : decode cX2_restrict 2 = .ok (.iload_n 2, 1) := by decide +kernel
theorem dX2_restrict_3 : decode cX2_restrict 3 = .ok (.invokevirtual 48, 3) := by decide +kernel
theorem dX2_restrict_6 : decode cX2_restrict 6 = .ok (.istore 5, 2) := by decide +kernel
theorem dX2_restrict_8 : decode cX2_restrict 8 = .ok (.iload 5, 2) := by decide +kernel
theorem dX2_restrict_10 : decode cX2_restrict 10 = .ok (.ifCond .ne 11, 3) := by decide +kernel
theorem dX2_restrict_13 : decode cX2_restrict 13 = .ok (.aload_n 0, 1) := by decide +kernel
theorem dX2_restrict_14 : decode cX2_restrict 14 = .ok (.iload_n 1, 1) := by decide +kernel
theorem dX2_restrict_15 : decode cX2_restrict 15 = .ok (.iload_n 3, 1) := by decide +kernel
theorem dX2_restrict_16 : decode cX2_restrict 16 = .ok (.invokevirtual 48, 3) := by decide +kernel
theorem dX2_restrict_19 : decode cX2_restrict 19 = .ok (.istore 5, 2) := by decide +kernel
theorem dX2_restrict_21 : decode cX2_restrict 21 = .ok (.iload 5, 2) := by decide +kernel
theorem dX2_restrict_23 : decode cX2_restrict 23 = .ok (.ifCond .ge 6, 3) := by decide +kernel
theorem dX2_restrict_26 : decode cX2_restrict 26 = .ok (.iload 5, 2) := by decide +kernel
theorem dX2_restrict_28 : decode cX2_restrict 28 = .ok (.ireturn, 1) := by decide +kernel
theorem dX2_restrict_29 : decode cX2_restrict 29 = .ok (.iload 4, 2) := by decide +kernel
theorem dX2_restrict_31 : decode cX2_restrict 31 = .ok (.ifCond .lt 10, 3) := by decide +kernel
theorem dX2_restrict_34 : decode cX2_restrict 34 = .ok (.iload 4, 2) := by decide +kernel
theorem dX2_restrict_36 : decode cX2_restrict 36 = .ok (.bipush 15, 2) := by decide +kernel
theorem dX2_restrict_38 : decode cX2_restrict 38 = .ok (.if_icmp .le 6, 3) := by decide +kernel
theorem dX2_restrict_41 : decode cX2_restrict 41 = .ok (.bipush (-5), 2) := by decide +kernel
theorem dX2_restrict_43 : decode cX2_restrict 43 = .ok (.ireturn, 1) := by decide +kernel
theorem dX2_restrict_44 : decode cX2_restrict 44 = .ok (.aload_n 0, 1) := by decide +kernel
theorem dX2_restrict_45 : decode cX2_restrict 45 = .ok (.iload_n 1, 1) := by decide +kernel
theorem dX2_restrict_46 : decode cX2_restrict 46 = .ok (.iload_n 2, 1) := by decide +kernel
theorem dX2_restrict_47 : decode cX2_restrict 47 = .ok (.invokevirtual 44, 3) := by decide +kernel
theorem dX2_restrict_50 : decode cX2_restrict 50 = .ok (.ifCond .ne 11, 3) := by decide +kernel
theorem dX2_restrict_53 : decode cX2_restrict 53 = .ok (.aload_n 0, 1) := by decide +kernel
theorem dX2_restrict_54 : decode cX2_restrict 54 = .ok (.iload_n 1, 1) := by decide +kernel
theorem dX2_restrict_55 : decode cX2_restrict 55 = .ok (.bipush (-3), 2) := by decide +kernel
theorem dX2_restrict_57 : decode cX2_restrict 57 = .ok (.invokevirtual 56, 3) := by decide +kernel
theorem dX2_restrict_60 : decode cX2_restrict 60 = .ok (.ireturn, 1) := by decide +kernel
theorem dX2_restrict_61 : decode cX2_restrict 61 = .ok (.iload_n 1, 1) := by decide +kernel
theorem dX2_restrict_62 : decode cX2_restrict 62 = .ok (.bipush 8, 2) := by decide +kernel
theorem dX2_restrict_64 : decode cX2_restrict 64 = .ok (.imul, 1) := by decide +kernel
theorem dX2_restrict_65 : decode cX2_restrict 65 = .ok (.iload_n 2, 1) := by decide +kernel
theorem dX2_restrict_66 : decode cX2_restrict 66 = .ok (.iadd, 1) := by decide +kernel
theorem dX2_restrict_67 : decode cX2_restrict 67 = .ok (.istore 6, 2) := by decide +kernel
theorem dX2_restrict_69 : decode cX2_restrict 69 = .ok (.aload_n 0, 1) := by decide +kernel
theorem dX2_restrict_70 : decode cX2_restrict 70 = .ok (.getfield 35, 3) := by decide +kernel
theorem dX2_restrict_73 : decode cX2_restrict 73 = .ok (.iload 6, 2) := by decide +kernel
theorem dX2_restrict_75 : decode cX2_restrict 75 = .ok (.iaload, 1) := by decide +kernel
theorem dX2_restrict_76 : decode cX2_restrict 76 = .ok (.iload 4, 2) := by decide +kernel
theorem dX2_restrict_78 : decode cX2_restrict 78 = .ok (.iand, 1) := by decide +kernel
theorem dX2_restrict_79 : decode cX2_restrict 79 = .ok (.istore 7, 2) := by decide +kernel
theorem dX2_restrict_81 : decode cX2_restrict 81 = .ok (.aload_n 0, 1) := by decide +kernel
theorem dX2_restrict_82 : decode cX2_restrict 82 = .ok (.iload_n 1, 1) := by decide +kernel
theorem dX2_restrict_83 : decode cX2_restrict 83 = .ok (.bipush 8, 2) := by decide +kernel
theorem dX2_restrict_85 : decode cX2_restrict 85 = .ok (.imul, 1) := by decide +kernel
theorem dX2_restrict_86 : decode cX2_restrict 86 = .ok (.iload_n 3, 1) := by decide +kernel
theorem dX2_restrict_87 : decode cX2_restrict 87 = .ok (.iadd, 1) := by decide +kernel
theorem dX2_restrict_88 : decode cX2_restrict 88 = .ok (.aload_n 0, 1) := by decide +kernel
theorem dX2_restrict_89 : decode cX2_restrict 89 = .ok (.getfield 32, 3) := by decide +kernel
theorem dX2_restrict_92 : decode cX2_restrict 92 = .ok (.iload 6, 2) := by decide +kernel
theorem dX2_restrict_94 : decode cX2_restrict 94 = .ok (.iaload, 1) := by decide +kernel
theorem dX2_restrict_95 : decode cX2_restrict 95 = .ok (.iload 7, 2) := by decide +kernel
theorem dX2_restrict_97 : decode cX2_restrict 97 = .ok (.invokevirtual 52, 3) := by decide +kernel
theorem dX2_restrict_100 : decode cX2_restrict 100 = .ok (.aload_n 0, 1) := by decide +kernel
theorem dX2_restrict_101 : decode cX2_restrict 101 = .ok (.iload_n 1, 1) := by decide +kernel
theorem dX2_restrict_102 : decode cX2_restrict 102 = .ok (.iload 7, 2) := by decide +kernel
theorem dX2_restrict_104 : decode cX2_restrict 104 = .ok (.invokevirtual 56, 3) := by decide +kernel
theorem dX2_restrict_107 : decode cX2_restrict 107 = .ok (.ireturn, 1) := by decide +kernel
abbrev cX2_again : ByteArray := prog_3_method_12_code
def yX2_again : MethodName := ⟨RX2, "again", "(I)I"⟩
theorem dX2_again_0 : decode cX2_again 0 = .ok (.iload_n 1, 1) := by decide +kernel
theorem dX2_again_1 : decode cX2_again 1 = .ok (.ifCond .eq 10, 3) := by decide +kernel
theorem dX2_again_4 : decode cX2_again 4 = .ok (.iload_n 1, 1) := by decide +kernel
theorem dX2_again_5 : decode cX2_again 5 = .ok (.iconst 1, 1) := by decide +kernel
theorem dX2_again_6 : decode cX2_again 6 = .ok (.if_icmp .eq 5, 3) := by decide +kernel
theorem dX2_again_9 : decode cX2_again 9 = .ok (.iconst (-1), 1) := by decide +kernel
theorem dX2_again_10 : decode cX2_again 10 = .ok (.ireturn, 1) := by decide +kernel
theorem dX2_again_11 : decode cX2_again 11 = .ok (.aload_n 0, 1) := by decide +kernel
theorem dX2_again_12 : decode cX2_again 12 = .ok (.getfield 38, 3) := by decide +kernel
theorem dX2_again_15 : decode cX2_again 15 = .ok (.iload_n 1, 1) := by decide +kernel
theorem dX2_again_16 : decode cX2_again 16 = .ok (.baload, 1) := by decide +kernel
theorem dX2_again_17 : decode cX2_again 17 = .ok (.ifCond .eq 12, 3) := by decide +kernel
theorem dX2_again_20 : decode cX2_again 20 = .ok (.aload_n 0, 1) := by decide +kernel
theorem dX2_again_21 : decode cX2_again 21 = .ok (.getfield 41, 3) := by decide +kernel
theorem dX2_again_24 : decode cX2_again 24 = .ok (.iload_n 1, 1) := by decide +kernel
theorem dX2_again_25 : decode cX2_again 25 = .ok (.iaload, 1) := by decide +kernel
theorem dX2_again_26 : decode cX2_again 26 = .ok (.goto 5, 3) := by decide +kernel
theorem dX2_again_29 : decode cX2_again 29 = .ok (.bipush (-6), 2) := by decide +kernel
theorem dX2_again_31 : decode cX2_again 31 = .ok (.ireturn, 1) := by decide +kernel
abbrev cX2_copy : ByteArray := prog_3_method_13_code
def yX2_copy : MethodName := ⟨RX2, "copy", "(III)I"⟩
theorem dX2_copy_0 : decode cX2_copy 0 = .ok (.aload_n 0, 1) := by decide +kernel
theorem dX2_copy_1 : decode cX2_copy 1 = .ok (.iload_n 1, 1) := by decide +kernel
theorem dX2_copy_2 : decode cX2_copy 2 = .ok (.iload_n 2, 1) := by decide +kernel
theorem dX2_copy_3 : decode cX2_copy 3 = .ok (.invokevirtual 48, 3) := by decide +kernel
theorem dX2_copy_6 : decode cX2_copy 6 = .ok (.istore 4, 2) := by decide +kernel
theorem dX2_copy_8 : decode cX2_copy 8 = .ok (.iload 4, 2) := by decide +kernel
theorem dX2_copy_10 : decode cX2_copy 10 = .ok (.ifCond .ge 6, 3) := by decide +kernel
theorem dX2_copy_13 : decode cX2_copy 13 = .ok (.iload 4, 2) := by decide +kernel
theorem dX2_copy_15 : decode cX2_copy 15 = .ok (.ireturn, 1) := by decide +kernel
theorem dX2_copy_16 : decode cX2_copy 16 = .ok (.iload_n 1, 1) := by decide +kernel
theorem dX2_copy_17 : decode cX2_copy 17 = .ok (.bipush 8, 2) := by decide +kernel
theorem dX2_copy_19 : decode cX2_copy 19 = .ok (.imul, 1) := by decide +kernel
theorem dX2_copy_20 : decode cX2_copy 20 = .ok (.iload_n 2, 1) := by decide +kernel
theorem dX2_copy_21 : decode cX2_copy 21 = .ok (.iadd, 1) := by decide +kernel
theorem dX2_copy_22 : decode cX2_copy 22 = .ok (.istore 5, 2) := by decide +kernel
theorem dX2_copy_24 : decode cX2_copy 24 = .ok (.iload_n 3, 1) := by decide +kernel
theorem dX2_copy_25 : decode cX2_copy 25 = .ok (.bipush 15, 2) := by decide +kernel
theorem dX2_copy_27 : decode cX2_copy 27 = .ok (.iand, 1) := by decide +kernel
theorem dX2_copy_28 : decode cX2_copy 28 = .ok (.istore 6, 2) := by decide +kernel
theorem dX2_copy_30 : decode cX2_copy 30 = .ok (.aload_n 0, 1) := by decide +kernel
theorem dX2_copy_31 : decode cX2_copy 31 = .ok (.getfield 20, 3) := by decide +kernel
theorem dX2_copy_34 : decode cX2_copy 34 = .ok (.iload 6, 2) := by decide +kernel
theorem dX2_copy_36 : decode cX2_copy 36 = .ok (.aload_n 0, 1) := by decide +kernel
theorem dX2_copy_37 : decode cX2_copy 37 = .ok (.getfield 20, 3) := by decide +kernel
theorem dX2_copy_40 : decode cX2_copy 40 = .ok (.iload 5, 2) := by decide +kernel
theorem dX2_copy_42 : decode cX2_copy 42 = .ok (.baload, 1) := by decide +kernel
theorem dX2_copy_43 : decode cX2_copy 43 = .ok (.bastore, 1) := by decide +kernel
theorem dX2_copy_44 : decode cX2_copy 44 = .ok (.aload_n 0, 1) := by decide +kernel
theorem dX2_copy_45 : decode cX2_copy 45 = .ok (.getfield 23, 3) := by decide +kernel
theorem dX2_copy_48 : decode cX2_copy 48 = .ok (.iload 6, 2) := by decide +kernel
theorem dX2_copy_50 : decode cX2_copy 50 = .ok (.aload_n 0, 1) := by decide +kernel
theorem dX2_copy_51 : decode cX2_copy 51 = .ok (.getfield 23, 3) := by decide +kernel
theorem dX2_copy_54 : decode cX2_copy 54 = .ok (.iload 5, 2) := by decide +kernel
theorem dX2_copy_56 : decode cX2_copy 56 = .ok (.iaload, 1) := by decide +kernel
theorem dX2_copy_57 : decode cX2_copy 57 = .ok (.iastore, 1) := by decide +kernel
theorem dX2_copy_58 : decode cX2_copy 58 = .ok (.aload_n 0, 1) := by decide +kernel
theorem dX2_copy_59 : decode cX2_copy 59 = .ok (.getfield 26, 3) := by decide +kernel
theorem dX2_copy_62 : decode cX2_copy 62 = .ok (.iload 6, 2) := by decide +kernel
theorem dX2_copy_64 : decode cX2_copy 64 = .ok (.aload_n 0, 1) := by decide +kernel
theorem dX2_copy_65 : decode cX2_copy 65 = .ok (.getfield 26, 3) := by decide +kernel
theorem dX2_copy_68 : decode cX2_copy 68 = .ok (.iload 5, 2) := by decide +kernel
theorem dX2_copy_70 : decode cX2_copy 70 = .ok (.iaload, 1) := by decide +kernel
theorem dX2_copy_71 : decode cX2_copy 71 = .ok (.iastore, 1) := by decide +kernel
theorem dX2_copy_72 : decode cX2_copy 72 = .ok (.aload_n 0, 1) := by decide +kernel
theorem dX2_copy_73 : decode cX2_copy 73 = .ok (.getfield 29, 3) := by decide +kernel
theorem dX2_copy_76 : decode cX2_copy 76 = .ok (.iload 6, 2) := by decide +kernel
theorem dX2_copy_78 : decode cX2_copy 78 = .ok (.aload_n 0, 1) := by decide +kernel
theorem dX2_copy_79 : decode cX2_copy 79 = .ok (.getfield 29, 3) := by decide +kernel
theorem dX2_copy_82 : decode cX2_copy 82 = .ok (.iload 5, 2) := by decide +kernel
theorem dX2_copy_84 : decode cX2_copy 84 = .ok (.iaload, 1) := by decide +kernel
theorem dX2_copy_85 : decode cX2_copy 85 = .ok (.iastore, 1) := by decide +kernel
theorem dX2_copy_86 : decode cX2_copy 86 = .ok (.aload_n 0, 1) := by decide +kernel
theorem dX2_copy_87 : decode cX2_copy 87 = .ok (.getfield 32, 3) := by decide +kernel
theorem dX2_copy_90 : decode cX2_copy 90 = .ok (.iload 6, 2) := by decide +kernel
theorem dX2_copy_92 : decode cX2_copy 92 = .ok (.aload_n 0, 1) := by decide +kernel
theorem dX2_copy_93 : decode cX2_copy 93 = .ok (.getfield 32, 3) := by decide +kernel
theorem dX2_copy_96 : decode cX2_copy 96 = .ok (.iload 5, 2) := by decide +kernel
theorem dX2_copy_98 : decode cX2_copy 98 = .ok (.iaload, 1) := by decide +kernel
theorem dX2_copy_99 : decode cX2_copy 99 = .ok (.iastore, 1) := by decide +kernel
theorem dX2_copy_100 : decode cX2_copy 100 = .ok (.aload_n 0, 1) := by decide +kernel
theorem dX2_copy_101 : decode cX2_copy 101 = .ok (.getfield 35, 3) := by decide +kernel
theorem dX2_copy_104 : decode cX2_copy 104 = .ok (.iload 6, 2) := by decide +kernel
theorem dX2_copy_106 : decode cX2_copy 106 = .ok (.aload_n 0, 1) := by decide +kernel
theorem dX2_copy_107 : decode cX2_copy 107 = .ok (.getfield 35, 3) := by decide +kernel
theorem dX2_copy_110 : decode cX2_copy 110 = .ok (.iload 5, 2) := by decide +kernel
theorem dX2_copy_112 : decode cX2_copy 112 = .ok (.iaload, 1) := by decide +kernel
theorem dX2_copy_113 : decode cX2_copy 113 = .ok (.iastore, 1) := by decide +kernel
theorem dX2_copy_114 : decode cX2_copy 114 = .ok (.iconst 0, 1) := by decide +kernel
theorem dX2_copy_115 : decode cX2_copy 115 = .ok (.ireturn, 1) := by decide +kernel
abbrev cX2_tamper : ByteArray := prog_3_method_14_code
def yX2_tamper : MethodName := ⟨RX2, "tamper", "(III)I"⟩
theorem dX2_tamper_0 : decode cX2_tamper 0 = .ok (.aload_n 0, 1) := by decide +kernel
theorem dX2_tamper_1 : decode cX2_tamper 1 = .ok (.iload_n 1, 1) := by decide +kernel
theorem dX2_tamper_2 : decode cX2_tamper 2 = .ok (.iload_n 2, 1) := by decide +kernel
theorem dX2_tamper_3 : decode cX2_tamper 3 = .ok (.invokevirtual 48, 3) := by decide +kernel
theorem dX2_tamper_6 : decode cX2_tamper 6 = .ok (.istore 4, 2) := by decide +kernel
theorem dX2_tamper_8 : decode cX2_tamper 8 = .ok (.iload 4, 2) := by decide +kernel
theorem dX2_tamper_10 : decode cX2_tamper 10 = .ok (.ifCond .ge 6, 3) := by decide +kernel
theorem dX2_tamper_13 : decode cX2_tamper 13 = .ok (.iload 4, 2) := by decide +kernel
theorem dX2_tamper_15 : decode cX2_tamper 15 = .ok (.ireturn, 1) := by decide +kernel
theorem dX2_tamper_16 : decode cX2_tamper 16 = .ok (.iload_n 1, 1) := by decide +kernel
theorem dX2_tamper_17 : decode cX2_tamper 17 = .ok (.bipush 8, 2) := by decide +kernel
theorem dX2_tamper_19 : decode cX2_tamper 19 = .ok (.imul, 1) := by decide +kernel
theorem dX2_tamper_20 : decode cX2_tamper 20 = .ok (.iload_n 2, 1) := by decide +kernel
theorem dX2_tamper_21 : decode cX2_tamper 21 = .ok (.iadd, 1) := by decide +kernel
theorem dX2_tamper_22 : decode cX2_tamper 22 = .ok (.istore 5, 2) := by decide +kernel
theorem dX2_tamper_24 : decode cX2_tamper 24 = .ok (.aload_n 0, 1) := by decide +kernel
theorem dX2_tamper_25 : decode cX2_tamper 25 = .ok (.getfield 20, 3) := by decide +kernel
theorem dX2_tamper_28 : decode cX2_tamper 28 = .ok (.iload 5, 2) := by decide +kernel
theorem dX2_tamper_30 : decode cX2_tamper 30 = .ok (.baload, 1) := by decide +kernel
theorem dX2_tamper_31 : decode cX2_tamper 31 = .ok (.ifCond .ne 6, 3) := by decide +kernel
theorem dX2_tamper_34 : decode cX2_tamper 34 = .ok (.bipush (-3), 2) := by decide +kernel
theorem dX2_tamper_36 : decode cX2_tamper 36 = .ok (.ireturn, 1) := by decide +kernel
theorem dX2_tamper_37 : decode cX2_tamper 37 = .ok (.aload_n 0, 1) := by decide +kernel
theorem dX2_tamper_38 : decode cX2_tamper 38 = .ok (.getfield 35, 3) := by decide +kernel
theorem dX2_tamper_41 : decode cX2_tamper 41 = .ok (.iload 5, 2) := by decide +kernel
theorem dX2_tamper_43 : decode cX2_tamper 43 = .ok (.dup2, 1) := by decide +kernel
theorem dX2_tamper_44 : decode cX2_tamper 44 = .ok (.iaload, 1) := by decide +kernel
theorem dX2_tamper_45 : decode cX2_tamper 45 = .ok (.iload_n 3, 1) := by decide +kernel
theorem dX2_tamper_46 : decode cX2_tamper 46 = .ok (.bipush 15, 2) := by decide +kernel
theorem dX2_tamper_48 : decode cX2_tamper 48 = .ok (.iand, 1) := by decide +kernel
theorem dX2_tamper_49 : decode cX2_tamper 49 = .ok (.ixor, 1) := by decide +kernel
theorem dX2_tamper_50 : decode cX2_tamper 50 = .ok (.iastore, 1) := by decide +kernel
theorem dX2_tamper_51 : decode cX2_tamper 51 = .ok (.aload_n 0, 1) := by decide +kernel
theorem dX2_tamper_52 : decode cX2_tamper 52 = .ok (.getfield 32, 3) := by decide +kernel
theorem dX2_tamper_55 : decode cX2_tamper 55 = .ok (.iload 5, 2) := by decide +kernel
theorem dX2_tamper_57 : decode cX2_tamper 57 = .ok (.dup2, 1) := by decide +kernel
theorem dX2_tamper_58 : decode cX2_tamper 58 = .ok (.iaload, 1) := by decide +kernel
theorem dX2_tamper_59 : decode cX2_tamper 59 = .ok (.iload_n 3, 1) := by decide +kernel
theorem dX2_tamper_60 : decode cX2_tamper 60 = .ok (.iconst 4, 1) := by decide +kernel
theorem dX2_tamper_61 : decode cX2_tamper 61 = .ok (.ishr, 1) := by decide +kernel
theorem dX2_tamper_62 : decode cX2_tamper 62 = .ok (.bipush 7, 2) := by decide +kernel
theorem dX2_tamper_64 : decode cX2_tamper 64 = .ok (.iand, 1) := by decide +kernel
theorem dX2_tamper_65 : decode cX2_tamper 65 = .ok (.ixor, 1) := by decide +kernel
theorem dX2_tamper_66 : decode cX2_tamper 66 = .ok (.iastore, 1) := by decide +kernel
theorem dX2_tamper_67 : decode cX2_tamper 67 = .ok (.iconst 0, 1) := by decide +kernel
theorem dX2_tamper_68 : decode cX2_tamper 68 = .ok (.ireturn, 1) := by decide +kernel
abbrev cX2_clear : ByteArray := prog_3_method_15_code
def yX2_clear : MethodName := ⟨RX2, "clear", "(II)I"⟩
theorem dX2_clear_0 : decode cX2_clear 0 = .ok (.aload_n 0, 1) := by decide +kernel
theorem dX2_clear_1 : decode cX2_clear 1 = .ok (.iload_n 1, 1) := by decide +kernel
theorem dX2_clear_2 : decode cX2_clear 2 = .ok (.iload_n 2, 1) := by decide +kernel
theorem dX2_clear_3 : decode cX2_clear 3 = .ok (.invokevirtual 48, 3) := by decide +kernel
theorem dX2_clear_6 : decode cX2_clear 6 = .ok (.istore_n 3, 1) := by decide +kernel
theorem dX2_clear_7 : decode cX2_clear 7 = .ok (.iload_n 3, 1) := by decide +kernel
theorem dX2_clear_8 : decode cX2_clear 8 = .ok (.ifCond .ge 5, 3) := by decide +kernel
theorem dX2_clear_11 : decode cX2_clear 11 = .ok (.iload_n 3, 1) := by decide +kernel
theorem dX2_clear_12 : decode cX2_clear 12 = .ok (.ireturn, 1) := by decide +kernel
theorem dX2_clear_13 : decode cX2_clear 13 = .ok (.iload_n 1, 1) := by decide +kernel
theorem dX2_clear_14 : decode cX2_clear 14 = .ok (.bipush 8, 2) := by decide +kernel
theorem dX2_clear_16 : decode cX2_clear 16 = .ok (.imul, 1) := by decide +kernel
theorem dX2_clear_17 : decode cX2_clear 17 = .ok (.iload_n 2, 1) := by decide +kernel
theorem dX2_clear_18 : decode cX2_clear 18 = .ok (.iadd, 1) := by decide +kernel
theorem dX2_clear_19 : decode cX2_clear 19 = .ok (.istore 4, 2) := by decide +kernel
theorem dX2_clear_21 : decode cX2_clear 21 = .ok (.aload_n 0, 1) := by decide +kernel
theorem dX2_clear_22 : decode cX2_clear 22 = .ok (.getfield 20, 3) := by decide +kernel
theorem dX2_clear_25 : decode cX2_clear 25 = .ok (.iload 4, 2) := by decide +kernel
theorem dX2_clear_27 : decode cX2_clear 27 = .ok (.baload, 1) := by decide +kernel
theorem dX2_clear_28 : decode cX2_clear 28 = .ok (.ifCond .eq 7, 3) := by decide +kernel
theorem dX2_clear_31 : decode cX2_clear 31 = .ok (.iconst 1, 1) := by decide +kernel
theorem dX2_clear_32 : decode cX2_clear 32 = .ok (.goto 4, 3) := by decide +kernel
theorem dX2_clear_35 : decode cX2_clear 35 = .ok (.iconst 0, 1) := by decide +kernel
theorem dX2_clear_36 : decode cX2_clear 36 = .ok (.istore 5, 2) := by decide +kernel
theorem dX2_clear_38 : decode cX2_clear 38 = .ok (.aload_n 0, 1) := by decide +kernel
theorem dX2_clear_39 : decode cX2_clear 39 = .ok (.getfield 20, 3) := by decide +kernel
theorem dX2_clear_42 : decode cX2_clear 42 = .ok (.iload 4, 2) := by decide +kernel
theorem dX2_clear_44 : decode cX2_clear 44 = .ok (.iconst 0, 1) := by decide +kernel
theorem dX2_clear_45 : decode cX2_clear 45 = .ok (.bastore, 1) := by decide +kernel
theorem dX2_clear_46 : decode cX2_clear 46 = .ok (.iload 5, 2) := by decide +kernel
theorem dX2_clear_48 : decode cX2_clear 48 = .ok (.ireturn, 1) := by decide +kernel
abbrev cX2_restart : ByteArray := prog_3_method_16_code
def yX2_restart : MethodName := ⟨RX2, "restart", "()V"⟩
theorem dX2_restart_0 : decode cX2_restart 0 = .ok (.aload_n 0, 1) := by decide +kernel
theorem dX2_restart_1 : decode cX2_restart 1 = .ok (.getfield 38, 3) := by decide +kernel
theorem dX2_restart_4 : decode cX2_restart 4 = .ok (.iconst 0, 1) := by decide +kernel
theorem dX2_restart_5 : decode cX2_restart 5 = .ok (.iconst 0, 1) := by decide +kernel
theorem dX2_restart_6 : decode cX2_restart 6 = .ok (.bastore, 1) := by decide +kernel
theorem dX2_restart_7 : decode cX2_restart 7 = .ok (.aload_n 0, 1) := by decide +kernel
theorem dX2_restart_8 : decode cX2_restart 8 = .ok (.getfield 38, 3) := by decide +kernel
theorem dX2_restart_11 : decode cX2_restart 11 = .ok (.iconst 1, 1) := by decide +kernel
theorem dX2_restart_12 : decode cX2_restart 12 = .ok (.iconst 0, 1) := by decide +kernel
theorem dX2_restart_13 : decode cX2_restart 13 = .ok (.bastore, 1) := by decide +kernel
theorem dX2_restart_14 : decode cX2_restart 14 = .ok (.return_, 1) := by decide +kernel
abbrev cX2_rights : ByteArray := prog_3_method_18_code
def yX2_rights : MethodName := ⟨RX2, "rights", "(II)I"⟩
theorem dX2_rights_0 : decode cX2_rights 0 = .ok (.aload_n 0, 1) := by decide +kernel
theorem dX2_rights_1 : decode cX2_rights 1 = .ok (.iload_n 1, 1) := by decide +kernel
theorem dX2_rights_2 : decode cX2_rights 2 = .ok (.iload_n 2, 1) := by decide +kernel
theorem dX2_rights_3 : decode cX2_rights 3 = .ok (.invokevirtual 48, 3) := by decide +kernel
theorem dX2_rights_6 : decode cX2_rights 6 = .ok (.istore_n 3, 1) := by decide +kernel
theorem dX2_rights_7 : decode cX2_rights 7 = .ok (.iload_n 3, 1) := by decide +kernel
theorem dX2_rights_8 : decode cX2_rights 8 = .ok (.ifCond .ge 5, 3) := by decide +kernel
theorem dX2_rights_11 : decode cX2_rights 11 = .ok (.iload_n 3, 1) := by decide +kernel
theorem dX2_rights_12 : decode cX2_rights 12 = .ok (.ireturn, 1) := by decide +kernel
theorem dX2_rights_13 : decode cX2_rights 13 = .ok (.aload_n 0, 1) := by decide +kernel
theorem dX2_rights_14 : decode cX2_rights 14 = .ok (.getfield 20, 3) := by decide +kernel
theorem dX2_rights_17 : decode cX2_rights 17 = .ok (.iload_n 1, 1) := by decide +kernel
theorem dX2_rights_18 : decode cX2_rights 18 = .ok (.bipush 8, 2) := by decide +kernel
theorem dX2_rights_20 : decode cX2_rights 20 = .ok (.imul, 1) := by decide +kernel
theorem dX2_rights_21 : decode cX2_rights 21 = .ok (.iload_n 2, 1) := by decide +kernel
theorem dX2_rights_22 : decode cX2_rights 22 = .ok (.iadd, 1) := by decide +kernel
theorem dX2_rights_23 : decode cX2_rights 23 = .ok (.baload, 1) := by decide +kernel
theorem dX2_rights_24 : decode cX2_rights 24 = .ok (.ifCond .eq 17, 3) := by decide +kernel
theorem dX2_rights_27 : decode cX2_rights 27 = .ok (.aload_n 0, 1) := by decide +kernel
theorem dX2_rights_28 : decode cX2_rights 28 = .ok (.getfield 35, 3) := by decide +kernel
theorem dX2_rights_31 : decode cX2_rights 31 = .ok (.iload_n 1, 1) := by decide +kernel
theorem dX2_rights_32 : decode cX2_rights 32 = .ok (.bipush 8, 2) := by decide +kernel
theorem dX2_rights_34 : decode cX2_rights 34 = .ok (.imul, 1) := by decide +kernel
theorem dX2_rights_35 : decode cX2_rights 35 = .ok (.iload_n 2, 1) := by decide +kernel
theorem dX2_rights_36 : decode cX2_rights 36 = .ok (.iadd, 1) := by decide +kernel
theorem dX2_rights_37 : decode cX2_rights 37 = .ok (.iaload, 1) := by decide +kernel
theorem dX2_rights_38 : decode cX2_rights 38 = .ok (.goto 4, 3) := by decide +kernel
theorem dX2_rights_41 : decode cX2_rights 41 = .ok (.iconst 0, 1) := by decide +kernel
theorem dX2_rights_42 : decode cX2_rights 42 = .ok (.ireturn, 1) := by decide +kernel
abbrev cX2_alive : ByteArray := prog_3_method_19_code
def yX2_alive : MethodName := ⟨RX2, "alive", "()I"⟩
theorem dX2_alive_0 : decode cX2_alive 0 = .ok (.iconst 0, 1) := by decide +kernel
theorem dX2_alive_1 : decode cX2_alive 1 = .ok (.istore_n 1, 1) := by decide +kernel
theorem dX2_alive_2 : decode cX2_alive 2 = .ok (.iconst 0, 1) := by decide +kernel
theorem dX2_alive_3 : decode cX2_alive 3 = .ok (.istore_n 2, 1) := by decide +kernel
theorem dX2_alive_4 : decode cX2_alive 4 = .ok (.iload_n 2, 1) := by decide +kernel
theorem dX2_alive_5 : decode cX2_alive 5 = .ok (.bipush 8, 2) := by decide +kernel
theorem dX2_alive_7 : decode cX2_alive 7 = .ok (.if_icmp .ge 21, 3) := by decide +kernel
theorem dX2_alive_10 : decode cX2_alive 10 = .ok (.aload_n 0, 1) := by decide +kernel
theorem dX2_alive_11 : decode cX2_alive 11 = .ok (.getfield 7, 3) := by decide +kernel
theorem dX2_alive_14 : decode cX2_alive 14 = .ok (.iload_n 2, 1) := by decide +kernel
theorem dX2_alive_15 : decode cX2_alive 15 = .ok (.baload, 1) := by decide +kernel
theorem dX2_alive_16 : decode cX2_alive 16 = .ok (.ifCond .eq 6, 3) := by decide +kernel
theorem dX2_alive_19 : decode cX2_alive 19 = .ok (.iinc 1 1, 3) := by decide +kernel
theorem dX2_alive_22 : decode cX2_alive 22 = .ok (.iinc 2 1, 3) := by decide +kernel
theorem dX2_alive_25 : decode cX2_alive 25 = .ok (.goto (-21), 3) := by decide +kernel
theorem dX2_alive_28 : decode cX2_alive 28 = .ok (.iload_n 1, 1) := by decide +kernel
theorem dX2_alive_29 : decode cX2_alive 29 = .ok (.ireturn, 1) := by decide +kernel
theorem q14 : (Jvm.Cond.initialized "CapabilityServerModel") ∈ lw_all := lw_g (lw_at lw_m1 2 rfl) rfl
theorem q185 : (Jvm.Cond.instantiable "CapabilityServerModel" (11 : Nat)) ∈ lw_all := lw_g (lw_at lw_m1 173 rfl) rfl
theorem q187 : (Jvm.Cond.instanceMethod ({ cls := "CapabilityServerModel", name := "<init>", desc := "(I)V" } : Jvm.MethodName)) ∈ lw_all := lw_g (lw_at lw_m1 175 rfl) rfl
theorem q188 : (Jvm.Cond.code ({ cls := "CapabilityServerModel", name := "<init>", desc := "(I)V" } : Jvm.MethodName) prog_3_method_1_code (2 : Nat) (Option.none : Option Jvm.ClassFile.FieldType)) ∈ lw_all := lw_g (lw_at lw_m1 176 rfl) rfl
theorem q189 : (Jvm.Cond.methodLink "CapabilityServerModel" (1 : Nat) ({ cls := "java/lang/Object", name := "<init>", desc := "()V" } : Jvm.MethodName)) ∈ lw_all := lw_g (lw_at lw_m1 177 rfl) rfl
theorem q190 : (Jvm.Cond.fieldLink "CapabilityServerModel" (7 : Nat) "CapabilityServerModel" "living" "[Z") ∈ lw_all := lw_g (lw_at lw_m1 178 rfl) rfl
theorem q191 : (Jvm.Cond.fieldLink "CapabilityServerModel" (13 : Nat) "CapabilityServerModel" "values" "[I") ∈ lw_all := lw_g (lw_at lw_m1 179 rfl) rfl
theorem q192 : (Jvm.Cond.fieldLink "CapabilityServerModel" (17 : Nat) "CapabilityServerModel" "rounds" "[I") ∈ lw_all := lw_g (lw_at lw_m1 180 rfl) rfl
theorem q193 : (Jvm.Cond.fieldLink "CapabilityServerModel" (20 : Nat) "CapabilityServerModel" "held" "[Z") ∈ lw_all := lw_g (lw_at lw_m1 181 rfl) rfl
theorem q194 : (Jvm.Cond.fieldLink "CapabilityServerModel" (23 : Nat) "CapabilityServerModel" "givenObject" "[I") ∈ lw_all := lw_g (lw_at lw_m1 182 rfl) rfl
theorem q195 : (Jvm.Cond.fieldLink "CapabilityServerModel" (26 : Nat) "CapabilityServerModel" "givenRights" "[I") ∈ lw_all := lw_g (lw_at lw_m1 183 rfl) rfl
theorem q196 : (Jvm.Cond.fieldLink "CapabilityServerModel" (29 : Nat) "CapabilityServerModel" "givenRound" "[I") ∈ lw_all := lw_g (lw_at lw_m1 184 rfl) rfl
theorem q197 : (Jvm.Cond.fieldLink "CapabilityServerModel" (32 : Nat) "CapabilityServerModel" "nowObject" "[I") ∈ lw_all := lw_g (lw_at lw_m1 185 rfl) rfl
theorem q198 : (Jvm.Cond.fieldLink "CapabilityServerModel" (35 : Nat) "CapabilityServerModel" "nowRights" "[I") ∈ lw_all := lw_g (lw_at lw_m1 186 rfl) rfl
theorem q199 : (Jvm.Cond.fieldLink "CapabilityServerModel" (38 : Nat) "CapabilityServerModel" "known" "[Z") ∈ lw_all := lw_g (lw_at lw_m1 187 rfl) rfl
theorem q200 : (Jvm.Cond.fieldLink "CapabilityServerModel" (41 : Nat) "CapabilityServerModel" "last" "[I") ∈ lw_all := lw_g (lw_at lw_m1 188 rfl) rfl
theorem q201 : (Jvm.Cond.laysFinal "CapabilityServerModel" "CapabilityServerModel" "living" "[Z") ∈ lw_all := lw_g (lw_at lw_m1 189 rfl) rfl
theorem q202 : (Jvm.Cond.soleField "CapabilityServerModel" "living") ∈ lw_all := lw_g (lw_at lw_m1 190 rfl) rfl
theorem q203 : (Jvm.Cond.laysFinal "CapabilityServerModel" "CapabilityServerModel" "values" "[I") ∈ lw_all := lw_g (lw_at lw_m1 191 rfl) rfl
theorem q204 : (Jvm.Cond.soleField "CapabilityServerModel" "values") ∈ lw_all := lw_g (lw_at lw_m1 192 rfl) rfl
theorem q205 : (Jvm.Cond.laysFinal "CapabilityServerModel" "CapabilityServerModel" "rounds" "[I") ∈ lw_all := lw_g (lw_at lw_m1 193 rfl) rfl
theorem q206 : (Jvm.Cond.soleField "CapabilityServerModel" "rounds") ∈ lw_all := lw_g (lw_at lw_m1 194 rfl) rfl
theorem q207 : (Jvm.Cond.laysFinal "CapabilityServerModel" "CapabilityServerModel" "held" "[Z") ∈ lw_all := lw_g (lw_at lw_m1 195 rfl) rfl
theorem q208 : (Jvm.Cond.soleField "CapabilityServerModel" "held") ∈ lw_all := lw_g (lw_at lw_m1 196 rfl) rfl
theorem q209 : (Jvm.Cond.laysFinal "CapabilityServerModel" "CapabilityServerModel" "givenObject" "[I") ∈ lw_all := lw_g (lw_at lw_m1 197 rfl) rfl
theorem q210 : (Jvm.Cond.soleField "CapabilityServerModel" "givenObject") ∈ lw_all := lw_g (lw_at lw_m1 198 rfl) rfl
theorem q211 : (Jvm.Cond.laysFinal "CapabilityServerModel" "CapabilityServerModel" "givenRights" "[I") ∈ lw_all := lw_g (lw_at lw_m1 199 rfl) rfl
theorem q212 : (Jvm.Cond.soleField "CapabilityServerModel" "givenRights") ∈ lw_all := lw_g (lw_at lw_m1 200 rfl) rfl
theorem q213 : (Jvm.Cond.laysFinal "CapabilityServerModel" "CapabilityServerModel" "givenRound" "[I") ∈ lw_all := lw_g (lw_at lw_m1 201 rfl) rfl
theorem q214 : (Jvm.Cond.soleField "CapabilityServerModel" "givenRound") ∈ lw_all := lw_g (lw_at lw_m1 202 rfl) rfl
theorem q215 : (Jvm.Cond.laysFinal "CapabilityServerModel" "CapabilityServerModel" "nowObject" "[I") ∈ lw_all := lw_g (lw_at lw_m1 203 rfl) rfl
theorem q216 : (Jvm.Cond.soleField "CapabilityServerModel" "nowObject") ∈ lw_all := lw_g (lw_at lw_m1 204 rfl) rfl
theorem q217 : (Jvm.Cond.laysFinal "CapabilityServerModel" "CapabilityServerModel" "nowRights" "[I") ∈ lw_all := lw_g (lw_at lw_m1 205 rfl) rfl
theorem q218 : (Jvm.Cond.soleField "CapabilityServerModel" "nowRights") ∈ lw_all := lw_g (lw_at lw_m1 206 rfl) rfl
theorem q219 : (Jvm.Cond.laysFinal "CapabilityServerModel" "CapabilityServerModel" "known" "[Z") ∈ lw_all := lw_g (lw_at lw_m1 207 rfl) rfl
theorem q220 : (Jvm.Cond.soleField "CapabilityServerModel" "known") ∈ lw_all := lw_g (lw_at lw_m1 208 rfl) rfl
theorem q221 : (Jvm.Cond.laysFinal "CapabilityServerModel" "CapabilityServerModel" "last" "[I") ∈ lw_all := lw_g (lw_at lw_m1 209 rfl) rfl
theorem q222 : (Jvm.Cond.soleField "CapabilityServerModel" "last") ∈ lw_all := lw_g (lw_at lw_m1 210 rfl) rfl
theorem q223 : (Jvm.Cond.superclass "CapabilityServerModel" "java/lang/Object") ∈ lw_all := lw_g (lw_at lw_m1 211 rfl) rfl
theorem q225 : (Jvm.Cond.instanceMethod ({ cls := "CapabilityServerModel", name := "create", desc := "(II)I" } : Jvm.MethodName)) ∈ lw_all := lw_g (lw_at lw_m1 213 rfl) rfl
theorem q226 : (Jvm.Cond.selects "CapabilityServerModel" ({ cls := "CapabilityServerModel", name := "create", desc := "(II)I" } : Jvm.MethodName) ({ cls := "CapabilityServerModel", name := "create", desc := "(II)I" } : Jvm.MethodName)) ∈ lw_all := lw_g (lw_at lw_m1 214 rfl) rfl
theorem q227 : (Jvm.Cond.code ({ cls := "CapabilityServerModel", name := "create", desc := "(II)I" } : Jvm.MethodName) prog_3_method_6_code (5 : Nat) (Option.some Jvm.ClassFile.FieldType.int)) ∈ lw_all := lw_g (lw_at lw_m1 215 rfl) rfl
theorem q228 : (Jvm.Cond.methodLink "CapabilityServerModel" (48 : Nat) ({ cls := "CapabilityServerModel", name := "refusal", desc := "(II)I" } : Jvm.MethodName)) ∈ lw_all := lw_g (lw_at lw_m1 216 rfl) rfl
theorem q229 : (Jvm.Cond.privateMethod ({ cls := "CapabilityServerModel", name := "refusal", desc := "(II)I" } : Jvm.MethodName)) ∈ lw_tbl := lw_at lw_m1 217 rfl
theorem q230 : (Jvm.Cond.instanceMethod ({ cls := "CapabilityServerModel", name := "refusal", desc := "(II)I" } : Jvm.MethodName)) ∈ lw_all := lw_g (lw_at lw_m1 218 rfl) rfl
theorem q231 : (Jvm.Cond.code ({ cls := "CapabilityServerModel", name := "refusal", desc := "(II)I" } : Jvm.MethodName) prog_3_method_2_code (3 : Nat) (Option.some Jvm.ClassFile.FieldType.int)) ∈ lw_all := lw_g (lw_at lw_m1 219 rfl) rfl
theorem q232 : (Jvm.Cond.methodLink "CapabilityServerModel" (52 : Nat) ({ cls := "CapabilityServerModel", name := "give", desc := "(III)V" } : Jvm.MethodName)) ∈ lw_all := lw_g (lw_at lw_m1 220 rfl) rfl
theorem q233 : (Jvm.Cond.privateMethod ({ cls := "CapabilityServerModel", name := "give", desc := "(III)V" } : Jvm.MethodName)) ∈ lw_tbl := lw_at lw_m1 221 rfl
theorem q234 : (Jvm.Cond.instanceMethod ({ cls := "CapabilityServerModel", name := "give", desc := "(III)V" } : Jvm.MethodName)) ∈ lw_all := lw_g (lw_at lw_m1 222 rfl) rfl
theorem q235 : (Jvm.Cond.code ({ cls := "CapabilityServerModel", name := "give", desc := "(III)V" } : Jvm.MethodName) prog_3_method_4_code (4 : Nat) (Option.none : Option Jvm.ClassFile.FieldType)) ∈ lw_all := lw_g (lw_at lw_m1 223 rfl) rfl
theorem q236 : (Jvm.Cond.methodLink "CapabilityServerModel" (56 : Nat) ({ cls := "CapabilityServerModel", name := "answered", desc := "(II)I" } : Jvm.MethodName)) ∈ lw_all := lw_g (lw_at lw_m1 224 rfl) rfl
theorem q237 : (Jvm.Cond.privateMethod ({ cls := "CapabilityServerModel", name := "answered", desc := "(II)I" } : Jvm.MethodName)) ∈ lw_tbl := lw_at lw_m1 225 rfl
theorem q238 : (Jvm.Cond.instanceMethod ({ cls := "CapabilityServerModel", name := "answered", desc := "(II)I" } : Jvm.MethodName)) ∈ lw_all := lw_g (lw_at lw_m1 226 rfl) rfl
theorem q239 : (Jvm.Cond.code ({ cls := "CapabilityServerModel", name := "answered", desc := "(II)I" } : Jvm.MethodName) prog_3_method_3_code (3 : Nat) (Option.some Jvm.ClassFile.FieldType.int)) ∈ lw_all := lw_g (lw_at lw_m1 227 rfl) rfl
theorem q241 : (Jvm.Cond.instanceMethod ({ cls := "CapabilityServerModel", name := "read", desc := "(II)I" } : Jvm.MethodName)) ∈ lw_all := lw_g (lw_at lw_m1 229 rfl) rfl
theorem q242 : (Jvm.Cond.selects "CapabilityServerModel" ({ cls := "CapabilityServerModel", name := "read", desc := "(II)I" } : Jvm.MethodName) ({ cls := "CapabilityServerModel", name := "read", desc := "(II)I" } : Jvm.MethodName)) ∈ lw_all := lw_g (lw_at lw_m1 230 rfl) rfl
theorem q243 : (Jvm.Cond.code ({ cls := "CapabilityServerModel", name := "read", desc := "(II)I" } : Jvm.MethodName) prog_3_method_7_code (4 : Nat) (Option.some Jvm.ClassFile.FieldType.int)) ∈ lw_all := lw_g (lw_at lw_m1 231 rfl) rfl
theorem q244 : (Jvm.Cond.methodLink "CapabilityServerModel" (59 : Nat) ({ cls := "CapabilityServerModel", name := "allows", desc := "(III)Z" } : Jvm.MethodName)) ∈ lw_all := lw_g (lw_at lw_m1 232 rfl) rfl
theorem q245 : (Jvm.Cond.privateMethod ({ cls := "CapabilityServerModel", name := "allows", desc := "(III)Z" } : Jvm.MethodName)) ∈ lw_tbl := lw_at lw_m1 233 rfl
theorem q246 : (Jvm.Cond.instanceMethod ({ cls := "CapabilityServerModel", name := "allows", desc := "(III)Z" } : Jvm.MethodName)) ∈ lw_all := lw_g (lw_at lw_m1 234 rfl) rfl
theorem q247 : (Jvm.Cond.code ({ cls := "CapabilityServerModel", name := "allows", desc := "(III)Z" } : Jvm.MethodName) prog_3_method_5_code (4 : Nat) (Option.some Jvm.ClassFile.FieldType.boolean)) ∈ lw_all := lw_g (lw_at lw_m1 235 rfl) rfl
theorem q248 : (Jvm.Cond.methodLink "CapabilityServerModel" (44 : Nat) ({ cls := "CapabilityServerModel", name := "genuine", desc := "(II)Z" } : Jvm.MethodName)) ∈ lw_all := lw_g (lw_at lw_m1 236 rfl) rfl
theorem q249 : (Jvm.Cond.instanceMethod ({ cls := "CapabilityServerModel", name := "genuine", desc := "(II)Z" } : Jvm.MethodName)) ∈ lw_all := lw_g (lw_at lw_m1 237 rfl) rfl
theorem q250 : (Jvm.Cond.selects "CapabilityServerModel" ({ cls := "CapabilityServerModel", name := "genuine", desc := "(II)Z" } : Jvm.MethodName) ({ cls := "CapabilityServerModel", name := "genuine", desc := "(II)Z" } : Jvm.MethodName)) ∈ lw_all := lw_g (lw_at lw_m1 238 rfl) rfl
theorem q251 : (Jvm.Cond.code ({ cls := "CapabilityServerModel", name := "genuine", desc := "(II)Z" } : Jvm.MethodName) prog_3_method_17_code (4 : Nat) (Option.some Jvm.ClassFile.FieldType.boolean)) ∈ lw_all := lw_g (lw_at lw_m1 239 rfl) rfl
theorem q253 : (Jvm.Cond.instanceMethod ({ cls := "CapabilityServerModel", name := "add", desc := "(III)I" } : Jvm.MethodName)) ∈ lw_all := lw_g (lw_at lw_m2 1 rfl) rfl
theorem q254 : (Jvm.Cond.selects "CapabilityServerModel" ({ cls := "CapabilityServerModel", name := "add", desc := "(III)I" } : Jvm.MethodName) ({ cls := "CapabilityServerModel", name := "add", desc := "(III)I" } : Jvm.MethodName)) ∈ lw_all := lw_g (lw_at lw_m2 2 rfl) rfl
theorem q255 : (Jvm.Cond.code ({ cls := "CapabilityServerModel", name := "add", desc := "(III)I" } : Jvm.MethodName) prog_3_method_8_code (6 : Nat) (Option.some Jvm.ClassFile.FieldType.int)) ∈ lw_all := lw_g (lw_at lw_m2 3 rfl) rfl
theorem q257 : (Jvm.Cond.instanceMethod ({ cls := "CapabilityServerModel", name := "destroy", desc := "(II)I" } : Jvm.MethodName)) ∈ lw_all := lw_g (lw_at lw_m2 5 rfl) rfl
theorem q258 : (Jvm.Cond.selects "CapabilityServerModel" ({ cls := "CapabilityServerModel", name := "destroy", desc := "(II)I" } : Jvm.MethodName) ({ cls := "CapabilityServerModel", name := "destroy", desc := "(II)I" } : Jvm.MethodName)) ∈ lw_all := lw_g (lw_at lw_m2 6 rfl) rfl
theorem q259 : (Jvm.Cond.code ({ cls := "CapabilityServerModel", name := "destroy", desc := "(II)I" } : Jvm.MethodName) prog_3_method_9_code (4 : Nat) (Option.some Jvm.ClassFile.FieldType.int)) ∈ lw_all := lw_g (lw_at lw_m2 7 rfl) rfl
theorem q261 : (Jvm.Cond.instanceMethod ({ cls := "CapabilityServerModel", name := "revoke", desc := "(II)I" } : Jvm.MethodName)) ∈ lw_all := lw_g (lw_at lw_m2 9 rfl) rfl
theorem q262 : (Jvm.Cond.selects "CapabilityServerModel" ({ cls := "CapabilityServerModel", name := "revoke", desc := "(II)I" } : Jvm.MethodName) ({ cls := "CapabilityServerModel", name := "revoke", desc := "(II)I" } : Jvm.MethodName)) ∈ lw_all := lw_g (lw_at lw_m2 10 rfl) rfl
theorem q263 : (Jvm.Cond.code ({ cls := "CapabilityServerModel", name := "revoke", desc := "(II)I" } : Jvm.MethodName) prog_3_method_10_code (5 : Nat) (Option.some Jvm.ClassFile.FieldType.int)) ∈ lw_all := lw_g (lw_at lw_m2 11 rfl) rfl
theorem q265 : (Jvm.Cond.instanceMethod ({ cls := "CapabilityServerModel", name := "restrict", desc := "(IIII)I" } : Jvm.MethodName)) ∈ lw_all := lw_g (lw_at lw_m2 13 rfl) rfl
theorem q266 : (Jvm.Cond.selects "CapabilityServerModel" ({ cls := "CapabilityServerModel", name := "restrict", desc := "(IIII)I" } : Jvm.MethodName) ({ cls := "CapabilityServerModel", name := "restrict", desc := "(IIII)I" } : Jvm.MethodName)) ∈ lw_all := lw_g (lw_at lw_m2 14 rfl) rfl
theorem q267 : (Jvm.Cond.code ({ cls := "CapabilityServerModel", name := "restrict", desc := "(IIII)I" } : Jvm.MethodName) prog_3_method_11_code (8 : Nat) (Option.some Jvm.ClassFile.FieldType.int)) ∈ lw_all := lw_g (lw_at lw_m2 15 rfl) rfl
theorem q269 : (Jvm.Cond.instanceMethod ({ cls := "CapabilityServerModel", name := "again", desc := "(I)I" } : Jvm.MethodName)) ∈ lw_all := lw_g (lw_at lw_m2 17 rfl) rfl
theorem q270 : (Jvm.Cond.selects "CapabilityServerModel" ({ cls := "CapabilityServerModel", name := "again", desc := "(I)I" } : Jvm.MethodName) ({ cls := "CapabilityServerModel", name := "again", desc := "(I)I" } : Jvm.MethodName)) ∈ lw_all := lw_g (lw_at lw_m2 18 rfl) rfl
theorem q271 : (Jvm.Cond.code ({ cls := "CapabilityServerModel", name := "again", desc := "(I)I" } : Jvm.MethodName) prog_3_method_12_code (2 : Nat) (Option.some Jvm.ClassFile.FieldType.int)) ∈ lw_all := lw_g (lw_at lw_m2 19 rfl) rfl
theorem q273 : (Jvm.Cond.instanceMethod ({ cls := "CapabilityServerModel", name := "copy", desc := "(III)I" } : Jvm.MethodName)) ∈ lw_all := lw_g (lw_at lw_m2 21 rfl) rfl
theorem q274 : (Jvm.Cond.selects "CapabilityServerModel" ({ cls := "CapabilityServerModel", name := "copy", desc := "(III)I" } : Jvm.MethodName) ({ cls := "CapabilityServerModel", name := "copy", desc := "(III)I" } : Jvm.MethodName)) ∈ lw_all := lw_g (lw_at lw_m2 22 rfl) rfl
theorem q275 : (Jvm.Cond.code ({ cls := "CapabilityServerModel", name := "copy", desc := "(III)I" } : Jvm.MethodName) prog_3_method_13_code (7 : Nat) (Option.some Jvm.ClassFile.FieldType.int)) ∈ lw_all := lw_g (lw_at lw_m2 23 rfl) rfl
theorem q277 : (Jvm.Cond.instanceMethod ({ cls := "CapabilityServerModel", name := "tamper", desc := "(III)I" } : Jvm.MethodName)) ∈ lw_all := lw_g (lw_at lw_m2 25 rfl) rfl
theorem q278 : (Jvm.Cond.selects "CapabilityServerModel" ({ cls := "CapabilityServerModel", name := "tamper", desc := "(III)I" } : Jvm.MethodName) ({ cls := "CapabilityServerModel", name := "tamper", desc := "(III)I" } : Jvm.MethodName)) ∈ lw_all := lw_g (lw_at lw_m2 26 rfl) rfl
theorem q279 : (Jvm.Cond.code ({ cls := "CapabilityServerModel", name := "tamper", desc := "(III)I" } : Jvm.MethodName) prog_3_method_14_code (6 : Nat) (Option.some Jvm.ClassFile.FieldType.int)) ∈ lw_all := lw_g (lw_at lw_m2 27 rfl) rfl
theorem q281 : (Jvm.Cond.instanceMethod ({ cls := "CapabilityServerModel", name := "clear", desc := "(II)I" } : Jvm.MethodName)) ∈ lw_all := lw_g (lw_at lw_m2 29 rfl) rfl
theorem q282 : (Jvm.Cond.selects "CapabilityServerModel" ({ cls := "CapabilityServerModel", name := "clear", desc := "(II)I" } : Jvm.MethodName) ({ cls := "CapabilityServerModel", name := "clear", desc := "(II)I" } : Jvm.MethodName)) ∈ lw_all := lw_g (lw_at lw_m2 30 rfl) rfl
theorem q283 : (Jvm.Cond.code ({ cls := "CapabilityServerModel", name := "clear", desc := "(II)I" } : Jvm.MethodName) prog_3_method_15_code (6 : Nat) (Option.some Jvm.ClassFile.FieldType.int)) ∈ lw_all := lw_g (lw_at lw_m2 31 rfl) rfl
theorem q285 : (Jvm.Cond.instanceMethod ({ cls := "CapabilityServerModel", name := "restart", desc := "()V" } : Jvm.MethodName)) ∈ lw_all := lw_g (lw_at lw_m2 33 rfl) rfl
theorem q286 : (Jvm.Cond.selects "CapabilityServerModel" ({ cls := "CapabilityServerModel", name := "restart", desc := "()V" } : Jvm.MethodName) ({ cls := "CapabilityServerModel", name := "restart", desc := "()V" } : Jvm.MethodName)) ∈ lw_all := lw_g (lw_at lw_m2 34 rfl) rfl
theorem q287 : (Jvm.Cond.code ({ cls := "CapabilityServerModel", name := "restart", desc := "()V" } : Jvm.MethodName) prog_3_method_16_code (1 : Nat) (Option.none : Option Jvm.ClassFile.FieldType)) ∈ lw_all := lw_g (lw_at lw_m2 35 rfl) rfl
theorem q290 : (Jvm.Cond.instanceMethod ({ cls := "CapabilityServerModel", name := "rights", desc := "(II)I" } : Jvm.MethodName)) ∈ lw_all := lw_g (lw_at lw_m2 38 rfl) rfl
theorem q291 : (Jvm.Cond.selects "CapabilityServerModel" ({ cls := "CapabilityServerModel", name := "rights", desc := "(II)I" } : Jvm.MethodName) ({ cls := "CapabilityServerModel", name := "rights", desc := "(II)I" } : Jvm.MethodName)) ∈ lw_all := lw_g (lw_at lw_m2 39 rfl) rfl
theorem q292 : (Jvm.Cond.code ({ cls := "CapabilityServerModel", name := "rights", desc := "(II)I" } : Jvm.MethodName) prog_3_method_18_code (4 : Nat) (Option.some Jvm.ClassFile.FieldType.int)) ∈ lw_all := lw_g (lw_at lw_m2 40 rfl) rfl
theorem q294 : (Jvm.Cond.instanceMethod ({ cls := "CapabilityServerModel", name := "alive", desc := "()I" } : Jvm.MethodName)) ∈ lw_all := lw_g (lw_at lw_m2 42 rfl) rfl
theorem q295 : (Jvm.Cond.selects "CapabilityServerModel" ({ cls := "CapabilityServerModel", name := "alive", desc := "()I" } : Jvm.MethodName) ({ cls := "CapabilityServerModel", name := "alive", desc := "()I" } : Jvm.MethodName)) ∈ lw_all := lw_g (lw_at lw_m2 43 rfl) rfl
theorem q296 : (Jvm.Cond.code ({ cls := "CapabilityServerModel", name := "alive", desc := "()I" } : Jvm.MethodName) prog_3_method_19_code (3 : Nat) (Option.some Jvm.ClassFile.FieldType.int)) ∈ lw_all := lw_g (lw_at lw_m2 44 rfl) rfl
theorem in_X2 : ∀ w ∈ wsX20, w ∈ lw_all := lw_in wsX20 [201, 203, 205, 207, 209, 211, 213, 215, 217, 219, 221] (by decide +kernel) (by decide +kernel)
/-! CapabilityServerLaw -/
set_option maxRecDepth 100000
def RX0 : String := "CapabilityServerLaw"
abbrev cX0_cell : ByteArray := method_2_code
def yX0_cell : MethodName := ⟨RX0, "cell", "([II)I"⟩
theorem dX0_cell_0 : decode cX0_cell 0 = .ok (.iload_n 1, 1) := by decide +kernel
theorem dX0_cell_1 : decode cX0_cell 1 = .ok (.aload_n 0, 1) := by decide +kernel
theorem dX0_cell_2 : decode cX0_cell 2 = .ok (.arraylength, 1) := by decide +kernel
theorem dX0_cell_3 : decode cX0_cell 3 = .ok (.if_icmp .ge 9, 3) := by decide +kernel
theorem dX0_cell_6 : decode cX0_cell 6 = .ok (.aload_n 0, 1) := by decide +kernel
theorem dX0_cell_7 : decode cX0_cell 7 = .ok (.iload_n 1, 1) := by decide +kernel
theorem dX0_cell_8 : decode cX0_cell 8 = .ok (.iaload, 1) := by decide +kernel
theorem dX0_cell_9 : decode cX0_cell 9 = .ok (.goto 4, 3) := by decide +kernel
theorem dX0_cell_12 : decode cX0_cell 12 = .ok (.iconst 0, 1) := by decide +kernel
theorem dX0_cell_13 : decode cX0_cell 13 = .ok (.ireturn, 1) := by decide +kernel
theorem q12 : (Jvm.Cond.initialized "CapabilityServerLaw") ∈ lw_all := lw_g (lw_at lw_m1 0 rfl) rfl
theorem q15 : (Jvm.Cond.classLink "CapabilityServerLaw" (7 : Nat) "CapabilityServer") ∈ lw_all := lw_g (lw_at lw_m1 3 rfl) rfl
theorem q17 : (Jvm.Cond.methodLink "CapabilityServerLaw" (15 : Nat) ({ cls := "CapabilityServer", name := "<init>", desc := "(I)V" } : Jvm.MethodName)) ∈ lw_all := lw_g (lw_at lw_m1 5 rfl) rfl
theorem q77 : (Jvm.Cond.methodLink "CapabilityServerLaw" (21 : Nat) ({ cls := "CapabilityServer", name := "create", desc := "(II)I" } : Jvm.MethodName)) ∈ lw_all := lw_g (lw_at lw_m1 65 rfl) rfl
theorem q129 : (Jvm.Cond.methodLink "CapabilityServerLaw" (26 : Nat) ({ cls := "CapabilityServer", name := "read", desc := "(II)I" } : Jvm.MethodName)) ∈ lw_all := lw_g (lw_at lw_m1 117 rfl) rfl
theorem q133 : (Jvm.Cond.methodLink "CapabilityServerLaw" (30 : Nat) ({ cls := "CapabilityServer", name := "add", desc := "(III)I" } : Jvm.MethodName)) ∈ lw_all := lw_g (lw_at lw_m1 121 rfl) rfl
theorem q137 : (Jvm.Cond.methodLink "CapabilityServerLaw" (35 : Nat) ({ cls := "CapabilityServer", name := "destroy", desc := "(II)I" } : Jvm.MethodName)) ∈ lw_all := lw_g (lw_at lw_m1 125 rfl) rfl
theorem q141 : (Jvm.Cond.methodLink "CapabilityServerLaw" (39 : Nat) ({ cls := "CapabilityServer", name := "revoke", desc := "(II)I" } : Jvm.MethodName)) ∈ lw_all := lw_g (lw_at lw_m1 129 rfl) rfl
theorem q145 : (Jvm.Cond.methodLink "CapabilityServerLaw" (43 : Nat) ({ cls := "CapabilityServer", name := "restrict", desc := "(IIII)I" } : Jvm.MethodName)) ∈ lw_all := lw_g (lw_at lw_m1 133 rfl) rfl
theorem q149 : (Jvm.Cond.methodLink "CapabilityServerLaw" (48 : Nat) ({ cls := "CapabilityServer", name := "again", desc := "(I)I" } : Jvm.MethodName)) ∈ lw_all := lw_g (lw_at lw_m1 137 rfl) rfl
theorem q153 : (Jvm.Cond.methodLink "CapabilityServerLaw" (53 : Nat) ({ cls := "CapabilityServer", name := "copy", desc := "(III)I" } : Jvm.MethodName)) ∈ lw_all := lw_g (lw_at lw_m1 141 rfl) rfl
theorem q157 : (Jvm.Cond.methodLink "CapabilityServerLaw" (57 : Nat) ({ cls := "CapabilityServer", name := "tamper", desc := "(III)I" } : Jvm.MethodName)) ∈ lw_all := lw_g (lw_at lw_m1 145 rfl) rfl
theorem q161 : (Jvm.Cond.methodLink "CapabilityServerLaw" (61 : Nat) ({ cls := "CapabilityServer", name := "clear", desc := "(II)I" } : Jvm.MethodName)) ∈ lw_all := lw_g (lw_at lw_m1 149 rfl) rfl
theorem q165 : (Jvm.Cond.methodLink "CapabilityServerLaw" (65 : Nat) ({ cls := "CapabilityServer", name := "restart", desc := "()V" } : Jvm.MethodName)) ∈ lw_all := lw_g (lw_at lw_m1 153 rfl) rfl
theorem q169 : (Jvm.Cond.methodLink "CapabilityServerLaw" (69 : Nat) ({ cls := "CapabilityServer", name := "genuine", desc := "(II)Z" } : Jvm.MethodName)) ∈ lw_all := lw_g (lw_at lw_m1 157 rfl) rfl
theorem q173 : (Jvm.Cond.methodLink "CapabilityServerLaw" (74 : Nat) ({ cls := "CapabilityServer", name := "rights", desc := "(II)I" } : Jvm.MethodName)) ∈ lw_all := lw_g (lw_at lw_m1 161 rfl) rfl
theorem q177 : (Jvm.Cond.methodLink "CapabilityServerLaw" (78 : Nat) ({ cls := "CapabilityServer", name := "alive", desc := "()I" } : Jvm.MethodName)) ∈ lw_all := lw_g (lw_at lw_m1 165 rfl) rfl
theorem q181 : (Jvm.Cond.methodLink "CapabilityServerLaw" (9 : Nat) ({ cls := "CapabilityServerLaw", name := "cell", desc := "([II)I" } : Jvm.MethodName)) ∈ lw_all := lw_g (lw_at lw_m1 169 rfl) rfl
theorem q182 : (Jvm.Cond.static ({ cls := "CapabilityServerLaw", name := "cell", desc := "([II)I" } : Jvm.MethodName)) ∈ lw_all := lw_g (lw_at lw_m1 170 rfl) rfl
theorem q183 : (Jvm.Cond.code ({ cls := "CapabilityServerLaw", name := "cell", desc := "([II)I" } : Jvm.MethodName) method_2_code (2 : Nat) (Option.some Jvm.ClassFile.FieldType.int)) ∈ lw_all := lw_g (lw_at lw_m1 171 rfl) rfl
theorem q184 : (Jvm.Cond.classLink "CapabilityServerLaw" (18 : Nat) "CapabilityServerModel") ∈ lw_all := lw_g (lw_at lw_m1 172 rfl) rfl
theorem q186 : (Jvm.Cond.methodLink "CapabilityServerLaw" (20 : Nat) ({ cls := "CapabilityServerModel", name := "<init>", desc := "(I)V" } : Jvm.MethodName)) ∈ lw_all := lw_g (lw_at lw_m1 174 rfl) rfl
theorem q224 : (Jvm.Cond.methodLink "CapabilityServerLaw" (25 : Nat) ({ cls := "CapabilityServerModel", name := "create", desc := "(II)I" } : Jvm.MethodName)) ∈ lw_all := lw_g (lw_at lw_m1 212 rfl) rfl
theorem q240 : (Jvm.Cond.methodLink "CapabilityServerLaw" (29 : Nat) ({ cls := "CapabilityServerModel", name := "read", desc := "(II)I" } : Jvm.MethodName)) ∈ lw_all := lw_g (lw_at lw_m1 228 rfl) rfl
theorem q252 : (Jvm.Cond.methodLink "CapabilityServerLaw" (34 : Nat) ({ cls := "CapabilityServerModel", name := "add", desc := "(III)I" } : Jvm.MethodName)) ∈ lw_all := lw_g (lw_at lw_m2 0 rfl) rfl
theorem q256 : (Jvm.Cond.methodLink "CapabilityServerLaw" (38 : Nat) ({ cls := "CapabilityServerModel", name := "destroy", desc := "(II)I" } : Jvm.MethodName)) ∈ lw_all := lw_g (lw_at lw_m2 4 rfl) rfl
theorem q260 : (Jvm.Cond.methodLink "CapabilityServerLaw" (42 : Nat) ({ cls := "CapabilityServerModel", name := "revoke", desc := "(II)I" } : Jvm.MethodName)) ∈ lw_all := lw_g (lw_at lw_m2 8 rfl) rfl
theorem q264 : (Jvm.Cond.methodLink "CapabilityServerLaw" (47 : Nat) ({ cls := "CapabilityServerModel", name := "restrict", desc := "(IIII)I" } : Jvm.MethodName)) ∈ lw_all := lw_g (lw_at lw_m2 12 rfl) rfl
theorem q268 : (Jvm.Cond.methodLink "CapabilityServerLaw" (52 : Nat) ({ cls := "CapabilityServerModel", name := "again", desc := "(I)I" } : Jvm.MethodName)) ∈ lw_all := lw_g (lw_at lw_m2 16 rfl) rfl
theorem q272 : (Jvm.Cond.methodLink "CapabilityServerLaw" (56 : Nat) ({ cls := "CapabilityServerModel", name := "copy", desc := "(III)I" } : Jvm.MethodName)) ∈ lw_all := lw_g (lw_at lw_m2 20 rfl) rfl
theorem q276 : (Jvm.Cond.methodLink "CapabilityServerLaw" (60 : Nat) ({ cls := "CapabilityServerModel", name := "tamper", desc := "(III)I" } : Jvm.MethodName)) ∈ lw_all := lw_g (lw_at lw_m2 24 rfl) rfl
theorem q280 : (Jvm.Cond.methodLink "CapabilityServerLaw" (64 : Nat) ({ cls := "CapabilityServerModel", name := "clear", desc := "(II)I" } : Jvm.MethodName)) ∈ lw_all := lw_g (lw_at lw_m2 28 rfl) rfl
theorem q284 : (Jvm.Cond.methodLink "CapabilityServerLaw" (68 : Nat) ({ cls := "CapabilityServerModel", name := "restart", desc := "()V" } : Jvm.MethodName)) ∈ lw_all := lw_g (lw_at lw_m2 32 rfl) rfl
theorem q288 : (Jvm.Cond.methodLink "CapabilityServerLaw" (73 : Nat) ({ cls := "CapabilityServerModel", name := "genuine", desc := "(II)Z" } : Jvm.MethodName)) ∈ lw_all := lw_g (lw_at lw_m2 36 rfl) rfl
theorem q289 : (Jvm.Cond.methodLink "CapabilityServerLaw" (77 : Nat) ({ cls := "CapabilityServerModel", name := "rights", desc := "(II)I" } : Jvm.MethodName)) ∈ lw_all := lw_g (lw_at lw_m2 37 rfl) rfl
theorem q293 : (Jvm.Cond.methodLink "CapabilityServerLaw" (82 : Nat) ({ cls := "CapabilityServerModel", name := "alive", desc := "()I" } : Jvm.MethodName)) ∈ lw_all := lw_g (lw_at lw_m2 41 rfl) rfl
end
section
/-! part 05: the two classes as functions of numbers. A state: field number -> contents of its array (an int field at place 0) -/
abbrev ks_St : Type := Nat → Nat → Int32
def ks_up (S : ks_St) (k : Nat) (g : Nat → Int32) : ks_St := fun j => cond (Nat.beq j k) g (S j)
/-- x is stored at place i of field k's array -/
def ks_st (S : ks_St) (k : Nat) (i x : Int32) : ks_St := ks_up S k (upd (S k) i.toNatClampNeg x)
-- the server
def sv_ushr (x k : Int32) : Int32 := (x.toUInt32 >>> (k.toUInt32 &&& Int32.toUInt32 31)).toInt32
def sv_mix (x : Int32) : Int32 := ((((x * 1540483477) ^^^ sv_ushr (x * 1540483477) 15) * 668265263) ^^^ sv_ushr (((x * 1540483477) ^^^ sv_ushr (x * 1540483477) 15) * 668265263) 13) * 374761393 + 1
def sv_badUser (u : Int32) : Int32 := if u < 0 then 1 else if u ≤ 1 then 0 else 1
def sv_badSlot (u : Int32) : Int32 := if u < 0 then 1 else if u ≤ 7 then 0 else 1
def sv_needed (op : Int32) : Int32 := if op = 1 then 1 else if op = 2 then 2 else if op = 3 then 4 else if op = 4 then 8 else 0
def sv_valid (S : ks_St) (at_ : Int32) : Int32 :=
  if S 8 at_.toNatClampNeg = 0 then 0
  else if S 0 (S 9 at_.toNatClampNeg).toNatClampNeg = 0 then 0
  else if sv_mix (S 2 (S 9 at_.toNatClampNeg).toNatClampNeg ^^^ S 10 at_.toNatClampNeg) = S 11 at_.toNatClampNeg then 1 else 0
def sv_new (S : ks_St) : ks_St := ks_up S 3 (fun _ => S 3 0 + 1)
def sv_sec (S : ks_St) : Int32 := ((S 3 0 + 1) * 41358785 + S 4 0) <<< ((4 : Int32) &&& 31)
def sv_give (S : ks_St) (at_ o r : Int32) : ks_St := ks_st (ks_st (ks_st (ks_st S 8 at_ 1) 9 at_ o) 10 at_ r) 11 at_ (sv_mix (S 2 o.toNatClampNeg ^^^ r))
/-- the first of n places from i on that holds 0, else i + n -/
def sv_find (L : Nat → Int32) : Nat → Nat → Nat
  | 0, i => i
  | n + 1, i => if L i = 0 then i else sv_find L n (i + 1)
def sv_made (S : ks_St) (at_ o : Int32) : ks_St := sv_give (ks_st (sv_new (ks_st (ks_st S 0 o 1) 1 o 0)) 2 o (sv_sec (ks_st (ks_st S 0 o 1) 1 o 0))) at_ o 15
def sv_screate (S : ks_St) (at_ : Int32) : Int32 × ks_St :=
  if nI (sv_find (S 0) 8 0) = 8 then (-4, S) else (nI (sv_find (S 0) 8 0), sv_made S at_ (nI (sv_find (S 0) 8 0)))
def sv_do (S : ks_St) (op at_ to_ arg o : Int32) : Int32 × ks_St :=
  if op = 1 then (S 1 o.toNatClampNeg, S)
  else if op = 2 then ((ks_st S 1 o (S 1 o.toNatClampNeg + arg)) 1 o.toNatClampNeg, ks_st S 1 o (S 1 o.toNatClampNeg + arg))
  else if op = 3 then (0, ks_st S 0 o 0)
  else if op = 4 then (0, sv_give (ks_st (sv_new S) 2 o (sv_sec S)) at_ o (S 10 at_.toNatClampNeg))
  else ((sv_give S to_ o (S 10 at_.toNatClampNeg &&& arg)) 10 to_.toNatClampNeg, sv_give S to_ o (S 10 at_.toNatClampNeg &&& arg))
def sv_serve (S : ks_St) (op at_ to_ arg : Int32) : Int32 × ks_St :=
  if op = 0 then sv_screate S at_
  else if sv_valid S at_ = 0 then (-3, S)
  else if S 10 at_.toNatClampNeg &&& sv_needed op = sv_needed op then sv_do S op at_ to_ arg (S 9 at_.toNatClampNeg)
  else (-3, S)
def sv_got (S : ks_St) (u : Int32) : ks_St := ks_st (ks_st S 5 u (S 12 u.toNatClampNeg)) 6 u 1
def sv_kept (q : Int32 × ks_St) (u : Int32) : Int32 × ks_St := ((ks_st q.2 7 u q.1) 7 u.toNatClampNeg, ks_st q.2 7 u q.1)
def sv_receive (S : ks_St) (u : Int32) : Int32 × ks_St :=
  if S 5 u.toNatClampNeg < S 12 u.toNatClampNeg then sv_kept (sv_serve (sv_got S u) (S 13 u.toNatClampNeg) (S 14 u.toNatClampNeg) (S 15 u.toNatClampNeg) (S 16 u.toNatClampNeg)) u
  else if S 6 u.toNatClampNeg = 0 then (-6, S) else (S 7 u.toNatClampNeg, S)
def sv_sent (S : ks_St) (u op slot to_ arg : Int32) : ks_St := ks_st (ks_st (ks_st (ks_st (ks_st S 12 u (S 12 u.toNatClampNeg + 1)) 13 u op) 14 u (u * 8 + slot)) 15 u (u * 8 + to_)) 16 u arg
def sv_request (S : ks_St) (u op slot to_ arg : Int32) : Int32 × ks_St := sv_receive (sv_sent S u op slot to_ arg) u
def sv_slotReq (S : ks_St) (u slot op arg : Int32) : Int32 × ks_St :=
  if sv_badUser u = 0 then if sv_badSlot slot = 0 then sv_request S u op slot slot arg else (-2, S) else (-1, S)
def sv_restrict (S : ks_St) (u from_ to_ r : Int32) : Int32 × ks_St :=
  if sv_badUser u = 0 then
    if sv_badSlot from_ = 0 then
      if sv_badSlot to_ = 0 then
        if r < 0 then (-5, S) else if r ≤ 15 then sv_request S u 5 from_ to_ r else (-5, S)
      else (-2, S)
    else (-2, S)
  else (-1, S)
def sv_again (S : ks_St) (u : Int32) : Int32 × ks_St :=
  if sv_badUser u = 0 then if S 12 u.toNatClampNeg = 0 then (-6, S) else sv_receive S u else (-1, S)
def sv_copied (S : ks_St) (a t : Int32) : ks_St :=
  ks_st (ks_st (ks_st (ks_st S 8 t (vp_nar .boolean (S 8 a.toNatClampNeg))) 9 t (S 9 a.toNatClampNeg)) 10 t (S 10 a.toNatClampNeg)) 11 t (S 11 a.toNatClampNeg)
def sv_copy (S : ks_St) (u from_ to_ : Int32) : Int32 × ks_St :=
  if sv_badUser u = 0 then if sv_badSlot from_ = 0 then (0, sv_copied S (u * 8 + from_) (to_ &&& 15)) else (-2, S) else (-1, S)
def sv_tampered (S : ks_St) (a bits : Int32) : ks_St :=
  ks_st (ks_st S 10 a (S 10 a.toNatClampNeg ^^^ (bits &&& 15))) 9 a (S 9 a.toNatClampNeg ^^^ ((bits >>> ((4 : Int32) &&& 31)) &&& 7))
def sv_tamper (S : ks_St) (u slot bits : Int32) : Int32 × ks_St :=
  if sv_badUser u = 0 then if sv_badSlot slot = 0 then if S 8 (u * 8 + slot).toNatClampNeg = 0 then (-3, S) else (0, sv_tampered S (u * 8 + slot) bits) else (-2, S) else (-1, S)
def sv_clear (S : ks_St) (u slot : Int32) : Int32 × ks_St :=
  if sv_badUser u = 0 then if sv_badSlot slot = 0 then if S 8 (u * 8 + slot).toNatClampNeg = 0 then (0, ks_st S 8 (u * 8 + slot) 0) else (1, ks_st S 8 (u * 8 + slot) 0) else (-2, S) else (-1, S)
def sv_restart (S : ks_St) : ks_St := ks_st (ks_st (ks_st (ks_st S 6 0 0) 7 0 0) 6 1 0) 7 1 0
def sv_genuine (S : ks_St) (u slot : Int32) : Int32 :=
  if sv_badUser u = 0 then if sv_badSlot slot = 0 then sv_valid S (u * 8 + slot) else 0 else 0
def sv_rights (S : ks_St) (u slot : Int32) : Int32 :=
  if sv_badUser u = 0 then if sv_badSlot slot = 0 then if S 8 (u * 8 + slot).toNatClampNeg = 0 then 0 else S 10 (u * 8 + slot).toNatClampNeg else -2 else -1
/-- how many of n places from i on hold no 0, onto k -/
def sv_cnt (L : Nat → Int32) : Nat → Nat → Int32 → Int32
  | 0, _, k => k
  | n + 1, i, k => sv_cnt L n (i + 1) (if L i = 0 then k else k + 1)
def sv_alive (S : ks_St) : Int32 := sv_cnt (S 0) 8 0 0
def sv_init (seed : Int32) : ks_St := fun k _ => cond (Nat.beq k 4) seed 0
-- the model
def mo_refusal (u slot : Int32) : Int32 :=
  if u = 0 then if slot < 0 then -2 else if slot ≤ 7 then 0 else -2
  else if u = 1 then if slot < 0 then -2 else if slot ≤ 7 then 0 else -2
  else -1
def mo_answered (S : ks_St) (u a : Int32) : ks_St := ks_st (ks_st S 9 u 1) 10 u a
def mo_give (S : ks_St) (at_ o r : Int32) : ks_St :=
  ks_st (ks_st (ks_st (ks_st (ks_st (ks_st S 3 at_ 1) 4 at_ o) 5 at_ r) 6 at_ (S 2 o.toNatClampNeg)) 7 at_ o) 8 at_ r
/-- genuine, the numbers being in range -/
def mo_gen (S : ks_St) (a : Int32) : Int32 :=
  if S 3 a.toNatClampNeg = 0 then 0
  else if S 7 a.toNatClampNeg = S 4 a.toNatClampNeg then
    if S 8 a.toNatClampNeg = S 5 a.toNatClampNeg then
      if S 0 (S 7 a.toNatClampNeg).toNatClampNeg = 0 then 0
      else if S 2 (S 7 a.toNatClampNeg).toNatClampNeg = S 6 a.toNatClampNeg then 1 else 0
    else 0
  else 0
def mo_genuine (S : ks_St) (u slot : Int32) : Int32 := if 0 ≤ mo_refusal u slot then mo_gen S (u * 8 + slot) else 0
def mo_allows (S : ks_St) (u slot right : Int32) : Int32 :=
  if mo_genuine S u slot = 0 then 0 else if S 8 (u * 8 + slot).toNatClampNeg &&& right = right then 1 else 0
def mo_made (S : ks_St) (at_ o : Int32) : ks_St := mo_give (ks_st (ks_st (ks_st S 0 o 1) 1 o 0) 2 o (S 2 o.toNatClampNeg + 1)) at_ o 15
def mo_create (S : ks_St) (u slot : Int32) : Int32 × ks_St :=
  if 0 ≤ mo_refusal u slot then
    if nI (sv_find (S 0) 8 0) = 8 then (-4, mo_answered S u (-4))
    else (nI (sv_find (S 0) 8 0), mo_answered (mo_made S (u * 8 + slot) (nI (sv_find (S 0) 8 0))) u (nI (sv_find (S 0) 8 0)))
  else (mo_refusal u slot, S)
def mo_read (S : ks_St) (u slot : Int32) : Int32 × ks_St :=
  if 0 ≤ mo_refusal u slot then
    if mo_allows S u slot 1 = 0 then (-3, mo_answered S u (-3))
    else (S 1 (S 7 (u * 8 + slot).toNatClampNeg).toNatClampNeg, mo_answered S u (S 1 (S 7 (u * 8 + slot).toNatClampNeg).toNatClampNeg))
  else (mo_refusal u slot, S)
def mo_added (S : ks_St) (o more : Int32) : ks_St := ks_st S 1 o (S 1 o.toNatClampNeg + more)
def mo_add (S : ks_St) (u slot more : Int32) : Int32 × ks_St :=
  if 0 ≤ mo_refusal u slot then
    if mo_allows S u slot 2 = 0 then (-3, mo_answered S u (-3))
    else ((mo_added S (S 7 (u * 8 + slot).toNatClampNeg) more) 1 (S 7 (u * 8 + slot).toNatClampNeg).toNatClampNeg, mo_answered (mo_added S (S 7 (u * 8 + slot).toNatClampNeg) more) u ((mo_added S (S 7 (u * 8 + slot).toNatClampNeg) more) 1 (S 7 (u * 8 + slot).toNatClampNeg).toNatClampNeg))
  else (mo_refusal u slot, S)
def mo_destroy (S : ks_St) (u slot : Int32) : Int32 × ks_St :=
  if 0 ≤ mo_refusal u slot then
    if mo_allows S u slot 4 = 0 then (-3, mo_answered S u (-3))
    else (0, mo_answered (ks_st S 0 (S 7 (u * 8 + slot).toNatClampNeg) 0) u 0)
  else (mo_refusal u slot, S)
def mo_revoked (S : ks_St) (a : Int32) : ks_St :=
  mo_give (ks_st S 2 (S 7 a.toNatClampNeg) (S 2 (S 7 a.toNatClampNeg).toNatClampNeg + 1)) a (S 7 a.toNatClampNeg) (S 8 a.toNatClampNeg)
def mo_revoke (S : ks_St) (u slot : Int32) : Int32 × ks_St :=
  if 0 ≤ mo_refusal u slot then
    if mo_allows S u slot 8 = 0 then (-3, mo_answered S u (-3))
    else (0, mo_answered (mo_revoked S (u * 8 + slot)) u 0)
  else (mo_refusal u slot, S)
def mo_restricted (S : ks_St) (u from_ to_ r : Int32) : Int32 × ks_St :=
  if r < 0 then (-5, S)
  else if r ≤ 15 then
    if mo_genuine S u from_ = 0 then (-3, mo_answered S u (-3))
    else (S 8 (u * 8 + from_).toNatClampNeg &&& r, mo_answered (mo_give S (u * 8 + to_) (S 7 (u * 8 + from_).toNatClampNeg) (S 8 (u * 8 + from_).toNatClampNeg &&& r)) u (S 8 (u * 8 + from_).toNatClampNeg &&& r))
  else (-5, S)
def mo_restrict (S : ks_St) (u from_ to_ r : Int32) : Int32 × ks_St :=
  if mo_refusal u from_ = 0 then
    if 0 ≤ mo_refusal u to_ then mo_restricted S u from_ to_ r else (mo_refusal u to_, S)
  else (mo_refusal u from_, S)
def mo_again (S : ks_St) (u : Int32) : Int32 :=
  if u = 0 then if S 9 u.toNatClampNeg = 0 then -6 else S 10 u.toNatClampNeg
  else if u = 1 then if S 9 u.toNatClampNeg = 0 then -6 else S 10 u.toNatClampNeg
  else -1
def mo_copied (S : ks_St) (a t : Int32) : ks_St :=
  ks_st (ks_st (ks_st (ks_st (ks_st (ks_st S 3 t (vp_nar .boolean (S 3 a.toNatClampNeg))) 4 t (S 4 a.toNatClampNeg)) 5 t (S 5 a.toNatClampNeg)) 6 t (S 6 a.toNatClampNeg)) 7 t (S 7 a.toNatClampNeg)) 8 t (S 8 a.toNatClampNeg)
def mo_copy (S : ks_St) (u from_ to_ : Int32) : Int32 × ks_St :=
  if 0 ≤ mo_refusal u from_ then (0, mo_copied S (u * 8 + from_) (to_ &&& 15)) else (mo_refusal u from_, S)
def mo_tampered (S : ks_St) (a bits : Int32) : ks_St :=
  ks_st (ks_st S 8 a (S 8 a.toNatClampNeg ^^^ (bits &&& 15))) 7 a (S 7 a.toNatClampNeg ^^^ ((bits >>> ((4 : Int32) &&& 31)) &&& 7))
def mo_tamper (S : ks_St) (u slot bits : Int32) : Int32 × ks_St :=
  if 0 ≤ mo_refusal u slot then if S 3 (u * 8 + slot).toNatClampNeg = 0 then (-3, S) else (0, mo_tampered S (u * 8 + slot) bits) else (mo_refusal u slot, S)
def mo_clear (S : ks_St) (u slot : Int32) : Int32 × ks_St :=
  if 0 ≤ mo_refusal u slot then if S 3 (u * 8 + slot).toNatClampNeg = 0 then (0, ks_st S 3 (u * 8 + slot) 0) else (1, ks_st S 3 (u * 8 + slot) 0) else (mo_refusal u slot, S)
def mo_restart (S : ks_St) : ks_St := ks_st (ks_st S 9 0 0) 9 1 0
def mo_rights (S : ks_St) (u slot : Int32) : Int32 :=
  if 0 ≤ mo_refusal u slot then if S 3 (u * 8 + slot).toNatClampNeg = 0 then 0 else S 8 (u * 8 + slot).toNatClampNeg else mo_refusal u slot
def mo_alive (S : ks_St) : Int32 := sv_cnt (S 0) 8 0 0
def mo_init : ks_St := fun _ _ => 0
def sv_create (S : ks_St) (u slot : Int32) : Int32 × ks_St := sv_slotReq S u slot 0 0
def sv_read (S : ks_St) (u slot : Int32) : Int32 × ks_St := sv_slotReq S u slot 1 0
def sv_add (S : ks_St) (u slot more : Int32) : Int32 × ks_St := sv_slotReq S u slot 2 more
def sv_destroy (S : ks_St) (u slot : Int32) : Int32 × ks_St := sv_slotReq S u slot 3 0
def sv_revoke (S : ks_St) (u slot : Int32) : Int32 × ks_St := sv_slotReq S u slot 4 0
-- ranges
/-- what the server's walks ask of a state: object numbers and sent places are in range -/
def sv_ok (S : ks_St) : Prop := (∀ j, vp_in (S 9 j) 8) ∧ (∀ j, vp_in (S 14 j) 16) ∧ (∀ j, vp_in (S 15 j) 16)
def mo_ok (S : ks_St) : Prop := ∀ j, vp_in (S 7 j) 8
theorem ks_user {u : Int32} (h : sv_badUser u = 0) : vp_in u 2 := by
  unfold sv_badUser at h
  by_cases a : u < 0
  · rw [if_pos a] at h; exact absurd h (by decide)
  · rw [if_neg a] at h
    by_cases b : u ≤ 1
    · obtain ⟨j, hj, rfl⟩ := nI_of2 (M := 1) (n := 1) (by decide) a b
      exact vp_in_nI (by omega) (by decide)
    · rw [if_neg b] at h; exact absurd h (by decide)
theorem ks_slot {u : Int32} (h : sv_badSlot u = 0) : vp_in u 8 := by
  unfold sv_badSlot at h
  by_cases a : u < 0
  · rw [if_pos a] at h; exact absurd h (by decide)
  · rw [if_neg a] at h
    by_cases b : u ≤ 7
    · obtain ⟨j, hj, rfl⟩ := nI_of2 (M := 7) (n := 7) (by decide) a b
      exact vp_in_nI (by omega) (by decide)
    · rw [if_neg b] at h; exact absurd h (by decide)
theorem ks_at {u k : Int32} (hu : vp_in u 2) (hk : vp_in k 8) : vp_in (u * 8 + k) 16 := by
  obtain ⟨a, ha, rfl⟩ := vp_in_of hu (by decide)
  obtain ⟨b, hb, rfl⟩ := vp_in_of hk (by decide)
  rw [show (8 : Int32) = nI 8 from rfl, pk_mul, nI_add]
  exact vp_in_nI (by omega) (by decide)
theorem mo_rng {u k : Int32} (h : 0 ≤ mo_refusal u k) : vp_in u 2 ∧ vp_in k 8 := by
  have hk : ∀ k : Int32, 0 ≤ (if k < 0 then (-2 : Int32) else if k ≤ 7 then 0 else -2) → vp_in k 8 := by
    intro k h
    by_cases a : k < 0
    · rw [if_pos a] at h; exact absurd h (by decide)
    · rw [if_neg a] at h
      by_cases b : k ≤ 7
      · obtain ⟨j, hj, rfl⟩ := nI_of2 (M := 7) (n := 7) (by decide) a b
        exact vp_in_nI (by omega) (by decide)
      · rw [if_neg b] at h; exact absurd h (by decide)
  unfold mo_refusal at h
  by_cases a : u = 0
  · rw [if_pos a] at h
    refine ⟨?_, hk k h⟩
    rw [a]; exact vp_in_nI (n := 0) (by decide) (by decide)
  · rw [if_neg a] at h
    by_cases b : u = 1
    · rw [if_pos b] at h
      refine ⟨?_, hk k h⟩
      rw [b]; exact vp_in_nI (n := 1) (by decide) (by decide)
    · rw [if_neg b] at h; exact absurd h (by decide)
theorem mo_at {u k : Int32} (h : 0 ≤ mo_refusal u k) : vp_in (u * 8 + k) 16 := ks_at (mo_rng h).1 (mo_rng h).2
theorem ks_out4 {x : Int32} (h1 : ¬ x = 1) (h2 : ¬ x = 2) (h3 : ¬ x = 3) (h4 : ¬ x = 4) : x.toInt < 1 ∨ 4 < x.toInt := by
  have e1 : x.toInt ≠ 1 := fun h => h1 (Int32.toInt_inj.mp (by rw [h]; decide))
  have e2 : x.toInt ≠ 2 := fun h => h2 (Int32.toInt_inj.mp (by rw [h]; decide))
  have e3 : x.toInt ≠ 3 := fun h => h3 (Int32.toInt_inj.mp (by rw [h]; decide))
  have e4 : x.toInt ≠ 4 := fun h => h4 (Int32.toInt_inj.mp (by rw [h]; decide))
  omega
theorem sv_find_le (L : Nat → Int32) : ∀ n i, sv_find L n i ≤ i + n := by
  intro n
  induction n with
  | zero => intro i; exact Nat.le_refl _
  | succ n ih =>
    intro i
    rw [sv_find]
    by_cases a : L i = 0
    · rw [if_pos a]; omega
    · rw [if_neg a]; have := ih (i + 1); omega
theorem ks_upd_in {f : Nat → Int32} {k n : Nat} {x : Int32} (h : ∀ j, vp_in (f j) n) (hx : vp_in x n) : ∀ j, vp_in (upd f k x j) n := by
  intro j
  unfold upd
  by_cases a : j = k
  · rw [if_pos a]; exact hx
  · rw [if_neg a]; exact h j
theorem sv_ok_sent {S : ks_St} {u op slot to_ arg : Int32} (hok : sv_ok S) (hs : vp_in (u * 8 + slot) 16) (ht : vp_in (u * 8 + to_) 16) : sv_ok (sv_sent S u op slot to_ arg) :=
  ⟨fun j => hok.1 j, ks_upd_in (f := S 14) hok.2.1 hs, ks_upd_in (f := S 15) hok.2.2 ht⟩
theorem sv_valid01 (S : ks_St) (a : Int32) : sv_valid S a = 0 ∨ sv_valid S a = 1 := by
  unfold sv_valid
  by_cases h1 : S 8 a.toNatClampNeg = 0
  · rw [if_pos h1]; exact Or.inl rfl
  · rw [if_neg h1]
    by_cases h2 : S 0 (S 9 a.toNatClampNeg).toNatClampNeg = 0
    · rw [if_pos h2]; exact Or.inl rfl
    · rw [if_neg h2]
      by_cases h3 : sv_mix (S 2 (S 9 a.toNatClampNeg).toNatClampNeg ^^^ S 10 a.toNatClampNeg) = S 11 a.toNatClampNeg
      · rw [if_pos h3]; exact Or.inr rfl
      · rw [if_neg h3]; exact Or.inl rfl
theorem sv_valid_nar (S : ks_St) (a : Int32) : narrow .boolean (.int (sv_valid S a)) = .int (sv_valid S a) := by
  rcases sv_valid01 S a with h | h <;> rw [h] <;> rfl
end
section
/-! part 05: the worlds of the two classes; own helper rows over the kit (enter a method, read, write, call, return) -/
set_option maxRecDepth 100000
abbrev vwCl : List vw_C := [(RX1, TX1, 17), (RX2, TX2, 11)]
def x1_fs (ad : Nat → Nat) (S : ks_St) : List Value := [.ref (ad 0), .ref (ad 1), .ref (ad 2), .int (S 3 0), .int (S 4 0), .ref (ad 5), .ref (ad 6), .ref (ad 7), .ref (ad 8), .ref (ad 9), .ref (ad 10), .ref (ad 11), .ref (ad 12), .ref (ad 13), .ref (ad 14), .ref (ad 15), .ref (ad 16)]
def w1_ (h : Nat) (ad : Nat → Nat) (ca : Nat → ClassId) (S : ks_St) : va_W := [(h, .inr (0, x1_fs ad S)), (ad 0, .inl (ca 0, 8, .inl (S 0))), (ad 1, .inl (ca 1, 8, .inl (S 1))), (ad 2, .inl (ca 2, 8, .inl (S 2))), (ad 5, .inl (ca 5, 2, .inl (S 5))), (ad 6, .inl (ca 6, 2, .inl (S 6))), (ad 7, .inl (ca 7, 2, .inl (S 7))), (ad 8, .inl (ca 8, 16, .inl (S 8))), (ad 9, .inl (ca 9, 16, .inl (S 9))), (ad 10, .inl (ca 10, 16, .inl (S 10))), (ad 11, .inl (ca 11, 16, .inl (S 11))), (ad 12, .inl (ca 12, 2, .inl (S 12))), (ad 13, .inl (ca 13, 2, .inl (S 13))), (ad 14, .inl (ca 14, 2, .inl (S 14))), (ad 15, .inl (ca 15, 2, .inl (S 15))), (ad 16, .inl (ca 16, 2, .inl (S 16)))]
def t1_ (ca : Nat → ClassId) : List (ClassId × FieldType) := [(ca 0, .boolean), (ca 1, .int), (ca 2, .int), (ca 5, .int), (ca 6, .boolean), (ca 7, .int), (ca 8, .boolean), (ca 9, .int), (ca 10, .int), (ca 11, .int), (ca 12, .int), (ca 13, .int), (ca 14, .int), (ca 15, .int), (ca 16, .int)]
theorem x1_o {h : Nat} {ad : Nat → Nat} {ca : Nat → ClassId} {S : ks_St} : (w1_ h ad ca S)[0]? = some (h, .inr (0, x1_fs ad S)) := rfl
theorem x1_a0 {h : Nat} {ad : Nat → Nat} {ca : Nat → ClassId} {S : ks_St} : (w1_ h ad ca S)[1]? = some (ad 0, .inl (ca 0, 8, .inl (S 0))) := rfl
theorem x1_t0 {ca : Nat → ClassId} : (t1_ ca)[0]? = some (ca 0, .boolean) := rfl
theorem x1_s0 {h : Nat} {ad : Nat → Nat} {ca : Nat → ClassId} {S : ks_St} (g : Nat → Int32) : (w1_ h ad ca S).set 1 (ad 0, .inl (ca 0, 8, .inl g)) = w1_ h ad ca (ks_up S 0 g) := rfl
theorem x1_a1 {h : Nat} {ad : Nat → Nat} {ca : Nat → ClassId} {S : ks_St} : (w1_ h ad ca S)[2]? = some (ad 1, .inl (ca 1, 8, .inl (S 1))) := rfl
theorem x1_t1 {ca : Nat → ClassId} : (t1_ ca)[1]? = some (ca 1, .int) := rfl
theorem x1_s1 {h : Nat} {ad : Nat → Nat} {ca : Nat → ClassId} {S : ks_St} (g : Nat → Int32) : (w1_ h ad ca S).set 2 (ad 1, .inl (ca 1, 8, .inl g)) = w1_ h ad ca (ks_up S 1 g) := rfl
theorem x1_a2 {h : Nat} {ad : Nat → Nat} {ca : Nat → ClassId} {S : ks_St} : (w1_ h ad ca S)[3]? = some (ad 2, .inl (ca 2, 8, .inl (S 2))) := rfl
theorem x1_t2 {ca : Nat → ClassId} : (t1_ ca)[2]? = some (ca 2, .int) := rfl
theorem x1_s2 {h : Nat} {ad : Nat → Nat} {ca : Nat → ClassId} {S : ks_St} (g : Nat → Int32) : (w1_ h ad ca S).set 3 (ad 2, .inl (ca 2, 8, .inl g)) = w1_ h ad ca (ks_up S 2 g) := rfl
theorem x1_a5 {h : Nat} {ad : Nat → Nat} {ca : Nat → ClassId} {S : ks_St} : (w1_ h ad ca S)[4]? = some (ad 5, .inl (ca 5, 2, .inl (S 5))) := rfl
theorem x1_t5 {ca : Nat → ClassId} : (t1_ ca)[3]? = some (ca 5, .int) := rfl
theorem x1_s5 {h : Nat} {ad : Nat → Nat} {ca : Nat → ClassId} {S : ks_St} (g : Nat → Int32) : (w1_ h ad ca S).set 4 (ad 5, .inl (ca 5, 2, .inl g)) = w1_ h ad ca (ks_up S 5 g) := rfl
theorem x1_a6 {h : Nat} {ad : Nat → Nat} {ca : Nat → ClassId} {S : ks_St} : (w1_ h ad ca S)[5]? = some (ad 6, .inl (ca 6, 2, .inl (S 6))) := rfl
theorem x1_t6 {ca : Nat → ClassId} : (t1_ ca)[4]? = some (ca 6, .boolean) := rfl
theorem x1_s6 {h : Nat} {ad : Nat → Nat} {ca : Nat → ClassId} {S : ks_St} (g : Nat → Int32) : (w1_ h ad ca S).set 5 (ad 6, .inl (ca 6, 2, .inl g)) = w1_ h ad ca (ks_up S 6 g) := rfl
theorem x1_a7 {h : Nat} {ad : Nat → Nat} {ca : Nat → ClassId} {S : ks_St} : (w1_ h ad ca S)[6]? = some (ad 7, .inl (ca 7, 2, .inl (S 7))) := rfl
theorem x1_t7 {ca : Nat → ClassId} : (t1_ ca)[5]? = some (ca 7, .int) := rfl
theorem x1_s7 {h : Nat} {ad : Nat → Nat} {ca : Nat → ClassId} {S : ks_St} (g : Nat → Int32) : (w1_ h ad ca S).set 6 (ad 7, .inl (ca 7, 2, .inl g)) = w1_ h ad ca (ks_up S 7 g) := rfl
theorem x1_a8 {h : Nat} {ad : Nat → Nat} {ca : Nat → ClassId} {S : ks_St} : (w1_ h ad ca S)[7]? = some (ad 8, .inl (ca 8, 16, .inl (S 8))) := rfl
theorem x1_t8 {ca : Nat → ClassId} : (t1_ ca)[6]? = some (ca 8, .boolean) := rfl
theorem x1_s8 {h : Nat} {ad : Nat → Nat} {ca : Nat → ClassId} {S : ks_St} (g : Nat → Int32) : (w1_ h ad ca S).set 7 (ad 8, .inl (ca 8, 16, .inl g)) = w1_ h ad ca (ks_up S 8 g) := rfl
theorem x1_a9 {h : Nat} {ad : Nat → Nat} {ca : Nat → ClassId} {S : ks_St} : (w1_ h ad ca S)[8]? = some (ad 9, .inl (ca 9, 16, .inl (S 9))) := rfl
theorem x1_t9 {ca : Nat → ClassId} : (t1_ ca)[7]? = some (ca 9, .int) := rfl
theorem x1_s9 {h : Nat} {ad : Nat → Nat} {ca : Nat → ClassId} {S : ks_St} (g : Nat → Int32) : (w1_ h ad ca S).set 8 (ad 9, .inl (ca 9, 16, .inl g)) = w1_ h ad ca (ks_up S 9 g) := rfl
theorem x1_a10 {h : Nat} {ad : Nat → Nat} {ca : Nat → ClassId} {S : ks_St} : (w1_ h ad ca S)[9]? = some (ad 10, .inl (ca 10, 16, .inl (S 10))) := rfl
theorem x1_t10 {ca : Nat → ClassId} : (t1_ ca)[8]? = some (ca 10, .int) := rfl
theorem x1_s10 {h : Nat} {ad : Nat → Nat} {ca : Nat → ClassId} {S : ks_St} (g : Nat → Int32) : (w1_ h ad ca S).set 9 (ad 10, .inl (ca 10, 16, .inl g)) = w1_ h ad ca (ks_up S 10 g) := rfl
theorem x1_a11 {h : Nat} {ad : Nat → Nat} {ca : Nat → ClassId} {S : ks_St} : (w1_ h ad ca S)[10]? = some (ad 11, .inl (ca 11, 16, .inl (S 11))) := rfl
theorem x1_t11 {ca : Nat → ClassId} : (t1_ ca)[9]? = some (ca 11, .int) := rfl
theorem x1_s11 {h : Nat} {ad : Nat → Nat} {ca : Nat → ClassId} {S : ks_St} (g : Nat → Int32) : (w1_ h ad ca S).set 10 (ad 11, .inl (ca 11, 16, .inl g)) = w1_ h ad ca (ks_up S 11 g) := rfl
theorem x1_a12 {h : Nat} {ad : Nat → Nat} {ca : Nat → ClassId} {S : ks_St} : (w1_ h ad ca S)[11]? = some (ad 12, .inl (ca 12, 2, .inl (S 12))) := rfl
theorem x1_t12 {ca : Nat → ClassId} : (t1_ ca)[10]? = some (ca 12, .int) := rfl
theorem x1_s12 {h : Nat} {ad : Nat → Nat} {ca : Nat → ClassId} {S : ks_St} (g : Nat → Int32) : (w1_ h ad ca S).set 11 (ad 12, .inl (ca 12, 2, .inl g)) = w1_ h ad ca (ks_up S 12 g) := rfl
theorem x1_a13 {h : Nat} {ad : Nat → Nat} {ca : Nat → ClassId} {S : ks_St} : (w1_ h ad ca S)[12]? = some (ad 13, .inl (ca 13, 2, .inl (S 13))) := rfl
theorem x1_t13 {ca : Nat → ClassId} : (t1_ ca)[11]? = some (ca 13, .int) := rfl
theorem x1_s13 {h : Nat} {ad : Nat → Nat} {ca : Nat → ClassId} {S : ks_St} (g : Nat → Int32) : (w1_ h ad ca S).set 12 (ad 13, .inl (ca 13, 2, .inl g)) = w1_ h ad ca (ks_up S 13 g) := rfl
theorem x1_a14 {h : Nat} {ad : Nat → Nat} {ca : Nat → ClassId} {S : ks_St} : (w1_ h ad ca S)[13]? = some (ad 14, .inl (ca 14, 2, .inl (S 14))) := rfl
theorem x1_t14 {ca : Nat → ClassId} : (t1_ ca)[12]? = some (ca 14, .int) := rfl
theorem x1_s14 {h : Nat} {ad : Nat → Nat} {ca : Nat → ClassId} {S : ks_St} (g : Nat → Int32) : (w1_ h ad ca S).set 13 (ad 14, .inl (ca 14, 2, .inl g)) = w1_ h ad ca (ks_up S 14 g) := rfl
theorem x1_a15 {h : Nat} {ad : Nat → Nat} {ca : Nat → ClassId} {S : ks_St} : (w1_ h ad ca S)[14]? = some (ad 15, .inl (ca 15, 2, .inl (S 15))) := rfl
theorem x1_t15 {ca : Nat → ClassId} : (t1_ ca)[13]? = some (ca 15, .int) := rfl
theorem x1_s15 {h : Nat} {ad : Nat → Nat} {ca : Nat → ClassId} {S : ks_St} (g : Nat → Int32) : (w1_ h ad ca S).set 14 (ad 15, .inl (ca 15, 2, .inl g)) = w1_ h ad ca (ks_up S 15 g) := rfl
theorem x1_a16 {h : Nat} {ad : Nat → Nat} {ca : Nat → ClassId} {S : ks_St} : (w1_ h ad ca S)[15]? = some (ad 16, .inl (ca 16, 2, .inl (S 16))) := rfl
theorem x1_t16 {ca : Nat → ClassId} : (t1_ ca)[14]? = some (ca 16, .int) := rfl
theorem x1_s16 {h : Nat} {ad : Nat → Nat} {ca : Nat → ClassId} {S : ks_St} (g : Nat → Int32) : (w1_ h ad ca S).set 15 (ad 16, .inl (ca 16, 2, .inl g)) = w1_ h ad ca (ks_up S 16 g) := rfl
def x2_fs (ad : Nat → Nat) (S : ks_St) : List Value := [.ref (ad 0), .ref (ad 1), .ref (ad 2), .ref (ad 3), .ref (ad 4), .ref (ad 5), .ref (ad 6), .ref (ad 7), .ref (ad 8), .ref (ad 9), .ref (ad 10)]
def w2_ (h : Nat) (ad : Nat → Nat) (ca : Nat → ClassId) (S : ks_St) : va_W := [(h, .inr (1, x2_fs ad S)), (ad 0, .inl (ca 0, 8, .inl (S 0))), (ad 1, .inl (ca 1, 8, .inl (S 1))), (ad 2, .inl (ca 2, 8, .inl (S 2))), (ad 3, .inl (ca 3, 16, .inl (S 3))), (ad 4, .inl (ca 4, 16, .inl (S 4))), (ad 5, .inl (ca 5, 16, .inl (S 5))), (ad 6, .inl (ca 6, 16, .inl (S 6))), (ad 7, .inl (ca 7, 16, .inl (S 7))), (ad 8, .inl (ca 8, 16, .inl (S 8))), (ad 9, .inl (ca 9, 2, .inl (S 9))), (ad 10, .inl (ca 10, 2, .inl (S 10)))]
def t2_ (ca : Nat → ClassId) : List (ClassId × FieldType) := [(ca 0, .boolean), (ca 1, .int), (ca 2, .int), (ca 3, .boolean), (ca 4, .int), (ca 5, .int), (ca 6, .int), (ca 7, .int), (ca 8, .int), (ca 9, .boolean), (ca 10, .int)]
theorem x2_o {h : Nat} {ad : Nat → Nat} {ca : Nat → ClassId} {S : ks_St} : (w2_ h ad ca S)[0]? = some (h, .inr (1, x2_fs ad S)) := rfl
theorem x2_a0 {h : Nat} {ad : Nat → Nat} {ca : Nat → ClassId} {S : ks_St} : (w2_ h ad ca S)[1]? = some (ad 0, .inl (ca 0, 8, .inl (S 0))) := rfl
theorem x2_t0 {ca : Nat → ClassId} : (t2_ ca)[0]? = some (ca 0, .boolean) := rfl
theorem x2_s0 {h : Nat} {ad : Nat → Nat} {ca : Nat → ClassId} {S : ks_St} (g : Nat → Int32) : (w2_ h ad ca S).set 1 (ad 0, .inl (ca 0, 8, .inl g)) = w2_ h ad ca (ks_up S 0 g) := rfl
theorem x2_a1 {h : Nat} {ad : Nat → Nat} {ca : Nat → ClassId} {S : ks_St} : (w2_ h ad ca S)[2]? = some (ad 1, .inl (ca 1, 8, .inl (S 1))) := rfl
theorem x2_t1 {ca : Nat → ClassId} : (t2_ ca)[1]? = some (ca 1, .int) := rfl
theorem x2_s1 {h : Nat} {ad : Nat → Nat} {ca : Nat → ClassId} {S : ks_St} (g : Nat → Int32) : (w2_ h ad ca S).set 2 (ad 1, .inl (ca 1, 8, .inl g)) = w2_ h ad ca (ks_up S 1 g) := rfl
theorem x2_a2 {h : Nat} {ad : Nat → Nat} {ca : Nat → ClassId} {S : ks_St} : (w2_ h ad ca S)[3]? = some (ad 2, .inl (ca 2, 8, .inl (S 2))) := rfl
theorem x2_t2 {ca : Nat → ClassId} : (t2_ ca)[2]? = some (ca 2, .int) := rfl
theorem x2_s2 {h : Nat} {ad : Nat → Nat} {ca : Nat → ClassId} {S : ks_St} (g : Nat → Int32) : (w2_ h ad ca S).set 3 (ad 2, .inl (ca 2, 8, .inl g)) = w2_ h ad ca (ks_up S 2 g) := rfl
theorem x2_a3 {h : Nat} {ad : Nat → Nat} {ca : Nat → ClassId} {S : ks_St} : (w2_ h ad ca S)[4]? = some (ad 3, .inl (ca 3, 16, .inl (S 3))) := rfl
theorem x2_t3 {ca : Nat → ClassId} : (t2_ ca)[3]? = some (ca 3, .boolean) := rfl
theorem x2_s3 {h : Nat} {ad : Nat → Nat} {ca : Nat → ClassId} {S : ks_St} (g : Nat → Int32) : (w2_ h ad ca S).set 4 (ad 3, .inl (ca 3, 16, .inl g)) = w2_ h ad ca (ks_up S 3 g) := rfl
theorem x2_a4 {h : Nat} {ad : Nat → Nat} {ca : Nat → ClassId} {S : ks_St} : (w2_ h ad ca S)[5]? = some (ad 4, .inl (ca 4, 16, .inl (S 4))) := rfl
theorem x2_t4 {ca : Nat → ClassId} : (t2_ ca)[4]? = some (ca 4, .int) := rfl
theorem x2_s4 {h : Nat} {ad : Nat → Nat} {ca : Nat → ClassId} {S : ks_St} (g : Nat → Int32) : (w2_ h ad ca S).set 5 (ad 4, .inl (ca 4, 16, .inl g)) = w2_ h ad ca (ks_up S 4 g) := rfl
theorem x2_a5 {h : Nat} {ad : Nat → Nat} {ca : Nat → ClassId} {S : ks_St} : (w2_ h ad ca S)[6]? = some (ad 5, .inl (ca 5, 16, .inl (S 5))) := rfl
theorem x2_t5 {ca : Nat → ClassId} : (t2_ ca)[5]? = some (ca 5, .int) := rfl
theorem x2_s5 {h : Nat} {ad : Nat → Nat} {ca : Nat → ClassId} {S : ks_St} (g : Nat → Int32) : (w2_ h ad ca S).set 6 (ad 5, .inl (ca 5, 16, .inl g)) = w2_ h ad ca (ks_up S 5 g) := rfl
theorem x2_a6 {h : Nat} {ad : Nat → Nat} {ca : Nat → ClassId} {S : ks_St} : (w2_ h ad ca S)[7]? = some (ad 6, .inl (ca 6, 16, .inl (S 6))) := rfl
theorem x2_t6 {ca : Nat → ClassId} : (t2_ ca)[6]? = some (ca 6, .int) := rfl
theorem x2_s6 {h : Nat} {ad : Nat → Nat} {ca : Nat → ClassId} {S : ks_St} (g : Nat → Int32) : (w2_ h ad ca S).set 7 (ad 6, .inl (ca 6, 16, .inl g)) = w2_ h ad ca (ks_up S 6 g) := rfl
theorem x2_a7 {h : Nat} {ad : Nat → Nat} {ca : Nat → ClassId} {S : ks_St} : (w2_ h ad ca S)[8]? = some (ad 7, .inl (ca 7, 16, .inl (S 7))) := rfl
theorem x2_t7 {ca : Nat → ClassId} : (t2_ ca)[7]? = some (ca 7, .int) := rfl
theorem x2_s7 {h : Nat} {ad : Nat → Nat} {ca : Nat → ClassId} {S : ks_St} (g : Nat → Int32) : (w2_ h ad ca S).set 8 (ad 7, .inl (ca 7, 16, .inl g)) = w2_ h ad ca (ks_up S 7 g) := rfl
theorem x2_a8 {h : Nat} {ad : Nat → Nat} {ca : Nat → ClassId} {S : ks_St} : (w2_ h ad ca S)[9]? = some (ad 8, .inl (ca 8, 16, .inl (S 8))) := rfl
theorem x2_t8 {ca : Nat → ClassId} : (t2_ ca)[8]? = some (ca 8, .int) := rfl
theorem x2_s8 {h : Nat} {ad : Nat → Nat} {ca : Nat → ClassId} {S : ks_St} (g : Nat → Int32) : (w2_ h ad ca S).set 9 (ad 8, .inl (ca 8, 16, .inl g)) = w2_ h ad ca (ks_up S 8 g) := rfl
theorem x2_a9 {h : Nat} {ad : Nat → Nat} {ca : Nat → ClassId} {S : ks_St} : (w2_ h ad ca S)[10]? = some (ad 9, .inl (ca 9, 2, .inl (S 9))) := rfl
theorem x2_t9 {ca : Nat → ClassId} : (t2_ ca)[9]? = some (ca 9, .boolean) := rfl
theorem x2_s9 {h : Nat} {ad : Nat → Nat} {ca : Nat → ClassId} {S : ks_St} (g : Nat → Int32) : (w2_ h ad ca S).set 10 (ad 9, .inl (ca 9, 2, .inl g)) = w2_ h ad ca (ks_up S 9 g) := rfl
theorem x2_a10 {h : Nat} {ad : Nat → Nat} {ca : Nat → ClassId} {S : ks_St} : (w2_ h ad ca S)[11]? = some (ad 10, .inl (ca 10, 2, .inl (S 10))) := rfl
theorem x2_t10 {ca : Nat → ClassId} : (t2_ ca)[10]? = some (ca 10, .int) := rfl
theorem x2_s10 {h : Nat} {ad : Nat → Nat} {ca : Nat → ClassId} {S : ks_St} (g : Nat → Int32) : (w2_ h ad ca S).set 11 (ad 10, .inl (ca 10, 2, .inl g)) = w2_ h ad ca (ks_up S 10 g) := rfl
theorem x1_s3 {h : Nat} {ad : Nat → Nat} {ca : Nat → ClassId} {S : ks_St} {v : Int32} : (w1_ h ad ca S).set 0 (h, .inr (0, (x1_fs ad S).set 3 (.int v))) = w1_ h ad ca (ks_up S 3 (fun _ => v)) := rfl

/-- what a method knows of the machine: its class C, the tables' words, the classes -/
def ks_K (C : String) (D : va_G) (ty : List (ClassId × FieldType)) (p : Program) (s : State) (m : MethodId) (args : Array Value) : Prop :=
  p.tables.exec = Jvm.exec ∧ s.vm.findClass C = some m.cls ∧ (∀ w ∈ lw_all, w.before args s = true) ∧ va_K D vwCl ty s
/-- the world in a walk: the cells w, apart and in A; nothing else changed since H0 -/
def ks_W (D : va_G) (w : va_W) (A : Nat → Prop) (H0 H : Heap) (locs : List Loc) : Prop := va_P D vwCl w H ∧ va_D A w ∧ va_S A H0 H locs
/-- start of a method that changes its world -/
def ks_P (D : va_G) (w : va_W) (ty : List (ClassId × FieldType)) (sz : Nat) (av : List Value) : Array Value → State → Prop :=
  va_Pc av (fun U => U.heap.size = sz ∧ va_P D vwCl w U.heap ∧ va_K D vwCl ty U ∧ va_D (fun _ => True) w)
/-- start of a method that only reads its world -/
def ks_R (D : va_G) (w : va_W) (ty : List (ClassId × FieldType)) (av : List Value) : Array Value → State → Prop :=
  va_Pc av (fun U => va_P D vwCl w U.heap ∧ va_K D vwCl ty U)
/-- start of a static method of numbers alone -/
def ks_N (av : List Value) : Array Value → State → Prop := fun v _ => v = av.toArray
/-- end: answer r, the world is w -/
def ks_Qi (D : va_G) (r : Int32) (w : va_W) (A : Nat → Prop) : Array Value → State → Outcome → State → Prop :=
  va_Qi (fun (q : Int32) (_ : Unit) => q = r) (fun _ t => va_P D vwCl w t.heap ∧ va_D A w) A
def ks_Qv (D : va_G) (w : va_W) (A : Nat → Prop) : Array Value → State → Outcome → State → Prop :=
  va_Qv (fun (_ : Unit) => True) (fun _ t => va_P D vwCl w t.heap ∧ va_D A w) A
/-- no cell may be written -/
def ks_F : Nat → Prop := fun _ => False
theorem ks_enter {l : Launch} {y : MethodName} {cc : ByteArray} {maxL mc ms : Nat} {ret : Option FieldType} {rm : Room} {D : va_G} {w : va_W} {ty : List (ClassId × FieldType)} {sz : Nat} {av : List Value} {Qc : (Nat → Prop) → Array Value → State → Outcome → State → Prop} (C : String) (hy : plainName y.cls = true) (hc : y.cls = C) (hlen : (lg_sl av).length ≤ maxL)
    (body : ∀ (p : Program) (e : Env) (s : State) (m : MethodId) (below : List Frame) (meth : Method) (c : Code) (A : Nat → Prop) (ls : Array Slot), c.code = cc → c.maxLocals = maxL → meth.sig.returnType = ret → meth.locks = false → meth.name = y.name → ks_K C D ty p s m av.toArray → (∀ q, s.heap.size ≤ q → A q) → ks_W D w A s.heap s.heap [] → lv_has ls maxL (lv_args 0 av) →
      W p l e rm s m av.toArray below meth c s.heap [] 0 0 (MQ below (Qc A) av.toArray s mc ms A) (F0 m 0 ls [])) :
    Met l y (ws_ y cc maxL ret) rm (ks_P D w ty sz av) (Qc (va_A w sz)) mc ms (va_A w sz) := by
  refine Met.ofW (cc := cc) (maxL := maxL) (ret := ret) hy rfl ?_
  intro p e s m args below meth c s₁ B hml hv
  obtain ⟨rfl, hsz, hP, hK, hD0⟩ := hv
  have hts := atoms_spec (ws := ws_ y cc maxL ret) B.pre
  have hts : ∀ w ∈ lw_all, w.before _ s = true := fun w h => hts w (List.mem_cons_of_mem _ h)
  have hown : s.vm.findClass C = some m.cls := by rw [← hc]; exact findClass_of_methodNamed B.named
  subst hsz
  have hl := lv_entry av (n := maxL) hlen
  rw [lg_entry_eq]
  exact body p e s m below meth c _ _ B.bytes hml B.returns B.notSynchronized (name_of_methodNamed B.named B.method).1 ⟨B.exec, hown, hts, hK⟩ (fun q h => Or.inr h) ⟨hP, hD0.self, va_S.rf⟩ hl
theorem ks_enterR {l : Launch} {y : MethodName} {cc : ByteArray} {maxL : Nat} {ret : Option FieldType} {rm : Room} {D : va_G} {w : va_W} {ty : List (ClassId × FieldType)} {av : List Value} {r : Int32} (C : String) (hy : plainName y.cls = true) (hc : y.cls = C) (hlen : (lg_sl av).length ≤ maxL)
    (body : ∀ (p : Program) (e : Env) (s : State) (m : MethodId) (below : List Frame) (meth : Method) (c : Code) (ls : Array Slot), c.code = cc → c.maxLocals = maxL → meth.sig.returnType = ret → meth.locks = false → ks_K C D ty p s m av.toArray → va_P D vwCl w s.heap → lv_has ls maxL (lv_args 0 av) →
      W p l e rm s m av.toArray below meth c s.heap [] 0 0 (MQ below (QcRead r) av.toArray s 0 0 ks_F) (F0 m 0 ls [])) :
    Met l y (ws_ y cc maxL ret) rm (ks_R D w ty av) (QcRead r) 0 0 ks_F := by
  refine Met.ofW (cc := cc) (maxL := maxL) (ret := ret) hy rfl ?_
  intro p e s m args below meth c s₁ B hml hv
  obtain ⟨rfl, hP, hK⟩ := hv
  have hts := atoms_spec (ws := ws_ y cc maxL ret) B.pre
  have hts : ∀ w ∈ lw_all, w.before _ s = true := fun w h => hts w (List.mem_cons_of_mem _ h)
  have hown : s.vm.findClass C = some m.cls := by rw [← hc]; exact findClass_of_methodNamed B.named
  have hl := lv_entry av (n := maxL) hlen
  rw [lg_entry_eq]
  exact body p e s m below meth c _ B.bytes hml B.returns B.notSynchronized ⟨B.exec, hown, hts, hK⟩ hP hl
theorem ks_enterN {l : Launch} {y : MethodName} {cc : ByteArray} {maxL : Nat} {ret : Option FieldType} {rm : Room} {av : List Value} {r : Int32} (C : String) (hy : plainName y.cls = true) (hc : y.cls = C) (hlen : (lg_sl av).length ≤ maxL)
    (body : ∀ (p : Program) (e : Env) (s : State) (m : MethodId) (below : List Frame) (meth : Method) (c : Code) (ls : Array Slot), c.code = cc → c.maxLocals = maxL → meth.sig.returnType = ret → meth.locks = false → p.tables.exec = Jvm.exec → s.vm.findClass C = some m.cls → (∀ w ∈ lw_all, w.before av.toArray s = true) → lv_has ls maxL (lv_args 0 av) →
      W p l e rm s m av.toArray below meth c s.heap [] 0 0 (MQ below (QcRead r) av.toArray s 0 0 ks_F) (F0 m 0 ls [])) :
    Met l y (ws_ y cc maxL ret) rm (ks_N av) (QcRead r) 0 0 ks_F := by
  refine Met.ofW (cc := cc) (maxL := maxL) (ret := ret) hy rfl ?_
  intro p e s m args below meth c s₁ B hml hv
  have hv : args = av.toArray := hv
  subst hv
  have hts := atoms_spec (ws := ws_ y cc maxL ret) B.pre
  have hts : ∀ w ∈ lw_all, w.before _ s = true := fun w h => hts w (List.mem_cons_of_mem _ h)
  have hown : s.vm.findClass C = some m.cls := by rw [← hc]; exact findClass_of_methodNamed B.named
  have hl := lv_entry av (n := maxL) hlen
  rw [lg_entry_eq]
  exact body p e s m below meth c _ B.bytes hml B.returns B.notSynchronized B.exec hown hts hl
section KSR
variable {p : Program} {l : Launch} {e : Env} {R : Room} {s : State} {m : MethodId} {args : Array Value} {below : List Frame} {meth : Method} {c : Code} {H : Heap} {locs : List Loc} {cells slots : Nat} {Q : State → Prop}
variable {cc : ByteArray} {pc : Nat} {ls : Array Slot} {rest : List Value} {D : va_G} {A : Nat → Prop} {h : Nat} {ad : Nat → Nat} {ca : Nat → ClassId} {S : ks_St} {w w' : va_W}
-- returns
theorem ks_iret {v r : Int32} (hx : p.tables.exec = Jvm.exec) (hb : c.code = cc) (hr : meth.sig.returnType = some .int) (hlocks : meth.locks = false) (hW : ks_W D w A s.heap H locs) (hdg : decode cc pc = .ok (.ireturn, 1)) (e1 : v = r) (e2 : w = w') :
    W p l e R s m args below meth c H locs cells slots (MQ below (ks_Qi D r w' A) args s cells slots A) (F0 m pc ls [.int v]) := by
  subst e1; subst e2
  exact W.iret hx hb hr (fun t ht _ => ⟨⟨v, (), rfl, rfl, by rw [ht]; exact hW.1, hW.2.1⟩, hW.2.2.F ht⟩) hW.2.2.2.2 hdg hlocks
theorem ks_vret (hx : p.tables.exec = Jvm.exec) (hb : c.code = cc) (hr : meth.sig.returnType = none) (hlocks : meth.locks = false) (hW : ks_W D w A s.heap H locs) (hdg : decode cc pc = .ok (.return_, 1)) (e2 : w = w') :
    W p l e R s m args below meth c H locs cells slots (MQ below (ks_Qv D w' A) args s cells slots A) (F0 m pc ls []) := by
  subst e2
  exact W.vret hx hb hr (fun t ht _ => ⟨⟨(), rfl, trivial, by rw [ht]; exact hW.1, hW.2.1⟩, hW.2.2.F ht⟩) hW.2.2.2.2 hdg hlocks
theorem ks_rret {v r : Int32} (hx : p.tables.exec = Jvm.exec) (hb : c.code = cc) (hr : meth.sig.returnType = some .int) (hlocks : meth.locks = false) (hdg : decode cc pc = .ok (.ireturn, 1)) (e1 : v = r) :
    W p l e R s m args below meth c s.heap [] 0 0 (MQ below (QcRead r) args s 0 0 ks_F) (F0 m pc ls [.int v]) := by
  subst e1
  exact W.iret hx hb hr (fun t ht _ => ⟨rfl, ht⟩) (fun q h => by cases h) hdg hlocks
theorem ks_zret {v r : Int32} (hx : p.tables.exec = Jvm.exec) (hb : c.code = cc) (hr : meth.sig.returnType = some .boolean) (hlocks : meth.locks = false) (hdg : decode cc pc = .ok (.ireturn, 1)) (hn : narrow .boolean (.int v) = .int v) (e1 : v = r) :
    W p l e R s m args below meth c s.heap [] 0 0 (MQ below (QcRead r) args s 0 0 ks_F) (F0 m pc ls [.int v]) := by
  subst e1
  exact W.zret hx hb hr hn (fun t ht _ => ⟨rfl, ht⟩) (fun q h => by cases h) hdg hlocks
-- fields and arrays of the server
theorem x1_get (C : ks_K RX1 D (t1_ ca) p s m args) (hb : c.code = cc) (hP : va_P D vwCl (w1_ h ad ca S) H) (k : Nat) (hk : k < 17) {index : Nat} (hq : Cond.fieldLink RX1 index RX1 (TX1 k).2.1 (TX1 k).2.2.1 ∈ lw_all) (h1 : ∀ x, s.fieldFound? (TX1 k).1 (TX1 k).2.1 (TX1 k).2.2.1 = some x → s.fieldFound? RX1 (TX1 k).2.1 (TX1 k).2.2.1 = some x) {v : Value} (hv : (x1_fs ad S)[k]? = some v) (hdg : decode cc pc = .ok (.getfield index, 3))
    (kk : W p l e R s m args below meth c H locs cells slots Q (F0 m (pc + 3) ls (v :: rest))) : W p l e R s m args below meth c H locs cells slots Q (F0 m pc ls (.ref h :: rest)) :=
  va_get (D := D) (cl := vwCl) (ci := 0) (C := RX1) (T := TX1) (N := 17) C.1 hb C.2.2.1 in_X1 C.2.1 C.2.2.2 hP 0 x1_o rfl k hk (C.2.2.1 _ hq) h1 hv hdg kk
theorem x2_get (C : ks_K RX2 D (t2_ ca) p s m args) (hb : c.code = cc) (hP : va_P D vwCl (w2_ h ad ca S) H) (k : Nat) (hk : k < 11) {index : Nat} (hq : Cond.fieldLink RX2 index RX2 (TX2 k).2.1 (TX2 k).2.2.1 ∈ lw_all) (h1 : ∀ x, s.fieldFound? (TX2 k).1 (TX2 k).2.1 (TX2 k).2.2.1 = some x → s.fieldFound? RX2 (TX2 k).2.1 (TX2 k).2.2.1 = some x) {v : Value} (hv : (x2_fs ad S)[k]? = some v) (hdg : decode cc pc = .ok (.getfield index, 3))
    (kk : W p l e R s m args below meth c H locs cells slots Q (F0 m (pc + 3) ls (v :: rest))) : W p l e R s m args below meth c H locs cells slots Q (F0 m pc ls (.ref h :: rest)) :=
  va_get (D := D) (cl := vwCl) (ci := 1) (C := RX2) (T := TX2) (N := 11) C.1 hb C.2.2.1 in_X2 C.2.1 C.2.2.2 hP 0 x2_o rfl k hk (C.2.2.1 _ hq) h1 hv hdg kk
/-- an int array's element -/
theorem ks_ild {C : String} {ty : List (ClassId × FieldType)} {q t k n : Nat} (K : ks_K C D ty p s m args) (hb : c.code = cc) (hP : va_P D vwCl w H) (ha : w[q]? = some (ad k, .inl (ca k, n, .inl (S k)))) (ht : ty[t]? = some (ca k, .int)) {i : Int32} (hin : vp_in i n) (hdg : decode cc pc = .ok (.iaload, 1))
    (kk : W p l e R s m args below meth c H locs cells slots Q (F0 m (pc + 1) ls (.int (S k i.toNatClampNeg) :: rest))) : W p l e R s m args below meth c H locs cells slots Q (F0 m pc ls (.int i :: .ref (ad k) :: rest)) :=
  va_iald K.1 hb K.2.2.2 hP q t ha ht hin hdg kk
/-- a boolean array's element -/
theorem ks_zld {C : String} {ty : List (ClassId × FieldType)} {q t k n : Nat} (K : ks_K C D ty p s m args) (hb : c.code = cc) (hP : va_P D vwCl w H) (ha : w[q]? = some (ad k, .inl (ca k, n, .inl (S k)))) (ht : ty[t]? = some (ca k, .boolean)) {i : Int32} (hin : vp_in i n) (hdg : decode cc pc = .ok (.baload, 1))
    (kk : W p l e R s m args below meth c H locs cells slots Q (F0 m (pc + 1) ls (.int (S k i.toNatClampNeg) :: rest))) : W p l e R s m args below meth c H locs cells slots Q (F0 m pc ls (.int i :: .ref (ad k) :: rest)) :=
  va_zald K.1 hb K.2.2.2 hP q t ha ht hin hdg kk
/-- an int is stored: the new state is ks_st S k i x -/
theorem ks_ist {C : String} {ty : List (ClassId × FieldType)} {q t k n : Nat} {wf : ks_St → va_W} (K : ks_K C D ty p s m args) (hb : c.code = cc) (hW : ks_W D (wf S) A s.heap H locs) (ha : (wf S)[q]? = some (ad k, .inl (ca k, n, .inl (S k)))) (ht : ty[t]? = some (ca k, .int)) (hset : ∀ g : Nat → Int32, (wf S).set q (ad k, .inl (ca k, n, .inl g)) = wf (ks_up S k g)) {i x : Int32} (hin : vp_in i n) (hdg : decode cc pc = .ok (.iastore, 1))
    (kk : ∀ (S1 : ks_St), S1 = ks_st S k i x → ∀ (H1 : Heap) (locs1 : List Loc), ks_W D (wf S1) A s.heap H1 locs1 → W p l e R s m args below meth c H1 locs1 cells slots Q (F0 m (pc + 1) ls rest)) : W p l e R s m args below meth c H locs cells slots Q (F0 m pc ls (.int x :: .int i :: .ref (ad k) :: rest)) := by
  refine va_iast K.1 hb K.2.2.2 hW.1 hW.2.1 hW.2.2 q t ha ht hin hdg (fun H1 locs1 a b d => ?_)
  rw [hset] at a b
  exact kk _ rfl H1 locs1 ⟨a, b, d⟩
/-- a boolean is stored -/
theorem ks_zst {C : String} {ty : List (ClassId × FieldType)} {q t k n : Nat} {wf : ks_St → va_W} (K : ks_K C D ty p s m args) (hb : c.code = cc) (hW : ks_W D (wf S) A s.heap H locs) (ha : (wf S)[q]? = some (ad k, .inl (ca k, n, .inl (S k)))) (ht : ty[t]? = some (ca k, .boolean)) (hset : ∀ g : Nat → Int32, (wf S).set q (ad k, .inl (ca k, n, .inl g)) = wf (ks_up S k g)) {i x y : Int32} (hin : vp_in i n) (hy : vp_nar .boolean x = y) (hdg : decode cc pc = .ok (.bastore, 1))
    (kk : ∀ (S1 : ks_St), S1 = ks_st S k i y → ∀ (H1 : Heap) (locs1 : List Loc), ks_W D (wf S1) A s.heap H1 locs1 → W p l e R s m args below meth c H1 locs1 cells slots Q (F0 m (pc + 1) ls rest)) : W p l e R s m args below meth c H locs cells slots Q (F0 m pc ls (.int x :: .int i :: .ref (ad k) :: rest)) := by
  refine va_zast K.1 hb K.2.2.2 hW.1 hW.2.1 hW.2.2 q t ha ht hin hdg (fun H1 locs1 a b d => ?_)
  rw [hset, hy] at a b
  exact kk _ rfl H1 locs1 ⟨a, b, d⟩
/-- the server's only field that is written: secretsMade -/
theorem x1_put (C : ks_K RX1 D (t1_ ca) p s m args) (hb : c.code = cc) (hW : ks_W D (w1_ h ad ca S) A s.heap H locs) {v : Int32} (hdg : decode cc pc = .ok (.putfield 60, 3))
    (kk : ∀ (S1 : ks_St), S1 = ks_up S 3 (fun _ => v) → ∀ (H1 : Heap) (locs1 : List Loc), ks_W D (w1_ h ad ca S1) A s.heap H1 locs1 → W p l e R s m args below meth c H1 locs1 cells slots Q (F0 m (pc + 3) ls rest)) : W p l e R s m args below meth c H locs cells slots Q (F0 m pc ls (.int v :: .ref h :: rest)) := by
  refine va_put (D := D) (cl := vwCl) (ci := 0) (v := .int v) (ty := .int) (C := RX1) (T := TX1) (N := 17) C.1 hb C.2.2.1 in_X1 tyX1 tyX1_ok nmX1 C.2.1 C.2.2.2 hW.1 hW.2.1 hW.2.2 0 x1_o rfl 3 (by decide) (C.2.2.1 _ q26) (fun _ h9 => h9) rfl (by decide +kernel) rfl rfl (Nat.le_of_ble_eq_true rfl) hdg (fun H1 locs1 a b d => ?_)
  rw [x1_s3] at a b
  exact kk _ rfl H1 locs1 ⟨a, b, d⟩
end KSR
section KSC
variable {p : Program} {l : Launch} {e : Env} {R : Room} {s : State} {m : MethodId} {args : Array Value} {below : List Frame} {meth : Method} {c : Code} {H : Heap} {locs : List Loc} {cells slots : Nat} {Q : State → Prop}
variable {cc : ByteArray} {pc : Nat} {ls : Array Slot} {st0 rest : List Value} {D : va_G} {A : Nat → Prop} {w w' wb : va_W} {ty ty2 : List (ClassId × FieldType)}
variable {y : MethodName} {bytes : ByteArray} {maxL nL index n : Nat} {ret : Option FieldType} {rm : Room} {own C : String} {b : Nat} {As : List Value} {r : Int32}
/-- a call of a static method of numbers -/
theorem ks_callN (hx : p.tables.exec = Jvm.exec) (hb : c.code = cc) (hml : c.maxLocals = nL) (hown : s.vm.findClass own = some m.cls) (hts : ∀ w ∈ lw_all, w.before args s = true)
    (hM : Met l y (ws_ y bytes maxL ret) rm (ks_N As) (QcRead r) 0 0 ks_F) (cw : CallB R s args own index y bytes maxL ret (ws_ y bytes maxL ret) rm 0 0 n ∧ (Cond.static y).before args s = true)
    (hn : As.length = n) (hsize : ls.size = nL) (hstack : st0 = As.reverse ++ rest) (hroom : (rest.map fun v => v.category).sum ≤ 8) (hdg : decode cc pc = .ok (.invokestatic index, 3)) (hf : cells ≤ R.cells ∧ slots ≤ R.slots)
    (kk : W p l e R s m args below meth c H locs cells slots Q (F0 m (pc + 3) ls (.int r :: rest))) : W p l e R s m args below meth c H locs cells slots Q (F0 m pc ls st0) :=
  W.callR (W.runS (Ts := lw_all) (g := F0 m pc ls st0) ⟨hx, hb, hml, hown, hts⟩ hM cw ⟨fun _ _ _ _ q => q, fun _ _ _ => rfl⟩ rfl hn hsize hstack (lv_room hroom) hdg hf) kk
/-- a call of a method that only reads the cells w -/
theorem ks_callR (hx : p.tables.exec = Jvm.exec) (hb : c.code = cc) (hml : c.maxLocals = nL) (hown : s.vm.findClass own = some m.cls) (hts : ∀ w ∈ lw_all, w.before args s = true)
    (hK : va_K D vwCl ty s) (hP : va_P D vwCl w H) {ci : Nat} {q : vw_C} {fs : List Value} (hc : vwCl[ci]? = some q) (he : w[0]? = some (b, .inr (ci, fs))) (hC : q.1 = C)
    (hM : Met l y (ws_ y bytes maxL ret) rm (ks_R D w ty (.ref b :: As)) (QcRead r) 0 0 ks_F) (cw : CallW R s args own C index y bytes maxL ret (ws_ y bytes maxL ret) rm 0 0 n)
    (hn : As.length = n) (hsize : ls.size = nL) (hstack : st0 = As.reverse ++ .ref b :: rest) (hroom : (rest.map fun v => v.category).sum ≤ 8) (hdg : decode cc pc = .ok (.invokevirtual index, 3)) (hf : cells ≤ R.cells ∧ slots ≤ R.slots)
    (kk : W p l e R s m args below meth c H locs cells slots Q (F0 m (pc + 3) ls (.int r :: rest))) : W p l e R s m args below meth c H locs cells slots Q (F0 m pc ls st0) := by
  subst hC
  exact W.callR (W.runV (Ts := lw_all) (g := F0 m pc ls st0) ⟨hx, hb, hml, hown, hts⟩ hM cw ⟨fun a U g mk z => ⟨z.1, z.2.1, va_K.moved (u := U) (U := U.calling g mk a) (Vm.Alike.refl U.vm) z.2.2⟩, va_recv hK hP hc he, fun U hU hWm => ⟨rfl, by rw [hU]; exact hP, va_K.moved hWm.alike hK⟩⟩ rfl hn hsize hstack (lv_room hroom) hdg hf) kk
theorem ks_free {H0 : Heap} (hD : va_D A w) (hS : va_S A H0 H locs) (hA : ∀ q, H0.size ≤ q → A q) : ∀ q, va_A w H.size q → A q := by
  intro q hq
  rcases hq with ⟨k, e, hk⟩ | hq
  · exact hD.2 k _ hk
  · exact hA q (Nat.le_trans hS.1 hq)
theorem ks_blind {sz : Nat} {av : List Value} : FrameBlind (ks_P D w ty sz av) := fun a U g mk z => ⟨z.1, z.2.1, z.2.2.1, va_K.moved (u := U) (U := U.calling g mk a) (Vm.Alike.refl U.vm) z.2.2.2.1, z.2.2.2.2⟩
-- a world of two parts
theorem ks_PL {H : Heap} (hP : va_P D vwCl (w ++ wb) H) : va_P D vwCl w H := fun k q hk => hP k q (by rw [List.getElem?_append_left (List.getElem?_eq_some_iff.mp hk).1]; exact hk)
theorem ks_at_R {k : Nat} {q : Nat × va_E} (hk : wb[k]? = some q) : (w ++ wb)[w.length + k]? = some q := by
  rw [List.getElem?_append_right (Nat.le_add_right _ _), Nat.add_sub_cancel_left]; exact hk
theorem ks_at_L {k : Nat} {q : Nat × va_E} (hk : w[k]? = some q) : (w ++ wb)[k]? = some q := by
  rw [List.getElem?_append_left (List.getElem?_eq_some_iff.mp hk).1]; exact hk
theorem ks_PR {H : Heap} (hP : va_P D vwCl (w ++ wb) H) : va_P D vwCl wb H := fun k q hk => hP (w.length + k) q (ks_at_R hk)
theorem ks_DL (hD : va_D A (w ++ wb)) : va_D A w := ⟨fun i j p q hi hj h => hD.1 i j p q (ks_at_L hi) (ks_at_L hj) h, fun k q hk => hD.2 k q (ks_at_L hk)⟩
theorem ks_DR (hD : va_D A (w ++ wb)) : va_D A wb := ⟨fun i j p q hi hj h => Nat.add_left_cancel (hD.1 _ _ p q (ks_at_R (w := w) hi) (ks_at_R (w := w) hj) h), fun k q hk => hD.2 _ q (ks_at_R (w := w) hk)⟩
theorem ks_dis (hD : va_D A (w ++ wb)) {i j : Nat} {p q : Nat × va_E} (hi : w[i]? = some p) (hj : wb[j]? = some q) : p.1 ≠ q.1 := by
  intro h
  have h1 := hD.1 i (w.length + j) p q (ks_at_L hi) (ks_at_R hj) h
  have h2 := (List.getElem?_eq_some_iff.mp hi).1
  omega
/-- the callee's world was the left part -/
theorem ks_joinL {H H1 : Heap} (hP : va_P D vwCl (w ++ wb) H) (hD : va_D A (w ++ wb)) (hk : ∀ q : Nat, q < H.size → ¬ va_A w H.size q → H1[q]? = H[q]?) (hF : ∀ q, va_A w H.size q → A q) (hP1 : va_P D vwCl w' H1) (hD1 : va_D (va_A w H.size) w') : va_P D vwCl (w' ++ wb) H1 ∧ va_D A (w' ++ wb) := by
  have hn : ∀ (k : Nat) (q : Nat × va_E), wb[k]? = some q → q.1 < H.size ∧ ¬ va_A w H.size q.1 := by
    intro k q hq
    have hl := (ks_PR hP k q hq).lt
    refine ⟨hl, fun h => ?_⟩
    rcases h with ⟨i, e, h⟩ | h
    · exact ks_dis hD h hq rfl
    · omega
  refine ⟨va_P.app hP1 (fun k q hq => (ks_PR hP k q hq).kept (hk q.1 (hn k q hq).1 (hn k q hq).2)), va_D.app (hD1.weaken (fun k q _ h => hF q.1 h)) (ks_DR hD) (fun i j x z hx hz hxz => ?_)⟩
  exact (hn j z hz).2 (by rw [← hxz]; exact hD1.2 i x hx)
/-- the callee's world was the right part -/
theorem ks_joinR {H H1 : Heap} (hP : va_P D vwCl (w ++ wb) H) (hD : va_D A (w ++ wb)) (hk : ∀ q : Nat, q < H.size → ¬ va_A wb H.size q → H1[q]? = H[q]?) (hF : ∀ q, va_A wb H.size q → A q) (hP1 : va_P D vwCl w' H1) (hD1 : va_D (va_A wb H.size) w') : va_P D vwCl (w ++ w') H1 ∧ va_D A (w ++ w') := by
  have hn : ∀ (k : Nat) (q : Nat × va_E), w[k]? = some q → q.1 < H.size ∧ ¬ va_A wb H.size q.1 := by
    intro k q hq
    have hl := (ks_PL hP k q hq).lt
    refine ⟨hl, fun h => ?_⟩
    rcases h with ⟨i, e, h⟩ | h
    · exact ks_dis hD hq h rfl
    · omega
  refine ⟨va_P.app (fun k q hq => (ks_PL hP k q hq).kept (hk q.1 (hn k q hq).1 (hn k q hq).2)) hP1, va_D.app (ks_DL hD) (hD1.weaken (fun k q _ h => hF q.1 h)) (fun i j x z hx hz hxz => ?_)⟩
  exact (hn i x hx).2 (by rw [hxz]; exact hD1.2 j z hz)
/-- a call of a method that changes the cells w, which are the whole world -/
theorem ks_callI (hx : p.tables.exec = Jvm.exec) (hb : c.code = cc) (hml : c.maxLocals = nL) (hown : s.vm.findClass own = some m.cls) (hts : ∀ w ∈ lw_all, w.before args s = true)
    (hK : va_K D vwCl ty s) (hA : ∀ q, s.heap.size ≤ q → A q) (hW : ks_W D w A s.heap H locs) {ci : Nat} {q : vw_C} {fs : List Value} (hc : vwCl[ci]? = some q) (he : w[0]? = some (b, .inr (ci, fs))) (hC : q.1 = C)
    (hM : ∀ sz, Met l y (ws_ y bytes maxL ret) rm (ks_P D w ty sz (.ref b :: As)) (ks_Qi D r w' (va_A w sz)) 0 0 (va_A w sz)) (cw : CallW R s args own C index y bytes maxL ret (ws_ y bytes maxL ret) rm 0 0 n)
    (hn : As.length = n) (hsize : ls.size = nL) (hstack : st0 = As.reverse ++ .ref b :: rest) (hroom : (rest.map fun v => v.category).sum ≤ 8) (hdg : decode cc pc = .ok (.invokevirtual index, 3)) (hf : cells ≤ R.cells ∧ slots ≤ R.slots)
    (kk : ∀ (H1 : Heap) (locs1 : List Loc), ks_W D w' A s.heap H1 locs1 → W p l e R s m args below meth c H1 locs1 cells slots Q (F0 m (pc + 3) ls (.int r :: rest))) : W p l e R s m args below meth c H locs cells slots Q (F0 m pc ls st0) := by
  subst hC
  have hFc := ks_free hW.2.1 hW.2.2 hA
  refine va_calli (va_runV (Ts := lw_all) (g := F0 m pc ls st0) ⟨hx, hb, hml, hown, hts⟩ (hM H.size) cw ⟨ks_blind, va_recv hK hW.1 hc he, fun U hU hWm => ⟨rfl, by rw [hU], by rw [hU]; exact hW.1, va_K.moved hWm.alike hK, hW.2.1.weaken (fun _ _ _ _ => trivial)⟩⟩ rfl hn hsize hstack (lv_room hroom) hdg hf) hW.2.2 (fun q _ h => hFc q h) hFc (fun r1 u t H1 locs1 ht hvm hw hB hz hk hS => ?_)
  subst hw
  exact kk H1 locs1 ⟨by rw [← ht]; exact hB.1, hB.2.weaken (fun k q _ h => hFc q.1 h), hS⟩
theorem ks_callV (hx : p.tables.exec = Jvm.exec) (hb : c.code = cc) (hml : c.maxLocals = nL) (hown : s.vm.findClass own = some m.cls) (hts : ∀ w ∈ lw_all, w.before args s = true)
    (hK : va_K D vwCl ty s) (hA : ∀ q, s.heap.size ≤ q → A q) (hW : ks_W D w A s.heap H locs) {ci : Nat} {q : vw_C} {fs : List Value} (hc : vwCl[ci]? = some q) (he : w[0]? = some (b, .inr (ci, fs))) (hC : q.1 = C)
    (hM : ∀ sz, Met l y (ws_ y bytes maxL ret) rm (ks_P D w ty sz (.ref b :: As)) (ks_Qv D w' (va_A w sz)) 0 0 (va_A w sz)) (cw : CallW R s args own C index y bytes maxL ret (ws_ y bytes maxL ret) rm 0 0 n)
    (hn : As.length = n) (hsize : ls.size = nL) (hstack : st0 = As.reverse ++ .ref b :: rest) (hroom : (rest.map fun v => v.category).sum ≤ 8) (hdg : decode cc pc = .ok (.invokevirtual index, 3)) (hf : cells ≤ R.cells ∧ slots ≤ R.slots)
    (kk : ∀ (H1 : Heap) (locs1 : List Loc), ks_W D w' A s.heap H1 locs1 → W p l e R s m args below meth c H1 locs1 cells slots Q (F0 m (pc + 3) ls rest)) : W p l e R s m args below meth c H locs cells slots Q (F0 m pc ls st0) := by
  subst hC
  have hFc := ks_free hW.2.1 hW.2.2 hA
  refine va_callv (va_runV (Ts := lw_all) (g := F0 m pc ls st0) ⟨hx, hb, hml, hown, hts⟩ (hM H.size) cw ⟨ks_blind, va_recv hK hW.1 hc he, fun U hU hWm => ⟨rfl, by rw [hU], by rw [hU]; exact hW.1, va_K.moved hWm.alike hK, hW.2.1.weaken (fun _ _ _ _ => trivial)⟩⟩ rfl hn hsize hstack (lv_room hroom) hdg hf) hW.2.2 (fun q _ h => hFc q h) hFc (fun u t H1 locs1 ht hvm hw hB hz hk hS => ?_)
  exact kk H1 locs1 ⟨by rw [← ht]; exact hB.1, hB.2.weaken (fun k q _ h => hFc q.1 h), hS⟩
/-- the same, the callee's cells being the left part of the world -/
theorem ks_callIL (hx : p.tables.exec = Jvm.exec) (hb : c.code = cc) (hml : c.maxLocals = nL) (hown : s.vm.findClass own = some m.cls) (hts : ∀ w ∈ lw_all, w.before args s = true)
    (hK : va_K D vwCl ty s) (hA : ∀ q, s.heap.size ≤ q → A q) (hW : ks_W D (w ++ wb) A s.heap H locs) {ci : Nat} {q : vw_C} {fs : List Value} (hc : vwCl[ci]? = some q) (he : w[0]? = some (b, .inr (ci, fs))) (hC : q.1 = C)
    (hM : ∀ sz, Met l y (ws_ y bytes maxL ret) rm (ks_P D w ty sz (.ref b :: As)) (ks_Qi D r w' (va_A w sz)) 0 0 (va_A w sz)) (cw : CallW R s args own C index y bytes maxL ret (ws_ y bytes maxL ret) rm 0 0 n)
    (hn : As.length = n) (hsize : ls.size = nL) (hstack : st0 = As.reverse ++ .ref b :: rest) (hroom : (rest.map fun v => v.category).sum ≤ 8) (hdg : decode cc pc = .ok (.invokevirtual index, 3)) (hf : cells ≤ R.cells ∧ slots ≤ R.slots)
    (kk : ∀ (H1 : Heap) (locs1 : List Loc), ks_W D (w' ++ wb) A s.heap H1 locs1 → W p l e R s m args below meth c H1 locs1 cells slots Q (F0 m (pc + 3) ls (.int r :: rest))) : W p l e R s m args below meth c H locs cells slots Q (F0 m pc ls st0) := by
  subst hC
  have hPc := ks_PL hW.1
  have hDc := ks_DL hW.2.1
  have hFc := ks_free hDc hW.2.2 hA
  refine va_calli (va_runV (Ts := lw_all) (g := F0 m pc ls st0) ⟨hx, hb, hml, hown, hts⟩ (hM H.size) cw ⟨ks_blind, va_recv hK hPc hc he, fun U hU hWm => ⟨rfl, by rw [hU], by rw [hU]; exact hPc, va_K.moved hWm.alike hK, hDc.weaken (fun _ _ _ _ => trivial)⟩⟩ rfl hn hsize hstack (lv_room hroom) hdg hf) hW.2.2 (fun q _ h => hFc q h) hFc (fun r1 u t H1 locs1 ht hvm hw hB hz hk hS => ?_)
  subst hw
  obtain ⟨a1, a2⟩ := ks_joinL hW.1 hW.2.1 hk hFc (by rw [← ht]; exact hB.1) hB.2
  exact kk H1 locs1 ⟨a1, a2, hS⟩
theorem ks_callVL (hx : p.tables.exec = Jvm.exec) (hb : c.code = cc) (hml : c.maxLocals = nL) (hown : s.vm.findClass own = some m.cls) (hts : ∀ w ∈ lw_all, w.before args s = true)
    (hK : va_K D vwCl ty s) (hA : ∀ q, s.heap.size ≤ q → A q) (hW : ks_W D (w ++ wb) A s.heap H locs) {ci : Nat} {q : vw_C} {fs : List Value} (hc : vwCl[ci]? = some q) (he : w[0]? = some (b, .inr (ci, fs))) (hC : q.1 = C)
    (hM : ∀ sz, Met l y (ws_ y bytes maxL ret) rm (ks_P D w ty sz (.ref b :: As)) (ks_Qv D w' (va_A w sz)) 0 0 (va_A w sz)) (cw : CallW R s args own C index y bytes maxL ret (ws_ y bytes maxL ret) rm 0 0 n)
    (hn : As.length = n) (hsize : ls.size = nL) (hstack : st0 = As.reverse ++ .ref b :: rest) (hroom : (rest.map fun v => v.category).sum ≤ 8) (hdg : decode cc pc = .ok (.invokevirtual index, 3)) (hf : cells ≤ R.cells ∧ slots ≤ R.slots)
    (kk : ∀ (H1 : Heap) (locs1 : List Loc), ks_W D (w' ++ wb) A s.heap H1 locs1 → W p l e R s m args below meth c H1 locs1 cells slots Q (F0 m (pc + 3) ls rest)) : W p l e R s m args below meth c H locs cells slots Q (F0 m pc ls st0) := by
  subst hC
  have hPc := ks_PL hW.1
  have hDc := ks_DL hW.2.1
  have hFc := ks_free hDc hW.2.2 hA
  refine va_callv (va_runV (Ts := lw_all) (g := F0 m pc ls st0) ⟨hx, hb, hml, hown, hts⟩ (hM H.size) cw ⟨ks_blind, va_recv hK hPc hc he, fun U hU hWm => ⟨rfl, by rw [hU], by rw [hU]; exact hPc, va_K.moved hWm.alike hK, hDc.weaken (fun _ _ _ _ => trivial)⟩⟩ rfl hn hsize hstack (lv_room hroom) hdg hf) hW.2.2 (fun q _ h => hFc q h) hFc (fun u t H1 locs1 ht hvm hw hB hz hk hS => ?_)
  obtain ⟨a1, a2⟩ := ks_joinL hW.1 hW.2.1 hk hFc (by rw [← ht]; exact hB.1) hB.2
  exact kk H1 locs1 ⟨a1, a2, hS⟩
/-- the same, the callee's cells being the right part of the world -/
theorem ks_callIR (hx : p.tables.exec = Jvm.exec) (hb : c.code = cc) (hml : c.maxLocals = nL) (hown : s.vm.findClass own = some m.cls) (hts : ∀ w ∈ lw_all, w.before args s = true)
    (hK : va_K D vwCl ty s) (hA : ∀ q, s.heap.size ≤ q → A q) (hW : ks_W D (wb ++ w) A s.heap H locs) {ci : Nat} {q : vw_C} {fs : List Value} (hc : vwCl[ci]? = some q) (he : w[0]? = some (b, .inr (ci, fs))) (hC : q.1 = C)
    (hM : ∀ sz, Met l y (ws_ y bytes maxL ret) rm (ks_P D w ty sz (.ref b :: As)) (ks_Qi D r w' (va_A w sz)) 0 0 (va_A w sz)) (cw : CallW R s args own C index y bytes maxL ret (ws_ y bytes maxL ret) rm 0 0 n)
    (hn : As.length = n) (hsize : ls.size = nL) (hstack : st0 = As.reverse ++ .ref b :: rest) (hroom : (rest.map fun v => v.category).sum ≤ 8) (hdg : decode cc pc = .ok (.invokevirtual index, 3)) (hf : cells ≤ R.cells ∧ slots ≤ R.slots)
    (kk : ∀ (H1 : Heap) (locs1 : List Loc), ks_W D (wb ++ w') A s.heap H1 locs1 → W p l e R s m args below meth c H1 locs1 cells slots Q (F0 m (pc + 3) ls (.int r :: rest))) : W p l e R s m args below meth c H locs cells slots Q (F0 m pc ls st0) := by
  subst hC
  have hPc := ks_PR hW.1
  have hDc := ks_DR hW.2.1
  have hFc := ks_free hDc hW.2.2 hA
  refine va_calli (va_runV (Ts := lw_all) (g := F0 m pc ls st0) ⟨hx, hb, hml, hown, hts⟩ (hM H.size) cw ⟨ks_blind, va_recv hK hPc hc he, fun U hU hWm => ⟨rfl, by rw [hU], by rw [hU]; exact hPc, va_K.moved hWm.alike hK, hDc.weaken (fun _ _ _ _ => trivial)⟩⟩ rfl hn hsize hstack (lv_room hroom) hdg hf) hW.2.2 (fun q _ h => hFc q h) hFc (fun r1 u t H1 locs1 ht hvm hw hB hz hk hS => ?_)
  subst hw
  obtain ⟨a1, a2⟩ := ks_joinR hW.1 hW.2.1 hk hFc (by rw [← ht]; exact hB.1) hB.2
  exact kk H1 locs1 ⟨a1, a2, hS⟩
theorem ks_callVR (hx : p.tables.exec = Jvm.exec) (hb : c.code = cc) (hml : c.maxLocals = nL) (hown : s.vm.findClass own = some m.cls) (hts : ∀ w ∈ lw_all, w.before args s = true)
    (hK : va_K D vwCl ty s) (hA : ∀ q, s.heap.size ≤ q → A q) (hW : ks_W D (wb ++ w) A s.heap H locs) {ci : Nat} {q : vw_C} {fs : List Value} (hc : vwCl[ci]? = some q) (he : w[0]? = some (b, .inr (ci, fs))) (hC : q.1 = C)
    (hM : ∀ sz, Met l y (ws_ y bytes maxL ret) rm (ks_P D w ty sz (.ref b :: As)) (ks_Qv D w' (va_A w sz)) 0 0 (va_A w sz)) (cw : CallW R s args own C index y bytes maxL ret (ws_ y bytes maxL ret) rm 0 0 n)
    (hn : As.length = n) (hsize : ls.size = nL) (hstack : st0 = As.reverse ++ .ref b :: rest) (hroom : (rest.map fun v => v.category).sum ≤ 8) (hdg : decode cc pc = .ok (.invokevirtual index, 3)) (hf : cells ≤ R.cells ∧ slots ≤ R.slots)
    (kk : ∀ (H1 : Heap) (locs1 : List Loc), ks_W D (wb ++ w') A s.heap H1 locs1 → W p l e R s m args below meth c H1 locs1 cells slots Q (F0 m (pc + 3) ls rest)) : W p l e R s m args below meth c H locs cells slots Q (F0 m pc ls st0) := by
  subst hC
  have hPc := ks_PR hW.1
  have hDc := ks_DR hW.2.1
  have hFc := ks_free hDc hW.2.2 hA
  refine va_callv (va_runV (Ts := lw_all) (g := F0 m pc ls st0) ⟨hx, hb, hml, hown, hts⟩ (hM H.size) cw ⟨ks_blind, va_recv hK hPc hc he, fun U hU hWm => ⟨rfl, by rw [hU], by rw [hU]; exact hPc, va_K.moved hWm.alike hK, hDc.weaken (fun _ _ _ _ => trivial)⟩⟩ rfl hn hsize hstack (lv_room hroom) hdg hf) hW.2.2 (fun q _ h => hFc q h) hFc (fun u t H1 locs1 ht hvm hw hB hz hk hS => ?_)
  obtain ⟨a1, a2⟩ := ks_joinR hW.1 hW.2.1 hk hFc (by rw [← ht]; exact hB.1) hB.2
  exact kk H1 locs1 ⟨a1, a2, hS⟩
end KSC
end
section
/-! part 07: contracts of the server: leaves -/
set_option maxHeartbeats 4000000 in
set_option maxRecDepth 100000 in
theorem m1_mix (l : Launch) (x : Int32) : Met l yX1_mix (ws_ yX1_mix cX1_mix 2 (some .int)) ({ frames := 0, cells := 0, slots := 0, locals := 0 }) (ks_N [.int x]) (QcRead (sv_mix x)) 0 0 ks_F := by
  refine ks_enterN RX1 (by decide) rfl (Nat.le_of_ble_eq_true rfl) ?_
  intro p e s m below meth c ls hb hml hr hlocks hx hown hts hl
  have hl : lv_has ls 2 [(0, .int x)] := hl
  refine lv_iload_n hx hb dX1_mix_0 rfl (lv_at hl 0 rfl) ?_
  refine lv_ldc hx hb hown (hts _ q119) dX1_mix_1 ?_
  refine lv_imul hx hb dX1_mix_3 ?_
  refine lv_topi (fun x_1 ex_1 => ?_)
  refine lv_istore_n (lv' := [(1, .int x_1), (0, .int x)]) hx hb dX1_mix_4 rfl hl (by decide) rfl (fun ls hl => ?_)
  refine lv_iload_n hx hb dX1_mix_5 rfl (lv_at hl 0 rfl) ?_
  refine lv_iload_n hx hb dX1_mix_6 rfl (lv_at hl 0 rfl) ?_
  refine lv_bipush (v := 15) hx hb dX1_mix_7 (by decide) ?_
  refine lv_iushr (v := sv_ushr x_1 15) hx hb dX1_mix_9 rfl ?_
  refine lv_ixor hx hb dX1_mix_10 ?_
  refine lv_topi (fun x_2 ex_2 => ?_)
  refine lv_istore_n (lv' := [(1, .int x_2), (0, .int x)]) hx hb dX1_mix_11 rfl hl (by decide) rfl (fun ls hl => ?_)
  refine lv_iload_n hx hb dX1_mix_12 rfl (lv_at hl 0 rfl) ?_
  refine lv_ldc hx hb hown (hts _ q120) dX1_mix_13 ?_
  refine lv_imul hx hb dX1_mix_15 ?_
  refine lv_topi (fun x_3 ex_3 => ?_)
  refine lv_istore_n (lv' := [(1, .int x_3), (0, .int x)]) hx hb dX1_mix_16 rfl hl (by decide) rfl (fun ls hl => ?_)
  refine lv_iload_n hx hb dX1_mix_17 rfl (lv_at hl 0 rfl) ?_
  refine lv_iload_n hx hb dX1_mix_18 rfl (lv_at hl 0 rfl) ?_
  refine lv_bipush (v := 13) hx hb dX1_mix_19 (by decide) ?_
  refine lv_iushr (v := sv_ushr x_3 13) hx hb dX1_mix_21 rfl ?_
  refine lv_ixor hx hb dX1_mix_22 ?_
  refine lv_topi (fun x_4 ex_4 => ?_)
  refine lv_istore_n (lv' := [(1, .int x_4), (0, .int x)]) hx hb dX1_mix_23 rfl hl (by decide) rfl (fun ls hl => ?_)
  refine lv_iload_n hx hb dX1_mix_24 rfl (lv_at hl 0 rfl) ?_
  refine lv_ldc hx hb hown (hts _ q121) dX1_mix_25 ?_
  refine lv_imul hx hb dX1_mix_27 ?_
  refine lv_iconst (v := 1) hx hb dX1_mix_28 (by decide) ?_
  refine lv_iadd hx hb dX1_mix_29 ?_
  exact ks_rret hx hb hr hlocks dX1_mix_30 (by subst ex_4; subst ex_3; subst ex_2; subst ex_1; unfold sv_mix; try rfl)
set_option maxHeartbeats 4000000 in
set_option maxRecDepth 100000 in
theorem m1_badUser (l : Launch) (u : Int32) : Met l yX1_badUser (ws_ yX1_badUser cX1_badUser 1 (some .boolean)) ({ frames := 0, cells := 0, slots := 0, locals := 0 }) (ks_N [.int u]) (QcRead (sv_badUser u)) 0 0 ks_F := by
  refine ks_enterN RX1 (by decide) rfl (Nat.le_of_ble_eq_true rfl) ?_
  intro p e s m below meth c ls hb hml hr hlocks hx hown hts hl
  have hl : lv_has ls 1 [(0, .int u)] := hl
  refine lv_iload_n hx hb dX1_badUser_0 rfl (lv_at hl 0 rfl) ?_
  refine lv_if_lt (tgt := 9) hx hb dX1_badUser_1 (by decide) (fun c_1 => ?_) (fun c_1 => ?_)
  · refine lv_iconst (v := 1) hx hb dX1_badUser_9 (by decide) ?_
    refine lv_goto (tgt := 14) hx hb dX1_badUser_10 (by decide) ?_
    exact ks_zret hx hb hr hlocks dX1_badUser_14 rfl (by unfold sv_badUser; rw [if_pos c_1]; try rfl)
  · refine lv_iload_n hx hb dX1_badUser_4 rfl (lv_at hl 0 rfl) ?_
    refine lv_iconst (v := 1) hx hb dX1_badUser_5 (by decide) ?_
    refine lv_icmp_le (tgt := 13) hx hb dX1_badUser_6 (by decide) (fun c_2 => ?_) (fun c_2 => ?_)
    · refine lv_iconst (v := 0) hx hb dX1_badUser_13 (by decide) ?_
      exact ks_zret hx hb hr hlocks dX1_badUser_14 rfl (by unfold sv_badUser; rw [if_neg c_1, if_pos c_2]; try rfl)
    · refine lv_iconst (v := 1) hx hb dX1_badUser_9 (by decide) ?_
      refine lv_goto (tgt := 14) hx hb dX1_badUser_10 (by decide) ?_
      exact ks_zret hx hb hr hlocks dX1_badUser_14 rfl (by unfold sv_badUser; rw [if_neg c_1, if_neg c_2]; try rfl)
set_option maxHeartbeats 4000000 in
set_option maxRecDepth 100000 in
theorem m1_badSlot (l : Launch) (u : Int32) : Met l yX1_badSlot (ws_ yX1_badSlot cX1_badSlot 1 (some .boolean)) ({ frames := 0, cells := 0, slots := 0, locals := 0 }) (ks_N [.int u]) (QcRead (sv_badSlot u)) 0 0 ks_F := by
  refine ks_enterN RX1 (by decide) rfl (Nat.le_of_ble_eq_true rfl) ?_
  intro p e s m below meth c ls hb hml hr hlocks hx hown hts hl
  have hl : lv_has ls 1 [(0, .int u)] := hl
  refine lv_iload_n hx hb dX1_badSlot_0 rfl (lv_at hl 0 rfl) ?_
  refine lv_if_lt (tgt := 10) hx hb dX1_badSlot_1 (by decide) (fun c_1 => ?_) (fun c_1 => ?_)
  · refine lv_iconst (v := 1) hx hb dX1_badSlot_10 (by decide) ?_
    refine lv_goto (tgt := 15) hx hb dX1_badSlot_11 (by decide) ?_
    exact ks_zret hx hb hr hlocks dX1_badSlot_15 rfl (by unfold sv_badSlot; rw [if_pos c_1]; try rfl)
  · refine lv_iload_n hx hb dX1_badSlot_4 rfl (lv_at hl 0 rfl) ?_
    refine lv_bipush (v := 7) hx hb dX1_badSlot_5 (by decide) ?_
    refine lv_icmp_le (tgt := 14) hx hb dX1_badSlot_7 (by decide) (fun c_2 => ?_) (fun c_2 => ?_)
    · refine lv_iconst (v := 0) hx hb dX1_badSlot_14 (by decide) ?_
      exact ks_zret hx hb hr hlocks dX1_badSlot_15 rfl (by unfold sv_badSlot; rw [if_neg c_1, if_pos c_2]; try rfl)
    · refine lv_iconst (v := 1) hx hb dX1_badSlot_10 (by decide) ?_
      refine lv_goto (tgt := 15) hx hb dX1_badSlot_11 (by decide) ?_
      exact ks_zret hx hb hr hlocks dX1_badSlot_15 rfl (by unfold sv_badSlot; rw [if_neg c_1, if_neg c_2]; try rfl)
set_option maxHeartbeats 4000000 in
set_option maxRecDepth 100000 in
theorem m1_needed (l : Launch) (op : Int32) : Met l yX1_needed (ws_ yX1_needed cX1_needed 1 (some .int)) ({ frames := 0, cells := 0, slots := 0, locals := 0 }) (ks_N [.int op]) (QcRead (sv_needed op)) 0 0 ks_F := by
  refine ks_enterN RX1 (by decide) rfl (Nat.le_of_ble_eq_true rfl) ?_
  intro p e s m below meth c ls hb hml hr hlocks hx hown hts hl
  have hl : lv_has ls 1 [(0, .int op)] := hl
  refine lv_iload_n hx hb dX1_needed_0 rfl (lv_at hl 0 rfl) ?_
  by_cases c_1 : op = 1
  · refine lv_tableIn (off := 31) (tgt := 32) hx hb dX1_needed_1 (by rw [c_1]; decide) (by rw [c_1]; decide) (by rw [c_1]; decide) (by decide) ?_
    refine lv_iconst (v := 1) hx hb dX1_needed_32 (by decide) ?_
    exact ks_rret hx hb hr hlocks dX1_needed_33 (by unfold sv_needed; rw [if_pos c_1])
  by_cases c_2 : op = 2
  · refine lv_tableIn (off := 33) (tgt := 34) hx hb dX1_needed_1 (by rw [c_2]; decide) (by rw [c_2]; decide) (by rw [c_2]; decide) (by decide) ?_
    refine lv_iconst (v := 2) hx hb dX1_needed_34 (by decide) ?_
    exact ks_rret hx hb hr hlocks dX1_needed_35 (by unfold sv_needed; rw [if_neg c_1, if_pos c_2])
  by_cases c_3 : op = 3
  · refine lv_tableIn (off := 35) (tgt := 36) hx hb dX1_needed_1 (by rw [c_3]; decide) (by rw [c_3]; decide) (by rw [c_3]; decide) (by decide) ?_
    refine lv_iconst (v := 4) hx hb dX1_needed_36 (by decide) ?_
    exact ks_rret hx hb hr hlocks dX1_needed_37 (by unfold sv_needed; rw [if_neg c_1, if_neg c_2, if_pos c_3])
  by_cases c_4 : op = 4
  · refine lv_tableIn (off := 37) (tgt := 38) hx hb dX1_needed_1 (by rw [c_4]; decide) (by rw [c_4]; decide) (by rw [c_4]; decide) (by decide) ?_
    refine lv_bipush (v := 8) hx hb dX1_needed_38 (by decide) ?_
    exact ks_rret hx hb hr hlocks dX1_needed_40 (by unfold sv_needed; rw [if_neg c_1, if_neg c_2, if_neg c_3, if_pos c_4])
  refine lv_tableOut (tgt := 41) hx hb dX1_needed_1 (ks_out4 c_1 c_2 c_3 c_4) (by decide) ?_
  refine lv_iconst (v := 0) hx hb dX1_needed_41 (by decide) ?_
  exact ks_rret hx hb hr hlocks dX1_needed_42 (by unfold sv_needed; rw [if_neg c_1, if_neg c_2, if_neg c_3, if_neg c_4])
set_option maxHeartbeats 4000000 in
set_option maxRecDepth 100000 in
theorem m1_newSecret (l : Launch) (D : va_G) (h : Nat) (ad : Nat → Nat) (ca : Nat → ClassId) (S : ks_St) (sz : Nat) : Met l yX1_newSecret (ws_ yX1_newSecret cX1_newSecret 1 (some .int)) ({ frames := 0, cells := 0, slots := 0, locals := 0 }) (ks_P D (w1_ h ad ca S) (t1_ ca) sz [.ref h]) (ks_Qi D (sv_sec S) (w1_ h ad ca (sv_new S)) (va_A (w1_ h ad ca S) sz)) 0 0 (va_A (w1_ h ad ca S) sz) := by
  refine ks_enter (Qc := ks_Qi D (sv_sec S) (w1_ h ad ca (sv_new S))) RX1 (by decide) rfl (Nat.le_of_ble_eq_true rfl) ?_
  intro p e s m below meth c A ls hb hml hr hlocks hnm C hA hW hl
  obtain ⟨hx, hown, hts, hK⟩ := id C
  have hl : lv_has ls 1 [(0, .ref h)] := hl
  refine lv_aload_n hx hb dX1_newSecret_0 rfl (lv_at hl 0 rfl) ?_
  refine lv_dup hx hb dX1_newSecret_1 rfl ?_
  refine x1_get C hb hW.1 3 (by decide) q26 (fun _ h9 => h9) rfl dX1_newSecret_2 ?_
  refine lv_iconst (v := 1) hx hb dX1_newSecret_5 (by decide) ?_
  refine lv_iadd hx hb dX1_newSecret_6 ?_
  refine x1_put C hb hW dX1_newSecret_7 (fun S_1 eS_1 H locs hW => ?_)
  refine lv_aload_n hx hb dX1_newSecret_10 rfl (lv_at hl 0 rfl) ?_
  refine x1_get C hb hW.1 3 (by decide) q26 (fun _ h9 => h9) rfl dX1_newSecret_11 ?_
  refine lv_ldc hx hb hown (hts _ q111) dX1_newSecret_14 ?_
  refine lv_imul hx hb dX1_newSecret_16 ?_
  refine lv_aload_n hx hb dX1_newSecret_17 rfl (lv_at hl 0 rfl) ?_
  refine x1_get C hb hW.1 4 (by decide) q27 (fun _ h9 => h9) rfl dX1_newSecret_18 ?_
  refine lv_iadd hx hb dX1_newSecret_21 ?_
  refine lv_iconst (v := 4) hx hb dX1_newSecret_22 (by decide) ?_
  refine lv_ishl hx hb dX1_newSecret_23 ?_
  exact ks_iret hx hb hr hlocks hW dX1_newSecret_24 (by subst eS_1; try rfl) (congrArg (w1_ h ad ca) (by subst eS_1; try rfl))
set_option maxHeartbeats 4000000 in
set_option maxRecDepth 100000 in
theorem m1_valid (l : Launch) (D : va_G) (h : Nat) (ad : Nat → Nat) (ca : Nat → ClassId) (S : ks_St) (at_ : Int32) (hok : sv_ok S) (hat : vp_in at_ 16) : Met l yX1_valid (ws_ yX1_valid cX1_valid 4 (some .boolean)) ({ frames := 1, cells := 0, slots := 0, locals := 21 }) (ks_R D (w1_ h ad ca S) (t1_ ca) [.ref h, .int at_]) (QcRead (sv_valid S at_)) 0 0 ks_F := by
  refine ks_enterR RX1 (by decide) rfl (Nat.le_of_ble_eq_true rfl) ?_
  intro p e s m below meth c ls hb hml hr hlocks C hP hl
  obtain ⟨hx, hown, hts, hK⟩ := id C
  have hl : lv_has ls 4 [(0, .ref h), (1, .int at_)] := hl
  refine lv_aload_n hx hb dX1_valid_0 rfl (lv_at hl 0 rfl) ?_
  refine x1_get C hb hP 8 (by decide) q31 (fun _ h9 => h9) rfl dX1_valid_1 ?_
  refine lv_iload_n hx hb dX1_valid_4 rfl (lv_at hl 1 rfl) ?_
  refine ks_zld (ad := ad) (ca := ca) (S := S) (k := 8) C hb hP x1_a8 x1_t8 hat dX1_valid_5 ?_
  refine lv_if_ne (tgt := 11) hx hb dX1_valid_6 (by decide) (fun c_1 => ?_) (fun c_1 => ?_)
  · refine lv_aload_n hx hb dX1_valid_11 rfl (lv_at hl 0 rfl) ?_
    refine x1_get C hb hP 9 (by decide) q32 (fun _ h9 => h9) rfl dX1_valid_12 ?_
    refine lv_iload_n hx hb dX1_valid_15 rfl (lv_at hl 1 rfl) ?_
    refine ks_ild (ad := ad) (ca := ca) (S := S) (k := 9) C hb hP x1_a9 x1_t9 hat dX1_valid_16 ?_
    refine lv_topi (fun x_2 ex_2 => ?_)
    refine lv_istore_n (lv' := [(2, .int x_2), (0, .ref h), (1, .int at_)]) hx hb dX1_valid_17 rfl hl (by decide) rfl (fun ls hl => ?_)
    refine lv_aload_n hx hb dX1_valid_18 rfl (lv_at hl 1 rfl) ?_
    refine x1_get C hb hP 0 (by decide) q23 (fun _ h9 => h9) rfl dX1_valid_19 ?_
    refine lv_iload_n hx hb dX1_valid_22 rfl (lv_at hl 0 rfl) ?_
    refine ks_zld (ad := ad) (ca := ca) (S := S) (k := 0) C hb hP x1_a0 x1_t0 (show vp_in x_2 8 by rw [ex_2]; exact hok.1 _) dX1_valid_23 ?_
    refine lv_if_ne (tgt := 29) hx hb dX1_valid_24 (by decide) (fun c_3 => ?_) (fun c_3 => ?_)
    · refine lv_aload_n hx hb dX1_valid_29 rfl (lv_at hl 1 rfl) ?_
      refine x1_get C hb hP 2 (by decide) q25 (fun _ h9 => h9) rfl dX1_valid_30 ?_
      refine lv_iload_n hx hb dX1_valid_33 rfl (lv_at hl 0 rfl) ?_
      refine ks_ild (ad := ad) (ca := ca) (S := S) (k := 2) C hb hP x1_a2 x1_t2 (show vp_in x_2 8 by rw [ex_2]; exact hok.1 _) dX1_valid_34 ?_
      refine lv_aload_n hx hb dX1_valid_35 rfl (lv_at hl 1 rfl) ?_
      refine x1_get C hb hP 10 (by decide) q33 (fun _ h9 => h9) rfl dX1_valid_36 ?_
      refine lv_iload_n hx hb dX1_valid_39 rfl (lv_at hl 2 rfl) ?_
      refine ks_ild (ad := ad) (ca := ca) (S := S) (k := 10) C hb hP x1_a10 x1_t10 hat dX1_valid_40 ?_
      refine lv_ixor hx hb dX1_valid_41 ?_
      refine ks_callN (As := [.int ((S 2 x_2.toNatClampNeg) ^^^ (S 10 at_.toNatClampNeg))]) (rest := []) hx hb hml hown hts (m1_mix l (((S 2 x_2.toNatClampNeg) ^^^ (S 10 at_.toNatClampNeg)))) (va_cwS 1 hts (lw_S q116 q117 q13 q118) rfl rfl rfl (by decide +kernel) ⟨(Nat.le_of_ble_eq_true rfl), (Nat.le_of_ble_eq_true rfl)⟩) rfl hl.1 rfl (Nat.le_of_ble_eq_true rfl) dX1_valid_42 ⟨Nat.zero_le _, Nat.zero_le _⟩ ?_
      refine lv_topi (fun x_4 ex_4 => ?_)
      refine lv_istore_n (lv' := [(3, .int x_4), (2, .int x_2), (0, .ref h), (1, .int at_)]) hx hb dX1_valid_45 rfl hl (by decide) rfl (fun ls hl => ?_)
      refine lv_iload_n hx hb dX1_valid_46 rfl (lv_at hl 0 rfl) ?_
      refine lv_aload_n hx hb dX1_valid_47 rfl (lv_at hl 2 rfl) ?_
      refine x1_get C hb hP 11 (by decide) q34 (fun _ h9 => h9) rfl dX1_valid_48 ?_
      refine lv_iload_n hx hb dX1_valid_51 rfl (lv_at hl 3 rfl) ?_
      refine ks_ild (ad := ad) (ca := ca) (S := S) (k := 11) C hb hP x1_a11 x1_t11 hat dX1_valid_52 ?_
      refine lv_icmp_ne (tgt := 60) hx hb dX1_valid_53 (by decide) (fun c_5 => ?_) (fun c_5 => ?_)
      · refine lv_iconst (v := 0) hx hb dX1_valid_60 (by decide) ?_
        exact ks_zret hx hb hr hlocks dX1_valid_61 rfl (by subst ex_4; subst ex_2; unfold sv_valid; rw [if_neg c_1, if_neg c_3, if_neg c_5]; try rfl)
      · refine lv_iconst (v := 1) hx hb dX1_valid_56 (by decide) ?_
        refine lv_goto (tgt := 61) hx hb dX1_valid_57 (by decide) ?_
        exact ks_zret hx hb hr hlocks dX1_valid_61 rfl (by subst ex_4; subst ex_2; unfold sv_valid; rw [if_neg c_1, if_neg c_3, if_pos c_5]; try rfl)
    · refine lv_iconst (v := 0) hx hb dX1_valid_27 (by decide) ?_
      exact ks_zret hx hb hr hlocks dX1_valid_28 rfl (by subst ex_2; unfold sv_valid; rw [if_neg c_1, if_pos c_3]; try rfl)
  · refine lv_iconst (v := 0) hx hb dX1_valid_9 (by decide) ?_
    exact ks_zret hx hb hr hlocks dX1_valid_10 rfl (by unfold sv_valid; rw [if_pos c_1]; try rfl)
set_option maxHeartbeats 4000000 in
set_option maxRecDepth 100000 in
theorem m1_give (l : Launch) (D : va_G) (h : Nat) (ad : Nat → Nat) (ca : Nat → ClassId) (S : ks_St) (sz : Nat) (at_ o r : Int32) (hat : vp_in at_ 16) (ho : vp_in o 8) : Met l yX1_give (ws_ yX1_give cX1_give 4 none) ({ frames := 1, cells := 0, slots := 0, locals := 21 }) (ks_P D (w1_ h ad ca S) (t1_ ca) sz [.ref h, .int at_, .int o, .int r]) (ks_Qv D (w1_ h ad ca (sv_give S at_ o r)) (va_A (w1_ h ad ca S) sz)) 0 0 (va_A (w1_ h ad ca S) sz) := by
  refine ks_enter (Qc := ks_Qv D (w1_ h ad ca (sv_give S at_ o r))) RX1 (by decide) rfl (Nat.le_of_ble_eq_true rfl) ?_
  intro p e s m below meth c A ls hb hml hr hlocks hnm C hA hW hl
  obtain ⟨hx, hown, hts, hK⟩ := id C
  have hl : lv_has ls 4 [(0, .ref h), (1, .int at_), (2, .int o), (3, .int r)] := hl
  refine lv_aload_n hx hb dX1_give_0 rfl (lv_at hl 0 rfl) ?_
  refine x1_get C hb hW.1 8 (by decide) q31 (fun _ h9 => h9) rfl dX1_give_1 ?_
  refine lv_iload_n hx hb dX1_give_4 rfl (lv_at hl 1 rfl) ?_
  refine lv_iconst (v := 1) hx hb dX1_give_5 (by decide) ?_
  refine ks_zst (ad := ad) (ca := ca) (S := S) (k := 8) (wf := w1_ h ad ca) (y := 1) C hb hW x1_a8 x1_t8 x1_s8 hat rfl dX1_give_6 (fun S_1 eS_1 H locs hW => ?_)
  refine lv_aload_n hx hb dX1_give_7 rfl (lv_at hl 0 rfl) ?_
  refine x1_get C hb hW.1 9 (by decide) q32 (fun _ h9 => h9) rfl dX1_give_8 ?_
  refine lv_iload_n hx hb dX1_give_11 rfl (lv_at hl 1 rfl) ?_
  refine lv_iload_n hx hb dX1_give_12 rfl (lv_at hl 2 rfl) ?_
  refine ks_ist (ad := ad) (ca := ca) (S := S_1) (k := 9) (wf := w1_ h ad ca) C hb hW x1_a9 x1_t9 x1_s9 hat dX1_give_13 (fun S_2 eS_2 H locs hW => ?_)
  refine lv_aload_n hx hb dX1_give_14 rfl (lv_at hl 0 rfl) ?_
  refine x1_get C hb hW.1 10 (by decide) q33 (fun _ h9 => h9) rfl dX1_give_15 ?_
  refine lv_iload_n hx hb dX1_give_18 rfl (lv_at hl 1 rfl) ?_
  refine lv_iload_n hx hb dX1_give_19 rfl (lv_at hl 3 rfl) ?_
  refine ks_ist (ad := ad) (ca := ca) (S := S_2) (k := 10) (wf := w1_ h ad ca) C hb hW x1_a10 x1_t10 x1_s10 hat dX1_give_20 (fun S_3 eS_3 H locs hW => ?_)
  refine lv_aload_n hx hb dX1_give_21 rfl (lv_at hl 0 rfl) ?_
  refine x1_get C hb hW.1 11 (by decide) q34 (fun _ h9 => h9) rfl dX1_give_22 ?_
  refine lv_iload_n hx hb dX1_give_25 rfl (lv_at hl 1 rfl) ?_
  refine lv_aload_n hx hb dX1_give_26 rfl (lv_at hl 0 rfl) ?_
  refine x1_get C hb hW.1 2 (by decide) q25 (fun _ h9 => h9) rfl dX1_give_27 ?_
  refine lv_iload_n hx hb dX1_give_30 rfl (lv_at hl 2 rfl) ?_
  refine ks_ild (ad := ad) (ca := ca) (S := S_3) (k := 2) C hb hW.1 x1_a2 x1_t2 ho dX1_give_31 ?_
  refine lv_iload_n hx hb dX1_give_32 rfl (lv_at hl 3 rfl) ?_
  refine lv_ixor hx hb dX1_give_33 ?_
  refine ks_callN (As := [.int ((S_3 2 o.toNatClampNeg) ^^^ r)]) (rest := [.int at_, .ref (ad 11)]) hx hb hml hown hts (m1_mix l (((S_3 2 o.toNatClampNeg) ^^^ r))) (va_cwS 1 hts (lw_S q116 q117 q13 q118) rfl rfl rfl (by decide +kernel) ⟨(Nat.le_of_ble_eq_true rfl), (Nat.le_of_ble_eq_true rfl)⟩) rfl hl.1 rfl (Nat.le_of_ble_eq_true rfl) dX1_give_34 ⟨Nat.zero_le _, Nat.zero_le _⟩ ?_
  refine ks_ist (ad := ad) (ca := ca) (S := S_3) (k := 11) (wf := w1_ h ad ca) C hb hW x1_a11 x1_t11 x1_s11 hat dX1_give_37 (fun S_4 eS_4 H locs hW => ?_)
  exact ks_vret hx hb hr hlocks hW dX1_give_38 (congrArg (w1_ h ad ca) (by subst eS_4; subst eS_3; subst eS_2; subst eS_1; unfold sv_give; try rfl))
end
section
/-! part 08: contracts of the server: serveCreate, serve -/
set_option maxHeartbeats 4000000 in
theorem sc_loop {p : Program} {l : Launch} {e : Env} {R : Room} {s : State} {m : MethodId} {args : Array Value} {below : List Frame} {meth : Method} {c : Code} {H : Heap} {locs : List Loc} {cells slots : Nat} {Q : State → Prop} {D : va_G} {h : Nat} {ad : Nat → Nat} {ca : Nat → ClassId} {S : ks_St} {at_ : Int32}
    (C : ks_K RX1 D (t1_ ca) p s m args) (hb : c.code = cX1_serveCreate) (hP : va_P D vwCl (w1_ h ad ca S) H) :
    ∀ (n i : Nat), i + n = 8 → ∀ (ls : Array Slot), lv_has ls 3 [(0, .ref h), (1, .int at_), (2, .int (nI i))] →
      (∀ ls : Array Slot, lv_has ls 3 [(0, .ref h), (1, .int at_), (2, .int (nI (sv_find (S 0) n i)))] → W p l e R s m args below meth c H locs cells slots Q (F0 m 23 ls [])) →
      W p l e R s m args below meth c H locs cells slots Q (F0 m 2 ls []) := by
  have hx := C.1
  intro n
  induction n with
  | zero =>
    intro i hi ls hl K_
    refine lv_iload_n hx hb dX1_serveCreate_2 rfl (lv_at hl 2 rfl) ?_
    refine lv_bipush (v := 8) hx hb dX1_serveCreate_3 (by decide) ?_
    refine lv_icmp_ge (tgt := 23) hx hb dX1_serveCreate_5 (by decide) (fun c_1 => ?_) (fun c_1 => ?_)
    · exact K_ ls hl
    · exact absurd (nI_le (a := 8) (b := i) (by omega) (by omega)) c_1
  | succ n ih =>
    intro i hi ls hl K_
    refine lv_iload_n hx hb dX1_serveCreate_2 rfl (lv_at hl 2 rfl) ?_
    refine lv_bipush (v := 8) hx hb dX1_serveCreate_3 (by decide) ?_
    refine lv_icmp_ge (tgt := 23) hx hb dX1_serveCreate_5 (by decide) (fun c_1 => ?_) (fun c_1 => ?_)
    · exact absurd c_1 (nI_ge (a := i) (b := 8) (by omega) (by decide))
    · refine lv_aload_n hx hb dX1_serveCreate_8 rfl (lv_at hl 0 rfl) ?_
      refine x1_get C hb hP 0 (by decide) q23 (fun _ h9 => h9) rfl dX1_serveCreate_9 ?_
      refine lv_iload_n hx hb dX1_serveCreate_12 rfl (lv_at hl 2 rfl) ?_
      refine ks_zld (ad := ad) (ca := ca) (S := S) (k := 0) C hb hP x1_a0 x1_t0 (vp_in_nI (n := i) (N := 8) (by omega) (by decide)) dX1_serveCreate_13 ?_
      refine lv_if_eq (tgt := 23) hx hb dX1_serveCreate_14 (by decide) (fun c_2 => ?_) (fun c_2 => ?_)
      · rw [nI_clamp (by omega)] at c_2
        refine K_ ls ?_
        rw [sv_find, if_pos c_2]
        exact hl
      · rw [nI_clamp (by omega)] at c_2
        refine lv_iinc (v := nI (i + 1)) (lv' := [(2, .int (nI (i + 1))), (0, .ref h), (1, .int at_)]) hx hb dX1_serveCreate_17 hl (k := 2) rfl (nI_1 i) (by decide) rfl (fun ls hl => ?_)
        refine lv_goto (tgt := 2) hx hb dX1_serveCreate_20 (by decide) ?_
        refine ih (i + 1) (by omega) ls (lv_sub hl [1, 2, 0] rfl) (fun ls hl => K_ ls ?_)
        rw [sv_find, if_neg c_2]
        exact hl
set_option maxHeartbeats 4000000 in
set_option maxRecDepth 100000 in
theorem m1_serveCreate (l : Launch) (D : va_G) (h : Nat) (ad : Nat → Nat) (ca : Nat → ClassId) (S : ks_St) (sz : Nat) (at_ : Int32) (hat : vp_in at_ 16) : Met l yX1_serveCreate (ws_ yX1_serveCreate cX1_serveCreate 3 (some .int)) ({ frames := 2, cells := 0, slots := 0, locals := 44 }) (ks_P D (w1_ h ad ca S) (t1_ ca) sz [.ref h, .int at_]) (ks_Qi D (sv_screate S at_).1 (w1_ h ad ca (sv_screate S at_).2) (va_A (w1_ h ad ca S) sz)) 0 0 (va_A (w1_ h ad ca S) sz) := by
  refine ks_enter (Qc := ks_Qi D (sv_screate S at_).1 (w1_ h ad ca (sv_screate S at_).2)) RX1 (by decide) rfl (Nat.le_of_ble_eq_true rfl) ?_
  intro p e s m below meth c A ls hb hml hr hlocks hnm C hA hW hl
  obtain ⟨hx, hown, hts, hK⟩ := id C
  have hl : lv_has ls 3 [(0, .ref h), (1, .int at_)] := hl
  refine lv_iconst (v := 0) hx hb dX1_serveCreate_0 (by decide) ?_
  refine lv_istore_n (lv' := [(2, .int 0), (0, .ref h), (1, .int at_)]) hx hb dX1_serveCreate_1 rfl hl (by decide) rfl (fun ls hl => ?_)
  refine sc_loop (h := h) (ad := ad) (ca := ca) C hb hW.1 8 0 (by decide) ls (lv_sub hl [1, 2, 0] rfl) (fun ls hl => ?_)
  have hf8 := sv_find_le (S 0) 8 0
  obtain ⟨o, eo⟩ : ∃ z : Int32, z = nI (sv_find (S 0) 8 0) := ⟨_, rfl⟩
  rw [← eo] at hl
  refine lv_iload_n hx hb dX1_serveCreate_23 rfl (lv_at hl 2 rfl) ?_
  refine lv_bipush (v := 8) hx hb dX1_serveCreate_24 (by decide) ?_
  refine lv_icmp_ne (tgt := 32) hx hb dX1_serveCreate_26 (by decide) (fun c_1 => ?_) (fun c_1 => ?_)
  · have ho : vp_in o 8 := by
      rw [eo] at c_1 ⊢
      refine vp_in_nI (Nat.lt_of_le_of_ne (by omega) (fun h8 => c_1 (by rw [h8]; rfl))) (by decide)
    refine lv_aload_n hx hb dX1_serveCreate_32 rfl (lv_at hl 0 rfl) ?_
    refine x1_get C hb hW.1 0 (by decide) q23 (fun _ h9 => h9) rfl dX1_serveCreate_33 ?_
    refine lv_iload_n hx hb dX1_serveCreate_36 rfl (lv_at hl 2 rfl) ?_
    refine lv_iconst (v := 1) hx hb dX1_serveCreate_37 (by decide) ?_
    refine ks_zst (ad := ad) (ca := ca) (S := S) (k := 0) (wf := w1_ h ad ca) (y := 1) C hb hW x1_a0 x1_t0 x1_s0 ho rfl dX1_serveCreate_38 (fun S_2 eS_2 H locs hW => ?_)
    refine lv_aload_n hx hb dX1_serveCreate_39 rfl (lv_at hl 0 rfl) ?_
    refine x1_get C hb hW.1 1 (by decide) q24 (fun _ h9 => h9) rfl dX1_serveCreate_40 ?_
    refine lv_iload_n hx hb dX1_serveCreate_43 rfl (lv_at hl 2 rfl) ?_
    refine lv_iconst (v := 0) hx hb dX1_serveCreate_44 (by decide) ?_
    refine ks_ist (ad := ad) (ca := ca) (S := S_2) (k := 1) (wf := w1_ h ad ca) C hb hW x1_a1 x1_t1 x1_s1 ho dX1_serveCreate_45 (fun S_3 eS_3 H locs hW => ?_)
    refine lv_aload_n hx hb dX1_serveCreate_46 rfl (lv_at hl 0 rfl) ?_
    refine x1_get C hb hW.1 2 (by decide) q25 (fun _ h9 => h9) rfl dX1_serveCreate_47 ?_
    refine lv_iload_n hx hb dX1_serveCreate_50 rfl (lv_at hl 2 rfl) ?_
    refine lv_aload_n hx hb dX1_serveCreate_51 rfl (lv_at hl 0 rfl) ?_
    refine ks_callI (C := RX1) (ci := 0) (As := []) (rest := [.int o, .ref (ad 2)]) hx hb hml hown hts hK hA hW rfl x1_o rfl (fun sz => m1_newSecret l D h ad ca S_3 sz  ) (cwV 0 hts (lw_V q107 q109 qs5 q13 q110) rfl rfl rfl (by decide +kernel) ⟨(Nat.le_of_ble_eq_true rfl), (Nat.le_of_ble_eq_true rfl)⟩) rfl hl.1 rfl (Nat.le_of_ble_eq_true rfl) dX1_serveCreate_52 ⟨Nat.zero_le _, Nat.zero_le _⟩ (fun H locs hW => ?_)
    refine ks_ist (ad := ad) (ca := ca) (S := (sv_new S_3)) (k := 2) (wf := w1_ h ad ca) C hb hW x1_a2 x1_t2 x1_s2 ho dX1_serveCreate_55 (fun S_4 eS_4 H locs hW => ?_)
    refine lv_aload_n hx hb dX1_serveCreate_56 rfl (lv_at hl 0 rfl) ?_
    refine lv_iload_n hx hb dX1_serveCreate_57 rfl (lv_at hl 1 rfl) ?_
    refine lv_iload_n hx hb dX1_serveCreate_58 rfl (lv_at hl 2 rfl) ?_
    refine lv_bipush (v := 15) hx hb dX1_serveCreate_59 (by decide) ?_
    refine ks_callV (C := RX1) (ci := 0) (As := [.int at_, .int o, .int 15]) (rest := []) hx hb hml hown hts hK hA hW rfl x1_o rfl (fun sz => m1_give l D h ad ca S_4 sz at_ o 15 hat ho) (cwV 3 hts (lw_V q112 q114 qs6 q13 q115) rfl rfl rfl (by decide +kernel) ⟨(Nat.le_of_ble_eq_true rfl), (Nat.le_of_ble_eq_true rfl)⟩) rfl hl.1 rfl (Nat.le_of_ble_eq_true rfl) dX1_serveCreate_61 ⟨Nat.zero_le _, Nat.zero_le _⟩ (fun H locs hW => ?_)
    refine lv_iload_n hx hb dX1_serveCreate_64 rfl (lv_at hl 2 rfl) ?_
    exact ks_iret hx hb hr hlocks hW dX1_serveCreate_65 (by subst eS_4; subst eS_3; subst eS_2; subst eo; unfold sv_screate; rw [if_neg c_1]; try rfl) (congrArg (w1_ h ad ca) (by subst eS_4; subst eS_3; subst eS_2; subst eo; unfold sv_screate; rw [if_neg c_1]; try rfl))
  · refine lv_bipush (v := (-4)) hx hb dX1_serveCreate_29 (by decide) ?_
    exact ks_iret hx hb hr hlocks hW dX1_serveCreate_31 (by subst eo; unfold sv_screate; rw [if_pos c_1]; try rfl) (congrArg (w1_ h ad ca) (by subst eo; unfold sv_screate; rw [if_pos c_1]; try rfl))
set_option maxHeartbeats 4000000 in
set_option maxRecDepth 100000 in
theorem m1_serve (l : Launch) (D : va_G) (h : Nat) (ad : Nat → Nat) (ca : Nat → ClassId) (S : ks_St) (sz : Nat) (op at_ to_ arg : Int32) (hok : sv_ok S) (hat : vp_in at_ 16) (hto : vp_in to_ 16) : Met l yX1_serve (ws_ yX1_serve cX1_serve 8 (some .int)) ({ frames := 3, cells := 0, slots := 0, locals := 66 }) (ks_P D (w1_ h ad ca S) (t1_ ca) sz [.ref h, .int op, .int at_, .int to_, .int arg]) (ks_Qi D (sv_serve S op at_ to_ arg).1 (w1_ h ad ca (sv_serve S op at_ to_ arg).2) (va_A (w1_ h ad ca S) sz)) 0 0 (va_A (w1_ h ad ca S) sz) := by
  refine ks_enter (Qc := ks_Qi D (sv_serve S op at_ to_ arg).1 (w1_ h ad ca (sv_serve S op at_ to_ arg).2)) RX1 (by decide) rfl (Nat.le_of_ble_eq_true rfl) ?_
  intro p e s m below meth c A ls hb hml hr hlocks hnm C hA hW hl
  obtain ⟨hx, hown, hts, hK⟩ := id C
  have hl : lv_has ls 8 [(0, .ref h), (1, .int op), (2, .int at_), (3, .int to_), (4, .int arg)] := hl
  refine lv_iload_n hx hb dX1_serve_0 rfl (lv_at hl 1 rfl) ?_
  refine lv_if_ne (tgt := 10) hx hb dX1_serve_1 (by decide) (fun c_1 => ?_) (fun c_1 => ?_)
  · refine lv_aload_n hx hb dX1_serve_10 rfl (lv_at hl 0 rfl) ?_
    refine lv_iload_n hx hb dX1_serve_11 rfl (lv_at hl 2 rfl) ?_
    refine ks_callR (C := RX1) (ci := 0) (As := [.int at_]) (rest := []) hx hb hml hown hts hK hW.1 rfl x1_o rfl (m1_valid l D h ad ca S at_ hok hat) (cwV 1 hts (lw_V q122 q124 qs7 q13 q125) rfl rfl rfl (by decide +kernel) ⟨(Nat.le_of_ble_eq_true rfl), (Nat.le_of_ble_eq_true rfl)⟩) rfl hl.1 rfl (Nat.le_of_ble_eq_true rfl) dX1_serve_12 ⟨Nat.zero_le _, Nat.zero_le _⟩ ?_
    refine lv_topi (fun x_2 ex_2 => ?_)
    refine lv_istore (lv' := [(5, .int x_2), (0, .ref h), (1, .int op), (2, .int at_), (3, .int to_), (4, .int arg)]) hx hb dX1_serve_15 hl (by decide) rfl (fun ls hl => ?_)
    refine lv_iload_n hx hb dX1_serve_17 rfl (lv_at hl 2 rfl) ?_
    refine ks_callN (As := [.int op]) (rest := []) hx hb hml hown hts (m1_needed l op) (va_cwS 1 hts (lw_S q126 q127 q13 q128) rfl rfl rfl (by decide +kernel) ⟨(Nat.le_of_ble_eq_true rfl), (Nat.le_of_ble_eq_true rfl)⟩) rfl hl.1 rfl (Nat.le_of_ble_eq_true rfl) dX1_serve_18 ⟨Nat.zero_le _, Nat.zero_le _⟩ ?_
    refine lv_topi (fun x_3 ex_3 => ?_)
    refine lv_istore (lv' := [(6, .int x_3), (5, .int x_2), (0, .ref h), (1, .int op), (2, .int at_), (3, .int to_), (4, .int arg)]) hx hb dX1_serve_21 hl (by decide) rfl (fun ls hl => ?_)
    refine lv_iload hx hb dX1_serve_23 (lv_at hl 1 rfl) ?_
    refine lv_if_eq (tgt := 42) hx hb dX1_serve_25 (by decide) (fun c_4 => ?_) (fun c_4 => ?_)
    · refine lv_bipush (v := (-3)) hx hb dX1_serve_42 (by decide) ?_
      exact ks_iret hx hb hr hlocks hW dX1_serve_44 (by subst ex_3; subst ex_2; unfold sv_serve sv_do; rw [if_neg c_1, if_pos c_4]; try rfl) (congrArg (w1_ h ad ca) (by subst ex_3; subst ex_2; unfold sv_serve sv_do; rw [if_neg c_1, if_pos c_4]; try rfl))
    · refine lv_aload_n hx hb dX1_serve_28 rfl (lv_at hl 2 rfl) ?_
      refine x1_get C hb hW.1 10 (by decide) q33 (fun _ h9 => h9) rfl dX1_serve_29 ?_
      refine lv_iload_n hx hb dX1_serve_32 rfl (lv_at hl 4 rfl) ?_
      refine ks_ild (ad := ad) (ca := ca) (S := S) (k := 10) C hb hW.1 x1_a10 x1_t10 hat dX1_serve_33 ?_
      refine lv_iload hx hb dX1_serve_34 (lv_at hl 0 rfl) ?_
      refine lv_iand hx hb dX1_serve_36 ?_
      refine lv_iload hx hb dX1_serve_37 (lv_at hl 0 rfl) ?_
      refine lv_icmp_eq (tgt := 45) hx hb dX1_serve_39 (by decide) (fun c_5 => ?_) (fun c_5 => ?_)
      · refine lv_aload_n hx hb dX1_serve_45 rfl (lv_at hl 2 rfl) ?_
        refine x1_get C hb hW.1 9 (by decide) q32 (fun _ h9 => h9) rfl dX1_serve_46 ?_
        refine lv_iload_n hx hb dX1_serve_49 rfl (lv_at hl 4 rfl) ?_
        refine ks_ild (ad := ad) (ca := ca) (S := S) (k := 9) C hb hW.1 x1_a9 x1_t9 hat dX1_serve_50 ?_
        refine lv_topi (fun x_6 ex_6 => ?_)
        refine lv_istore (lv' := [(7, .int x_6), (6, .int x_3), (5, .int x_2), (0, .ref h), (1, .int op), (2, .int at_), (3, .int to_), (4, .int arg)]) hx hb dX1_serve_51 hl (by decide) rfl (fun ls hl => ?_)
        refine lv_iload_n hx hb dX1_serve_53 rfl (lv_at hl 4 rfl) ?_
        have ho : vp_in x_6 8 := by rw [ex_6]; exact hok.1 _
        by_cases c_7 : op = 1
        · refine lv_tableIn (off := 30) (tgt := 84) hx hb dX1_serve_54 (by rw [c_7]; decide) (by rw [c_7]; decide) (by rw [c_7]; decide) (by decide) ?_
          refine lv_aload_n hx hb dX1_serve_84 rfl (lv_at hl 3 rfl) ?_
          refine x1_get C hb hW.1 1 (by decide) q24 (fun _ h9 => h9) rfl dX1_serve_85 ?_
          refine lv_iload hx hb dX1_serve_88 (lv_at hl 0 rfl) ?_
          refine ks_ild (ad := ad) (ca := ca) (S := S) (k := 1) C hb hW.1 x1_a1 x1_t1 ho dX1_serve_90 ?_
          exact ks_iret hx hb hr hlocks hW dX1_serve_91 (by subst ex_6; subst ex_3; subst ex_2; unfold sv_serve sv_do; rw [if_neg c_1, if_neg c_4, if_pos c_5, if_pos c_7]; try rfl) (congrArg (w1_ h ad ca) (by subst ex_6; subst ex_3; subst ex_2; unfold sv_serve sv_do; rw [if_neg c_1, if_neg c_4, if_pos c_5, if_pos c_7]; try rfl))
        by_cases c_8 : op = 2
        · refine lv_tableIn (off := 38) (tgt := 92) hx hb dX1_serve_54 (by rw [c_8]; decide) (by rw [c_8]; decide) (by rw [c_8]; decide) (by decide) ?_
          refine lv_aload_n hx hb dX1_serve_92 rfl (lv_at hl 3 rfl) ?_
          refine x1_get C hb hW.1 1 (by decide) q24 (fun _ h9 => h9) rfl dX1_serve_93 ?_
          refine lv_iload hx hb dX1_serve_96 (lv_at hl 0 rfl) ?_
          refine lv_dup2_11 hx hb dX1_serve_98 rfl rfl ?_
          refine ks_ild (ad := ad) (ca := ca) (S := S) (k := 1) C hb hW.1 x1_a1 x1_t1 ho dX1_serve_99 ?_
          refine lv_iload hx hb dX1_serve_100 (lv_at hl 7 rfl) ?_
          refine lv_iadd hx hb dX1_serve_102 ?_
          refine ks_ist (ad := ad) (ca := ca) (S := S) (k := 1) (wf := w1_ h ad ca) C hb hW x1_a1 x1_t1 x1_s1 ho dX1_serve_103 (fun S_9 eS_9 H locs hW => ?_)
          refine lv_aload_n hx hb dX1_serve_104 rfl (lv_at hl 3 rfl) ?_
          refine x1_get C hb hW.1 1 (by decide) q24 (fun _ h9 => h9) rfl dX1_serve_105 ?_
          refine lv_iload hx hb dX1_serve_108 (lv_at hl 0 rfl) ?_
          refine ks_ild (ad := ad) (ca := ca) (S := S_9) (k := 1) C hb hW.1 x1_a1 x1_t1 ho dX1_serve_110 ?_
          exact ks_iret hx hb hr hlocks hW dX1_serve_111 (by subst eS_9; subst ex_6; subst ex_3; subst ex_2; unfold sv_serve sv_do; rw [if_neg c_1, if_neg c_4, if_pos c_5, if_neg c_7, if_pos c_8]; try rfl) (congrArg (w1_ h ad ca) (by subst eS_9; subst ex_6; subst ex_3; subst ex_2; unfold sv_serve sv_do; rw [if_neg c_1, if_neg c_4, if_pos c_5, if_neg c_7, if_pos c_8]; try rfl))
        by_cases c_10 : op = 3
        · refine lv_tableIn (off := 58) (tgt := 112) hx hb dX1_serve_54 (by rw [c_10]; decide) (by rw [c_10]; decide) (by rw [c_10]; decide) (by decide) ?_
          refine lv_aload_n hx hb dX1_serve_112 rfl (lv_at hl 3 rfl) ?_
          refine x1_get C hb hW.1 0 (by decide) q23 (fun _ h9 => h9) rfl dX1_serve_113 ?_
          refine lv_iload hx hb dX1_serve_116 (lv_at hl 0 rfl) ?_
          refine lv_iconst (v := 0) hx hb dX1_serve_118 (by decide) ?_
          refine ks_zst (ad := ad) (ca := ca) (S := S) (k := 0) (wf := w1_ h ad ca) (y := 0) C hb hW x1_a0 x1_t0 x1_s0 ho rfl dX1_serve_119 (fun S_11 eS_11 H locs hW => ?_)
          refine lv_iconst (v := 0) hx hb dX1_serve_120 (by decide) ?_
          exact ks_iret hx hb hr hlocks hW dX1_serve_121 (by subst eS_11; subst ex_6; subst ex_3; subst ex_2; unfold sv_serve sv_do; rw [if_neg c_1, if_neg c_4, if_pos c_5, if_neg c_7, if_neg c_8, if_pos c_10]; try rfl) (congrArg (w1_ h ad ca) (by subst eS_11; subst ex_6; subst ex_3; subst ex_2; unfold sv_serve sv_do; rw [if_neg c_1, if_neg c_4, if_pos c_5, if_neg c_7, if_neg c_8, if_pos c_10]; try rfl))
        by_cases c_12 : op = 4
        · refine lv_tableIn (off := 68) (tgt := 122) hx hb dX1_serve_54 (by rw [c_12]; decide) (by rw [c_12]; decide) (by rw [c_12]; decide) (by decide) ?_
          refine lv_aload_n hx hb dX1_serve_122 rfl (lv_at hl 3 rfl) ?_
          refine x1_get C hb hW.1 2 (by decide) q25 (fun _ h9 => h9) rfl dX1_serve_123 ?_
          refine lv_iload hx hb dX1_serve_126 (lv_at hl 0 rfl) ?_
          refine lv_aload_n hx hb dX1_serve_128 rfl (lv_at hl 3 rfl) ?_
          refine ks_callI (C := RX1) (ci := 0) (As := []) (rest := [.int x_6, .ref (ad 2)]) hx hb hml hown hts hK hA hW rfl x1_o rfl (fun sz => m1_newSecret l D h ad ca S sz  ) (cwV 0 hts (lw_V q107 q109 qs5 q13 q110) rfl rfl rfl (by decide +kernel) ⟨(Nat.le_of_ble_eq_true rfl), (Nat.le_of_ble_eq_true rfl)⟩) rfl hl.1 rfl (Nat.le_of_ble_eq_true rfl) dX1_serve_129 ⟨Nat.zero_le _, Nat.zero_le _⟩ (fun H locs hW => ?_)
          refine ks_ist (ad := ad) (ca := ca) (S := (sv_new S)) (k := 2) (wf := w1_ h ad ca) C hb hW x1_a2 x1_t2 x1_s2 ho dX1_serve_132 (fun S_13 eS_13 H locs hW => ?_)
          refine lv_aload_n hx hb dX1_serve_133 rfl (lv_at hl 3 rfl) ?_
          refine lv_iload_n hx hb dX1_serve_134 rfl (lv_at hl 5 rfl) ?_
          refine lv_iload hx hb dX1_serve_135 (lv_at hl 0 rfl) ?_
          refine lv_aload_n hx hb dX1_serve_137 rfl (lv_at hl 3 rfl) ?_
          refine x1_get C hb hW.1 10 (by decide) q33 (fun _ h9 => h9) rfl dX1_serve_138 ?_
          refine lv_iload_n hx hb dX1_serve_141 rfl (lv_at hl 5 rfl) ?_
          refine ks_ild (ad := ad) (ca := ca) (S := S_13) (k := 10) C hb hW.1 x1_a10 x1_t10 hat dX1_serve_142 ?_
          refine ks_callV (C := RX1) (ci := 0) (As := [.int at_, .int x_6, .int (S_13 10 at_.toNatClampNeg)]) (rest := []) hx hb hml hown hts hK hA hW rfl x1_o rfl (fun sz => m1_give l D h ad ca S_13 sz at_ x_6 ((S_13 10 at_.toNatClampNeg)) hat ho) (cwV 3 hts (lw_V q112 q114 qs6 q13 q115) rfl rfl rfl (by decide +kernel) ⟨(Nat.le_of_ble_eq_true rfl), (Nat.le_of_ble_eq_true rfl)⟩) rfl hl.1 rfl (Nat.le_of_ble_eq_true rfl) dX1_serve_143 ⟨Nat.zero_le _, Nat.zero_le _⟩ (fun H locs hW => ?_)
          refine lv_iconst (v := 0) hx hb dX1_serve_146 (by decide) ?_
          exact ks_iret hx hb hr hlocks hW dX1_serve_147 (by subst eS_13; subst ex_6; subst ex_3; subst ex_2; unfold sv_serve sv_do; rw [if_neg c_1, if_neg c_4, if_pos c_5, if_neg c_7, if_neg c_8, if_neg c_10, if_pos c_12]; try rfl) (congrArg (w1_ h ad ca) (by subst eS_13; subst ex_6; subst ex_3; subst ex_2; unfold sv_serve sv_do; rw [if_neg c_1, if_neg c_4, if_pos c_5, if_neg c_7, if_neg c_8, if_neg c_10, if_pos c_12]; try rfl))
        refine lv_tableOut (tgt := 148) hx hb dX1_serve_54 (ks_out4 c_7 c_8 c_10 c_12) (by decide) ?_
        refine lv_aload_n hx hb dX1_serve_148 rfl (lv_at hl 3 rfl) ?_
        refine lv_iload_n hx hb dX1_serve_149 rfl (lv_at hl 6 rfl) ?_
        refine lv_iload hx hb dX1_serve_150 (lv_at hl 0 rfl) ?_
        refine lv_aload_n hx hb dX1_serve_152 rfl (lv_at hl 3 rfl) ?_
        refine x1_get C hb hW.1 10 (by decide) q33 (fun _ h9 => h9) rfl dX1_serve_153 ?_
        refine lv_iload_n hx hb dX1_serve_156 rfl (lv_at hl 5 rfl) ?_
        refine ks_ild (ad := ad) (ca := ca) (S := S) (k := 10) C hb hW.1 x1_a10 x1_t10 hat dX1_serve_157 ?_
        refine lv_iload hx hb dX1_serve_158 (lv_at hl 7 rfl) ?_
        refine lv_iand hx hb dX1_serve_160 ?_
        refine ks_callV (C := RX1) (ci := 0) (As := [.int to_, .int x_6, .int ((S 10 at_.toNatClampNeg) &&& arg)]) (rest := []) hx hb hml hown hts hK hA hW rfl x1_o rfl (fun sz => m1_give l D h ad ca S sz to_ x_6 (((S 10 at_.toNatClampNeg) &&& arg)) hto ho) (cwV 3 hts (lw_V q112 q114 qs6 q13 q115) rfl rfl rfl (by decide +kernel) ⟨(Nat.le_of_ble_eq_true rfl), (Nat.le_of_ble_eq_true rfl)⟩) rfl hl.1 rfl (Nat.le_of_ble_eq_true rfl) dX1_serve_161 ⟨Nat.zero_le _, Nat.zero_le _⟩ (fun H locs hW => ?_)
        refine lv_aload_n hx hb dX1_serve_164 rfl (lv_at hl 3 rfl) ?_
        refine x1_get C hb hW.1 10 (by decide) q33 (fun _ h9 => h9) rfl dX1_serve_165 ?_
        refine lv_iload_n hx hb dX1_serve_168 rfl (lv_at hl 6 rfl) ?_
        refine ks_ild (ad := ad) (ca := ca) (S := (sv_give S to_ x_6 (((S 10 at_.toNatClampNeg) &&& arg)))) (k := 10) C hb hW.1 x1_a10 x1_t10 hto dX1_serve_169 ?_
        exact ks_iret hx hb hr hlocks hW dX1_serve_170 (by subst ex_6; subst ex_3; subst ex_2; unfold sv_serve sv_do; rw [if_neg c_1, if_neg c_4, if_pos c_5, if_neg c_7, if_neg c_8, if_neg c_10, if_neg c_12]; try rfl) (congrArg (w1_ h ad ca) (by subst ex_6; subst ex_3; subst ex_2; unfold sv_serve sv_do; rw [if_neg c_1, if_neg c_4, if_pos c_5, if_neg c_7, if_neg c_8, if_neg c_10, if_neg c_12]; try rfl))
      · refine lv_bipush (v := (-3)) hx hb dX1_serve_42 (by decide) ?_
        exact ks_iret hx hb hr hlocks hW dX1_serve_44 (by subst ex_3; subst ex_2; unfold sv_serve sv_do; rw [if_neg c_1, if_neg c_4, if_neg c_5]; try rfl) (congrArg (w1_ h ad ca) (by subst ex_3; subst ex_2; unfold sv_serve sv_do; rw [if_neg c_1, if_neg c_4, if_neg c_5]; try rfl))
  · refine lv_aload_n hx hb dX1_serve_4 rfl (lv_at hl 0 rfl) ?_
    refine lv_iload_n hx hb dX1_serve_5 rfl (lv_at hl 2 rfl) ?_
    refine ks_callI (C := RX1) (ci := 0) (As := [.int at_]) (rest := []) hx hb hml hown hts hK hA hW rfl x1_o rfl (fun sz => m1_serveCreate l D h ad ca S sz at_ hat) (cwV 1 hts (lw_V q103 q105 qs4 q13 q106) rfl rfl rfl (by decide +kernel) ⟨(Nat.le_of_ble_eq_true rfl), (Nat.le_of_ble_eq_true rfl)⟩) rfl hl.1 rfl (Nat.le_of_ble_eq_true rfl) dX1_serve_6 ⟨Nat.zero_le _, Nat.zero_le _⟩ (fun H locs hW => ?_)
    exact ks_iret hx hb hr hlocks hW dX1_serve_9 (by unfold sv_serve sv_do; rw [if_pos c_1]; try rfl) (congrArg (w1_ h ad ca) (by unfold sv_serve sv_do; rw [if_pos c_1]; try rfl))
end
section
/-! part 09: contracts of the server: receive, request, the public methods -/
set_option maxHeartbeats 4000000 in
set_option maxRecDepth 100000 in
theorem m1_receive (l : Launch) (D : va_G) (h : Nat) (ad : Nat → Nat) (ca : Nat → ClassId) (S : ks_St) (sz : Nat) (u : Int32) (hok : sv_ok S) (hu : vp_in u 2) : Met l yX1_receive (ws_ yX1_receive cX1_receive 2 (some .int)) ({ frames := 4, cells := 0, slots := 0, locals := 93 }) (ks_P D (w1_ h ad ca S) (t1_ ca) sz [.ref h, .int u]) (ks_Qi D (sv_receive S u).1 (w1_ h ad ca (sv_receive S u).2) (va_A (w1_ h ad ca S) sz)) 0 0 (va_A (w1_ h ad ca S) sz) := by
  refine ks_enter (Qc := ks_Qi D (sv_receive S u).1 (w1_ h ad ca (sv_receive S u).2)) RX1 (by decide) rfl (Nat.le_of_ble_eq_true rfl) ?_
  intro p e s m below meth c A ls hb hml hr hlocks hnm C hA hW hl
  obtain ⟨hx, hown, hts, hK⟩ := id C
  have hl : lv_has ls 2 [(0, .ref h), (1, .int u)] := hl
  refine lv_aload_n hx hb dX1_receive_0 rfl (lv_at hl 0 rfl) ?_
  refine x1_get C hb hW.1 12 (by decide) q35 (fun _ h9 => h9) rfl dX1_receive_1 ?_
  refine lv_iload_n hx hb dX1_receive_4 rfl (lv_at hl 1 rfl) ?_
  refine ks_ild (ad := ad) (ca := ca) (S := S) (k := 12) C hb hW.1 x1_a12 x1_t12 hu dX1_receive_5 ?_
  refine lv_aload_n hx hb dX1_receive_6 rfl (lv_at hl 0 rfl) ?_
  refine x1_get C hb hW.1 5 (by decide) q28 (fun _ h9 => h9) rfl dX1_receive_7 ?_
  refine lv_iload_n hx hb dX1_receive_10 rfl (lv_at hl 1 rfl) ?_
  refine ks_ild (ad := ad) (ca := ca) (S := S) (k := 5) C hb hW.1 x1_a5 x1_t5 hu dX1_receive_11 ?_
  refine lv_icmp_gt (tgt := 36) hx hb dX1_receive_12 (by decide) (fun c_1 => ?_) (fun c_1 => ?_)
  · refine lv_aload_n hx hb dX1_receive_36 rfl (lv_at hl 0 rfl) ?_
    refine x1_get C hb hW.1 5 (by decide) q28 (fun _ h9 => h9) rfl dX1_receive_37 ?_
    refine lv_iload_n hx hb dX1_receive_40 rfl (lv_at hl 1 rfl) ?_
    refine lv_aload_n hx hb dX1_receive_41 rfl (lv_at hl 0 rfl) ?_
    refine x1_get C hb hW.1 12 (by decide) q35 (fun _ h9 => h9) rfl dX1_receive_42 ?_
    refine lv_iload_n hx hb dX1_receive_45 rfl (lv_at hl 1 rfl) ?_
    refine ks_ild (ad := ad) (ca := ca) (S := S) (k := 12) C hb hW.1 x1_a12 x1_t12 hu dX1_receive_46 ?_
    refine ks_ist (ad := ad) (ca := ca) (S := S) (k := 5) (wf := w1_ h ad ca) C hb hW x1_a5 x1_t5 x1_s5 hu dX1_receive_47 (fun S_2 eS_2 H locs hW => ?_)
    refine lv_aload_n hx hb dX1_receive_48 rfl (lv_at hl 0 rfl) ?_
    refine x1_get C hb hW.1 6 (by decide) q29 (fun _ h9 => h9) rfl dX1_receive_49 ?_
    refine lv_iload_n hx hb dX1_receive_52 rfl (lv_at hl 1 rfl) ?_
    refine lv_iconst (v := 1) hx hb dX1_receive_53 (by decide) ?_
    refine ks_zst (ad := ad) (ca := ca) (S := S_2) (k := 6) (wf := w1_ h ad ca) (y := 1) C hb hW x1_a6 x1_t6 x1_s6 hu rfl dX1_receive_54 (fun S_3 eS_3 H locs hW => ?_)
    refine lv_aload_n hx hb dX1_receive_55 rfl (lv_at hl 0 rfl) ?_
    refine x1_get C hb hW.1 7 (by decide) q30 (fun _ h9 => h9) rfl dX1_receive_56 ?_
    refine lv_iload_n hx hb dX1_receive_59 rfl (lv_at hl 1 rfl) ?_
    refine lv_aload_n hx hb dX1_receive_60 rfl (lv_at hl 0 rfl) ?_
    refine lv_aload_n hx hb dX1_receive_61 rfl (lv_at hl 0 rfl) ?_
    refine x1_get C hb hW.1 13 (by decide) q36 (fun _ h9 => h9) rfl dX1_receive_62 ?_
    refine lv_iload_n hx hb dX1_receive_65 rfl (lv_at hl 1 rfl) ?_
    refine ks_ild (ad := ad) (ca := ca) (S := S_3) (k := 13) C hb hW.1 x1_a13 x1_t13 hu dX1_receive_66 ?_
    refine lv_aload_n hx hb dX1_receive_67 rfl (lv_at hl 0 rfl) ?_
    refine x1_get C hb hW.1 14 (by decide) q37 (fun _ h9 => h9) rfl dX1_receive_68 ?_
    refine lv_iload_n hx hb dX1_receive_71 rfl (lv_at hl 1 rfl) ?_
    refine ks_ild (ad := ad) (ca := ca) (S := S_3) (k := 14) C hb hW.1 x1_a14 x1_t14 hu dX1_receive_72 ?_
    refine lv_aload_n hx hb dX1_receive_73 rfl (lv_at hl 0 rfl) ?_
    refine x1_get C hb hW.1 15 (by decide) q38 (fun _ h9 => h9) rfl dX1_receive_74 ?_
    refine lv_iload_n hx hb dX1_receive_77 rfl (lv_at hl 1 rfl) ?_
    refine ks_ild (ad := ad) (ca := ca) (S := S_3) (k := 15) C hb hW.1 x1_a15 x1_t15 hu dX1_receive_78 ?_
    refine lv_aload_n hx hb dX1_receive_79 rfl (lv_at hl 0 rfl) ?_
    refine x1_get C hb hW.1 16 (by decide) q39 (fun _ h9 => h9) rfl dX1_receive_80 ?_
    refine lv_iload_n hx hb dX1_receive_83 rfl (lv_at hl 1 rfl) ?_
    refine ks_ild (ad := ad) (ca := ca) (S := S_3) (k := 16) C hb hW.1 x1_a16 x1_t16 hu dX1_receive_84 ?_
    refine ks_callI (C := RX1) (ci := 0) (As := [.int (S_3 13 u.toNatClampNeg), .int (S_3 14 u.toNatClampNeg), .int (S_3 15 u.toNatClampNeg), .int (S_3 16 u.toNatClampNeg)]) (rest := [.int u, .ref (ad 7)]) hx hb hml hown hts hK hA hW rfl x1_o rfl (fun sz => m1_serve l D h ad ca S_3 sz ((S_3 13 u.toNatClampNeg)) ((S_3 14 u.toNatClampNeg)) ((S_3 15 u.toNatClampNeg)) ((S_3 16 u.toNatClampNeg)) (by subst eS_3; subst eS_2; exact ⟨fun j => hok.1 j, fun j => hok.2.1 j, fun j => hok.2.2 j⟩) (by subst eS_3; subst eS_2; exact hok.2.1 _) (by subst eS_3; subst eS_2; exact hok.2.2 _)) (cwV 4 hts (lw_V q99 q101 qs3 q13 q102) rfl rfl rfl (by decide +kernel) ⟨(Nat.le_of_ble_eq_true rfl), (Nat.le_of_ble_eq_true rfl)⟩) rfl hl.1 rfl (Nat.le_of_ble_eq_true rfl) dX1_receive_85 ⟨Nat.zero_le _, Nat.zero_le _⟩ (fun H locs hW => ?_)
    refine ks_ist (ad := ad) (ca := ca) (S := (sv_serve S_3 ((S_3 13 u.toNatClampNeg)) ((S_3 14 u.toNatClampNeg)) ((S_3 15 u.toNatClampNeg)) ((S_3 16 u.toNatClampNeg))).2) (k := 7) (wf := w1_ h ad ca) C hb hW x1_a7 x1_t7 x1_s7 hu dX1_receive_88 (fun S_4 eS_4 H locs hW => ?_)
    refine lv_aload_n hx hb dX1_receive_89 rfl (lv_at hl 0 rfl) ?_
    refine x1_get C hb hW.1 7 (by decide) q30 (fun _ h9 => h9) rfl dX1_receive_90 ?_
    refine lv_iload_n hx hb dX1_receive_93 rfl (lv_at hl 1 rfl) ?_
    refine ks_ild (ad := ad) (ca := ca) (S := S_4) (k := 7) C hb hW.1 x1_a7 x1_t7 hu dX1_receive_94 ?_
    exact ks_iret hx hb hr hlocks hW dX1_receive_95 (by subst eS_4; subst eS_3; subst eS_2; unfold sv_receive; rw [if_pos c_1]; try rfl) (congrArg (w1_ h ad ca) (by subst eS_4; subst eS_3; subst eS_2; unfold sv_receive; rw [if_pos c_1]; try rfl))
  · refine lv_aload_n hx hb dX1_receive_15 rfl (lv_at hl 0 rfl) ?_
    refine x1_get C hb hW.1 6 (by decide) q29 (fun _ h9 => h9) rfl dX1_receive_16 ?_
    refine lv_iload_n hx hb dX1_receive_19 rfl (lv_at hl 1 rfl) ?_
    refine ks_zld (ad := ad) (ca := ca) (S := S) (k := 6) C hb hW.1 x1_a6 x1_t6 hu dX1_receive_20 ?_
    refine lv_if_eq (tgt := 33) hx hb dX1_receive_21 (by decide) (fun c_5 => ?_) (fun c_5 => ?_)
    · refine lv_bipush (v := (-6)) hx hb dX1_receive_33 (by decide) ?_
      exact ks_iret hx hb hr hlocks hW dX1_receive_35 (by unfold sv_receive; rw [if_neg c_1, if_pos c_5]; try rfl) (congrArg (w1_ h ad ca) (by unfold sv_receive; rw [if_neg c_1, if_pos c_5]; try rfl))
    · refine lv_aload_n hx hb dX1_receive_24 rfl (lv_at hl 0 rfl) ?_
      refine x1_get C hb hW.1 7 (by decide) q30 (fun _ h9 => h9) rfl dX1_receive_25 ?_
      refine lv_iload_n hx hb dX1_receive_28 rfl (lv_at hl 1 rfl) ?_
      refine ks_ild (ad := ad) (ca := ca) (S := S) (k := 7) C hb hW.1 x1_a7 x1_t7 hu dX1_receive_29 ?_
      refine lv_goto (tgt := 35) hx hb dX1_receive_30 (by decide) ?_
      exact ks_iret hx hb hr hlocks hW dX1_receive_35 (by unfold sv_receive; rw [if_neg c_1, if_neg c_5]; try rfl) (congrArg (w1_ h ad ca) (by unfold sv_receive; rw [if_neg c_1, if_neg c_5]; try rfl))
set_option maxHeartbeats 4000000 in
set_option maxRecDepth 100000 in
theorem m1_request (l : Launch) (D : va_G) (h : Nat) (ad : Nat → Nat) (ca : Nat → ClassId) (S : ks_St) (sz : Nat) (u op slot to_ arg : Int32) (hok : sv_ok S) (hu : vp_in u 2) (hs : vp_in (u * 8 + slot) 16) (ht : vp_in (u * 8 + to_) 16) : Met l yX1_request (ws_ yX1_request cX1_request 6 (some .int)) ({ frames := 5, cells := 0, slots := 0, locals := 114 }) (ks_P D (w1_ h ad ca S) (t1_ ca) sz [.ref h, .int u, .int op, .int slot, .int to_, .int arg]) (ks_Qi D (sv_request S u op slot to_ arg).1 (w1_ h ad ca (sv_request S u op slot to_ arg).2) (va_A (w1_ h ad ca S) sz)) 0 0 (va_A (w1_ h ad ca S) sz) := by
  refine ks_enter (Qc := ks_Qi D (sv_request S u op slot to_ arg).1 (w1_ h ad ca (sv_request S u op slot to_ arg).2)) RX1 (by decide) rfl (Nat.le_of_ble_eq_true rfl) ?_
  intro p e s m below meth c A ls hb hml hr hlocks hnm C hA hW hl
  obtain ⟨hx, hown, hts, hK⟩ := id C
  have hl : lv_has ls 6 [(0, .ref h), (1, .int u), (2, .int op), (3, .int slot), (4, .int to_), (5, .int arg)] := hl
  refine lv_aload_n hx hb dX1_request_0 rfl (lv_at hl 0 rfl) ?_
  refine x1_get C hb hW.1 12 (by decide) q35 (fun _ h9 => h9) rfl dX1_request_1 ?_
  refine lv_iload_n hx hb dX1_request_4 rfl (lv_at hl 1 rfl) ?_
  refine lv_dup2_11 hx hb dX1_request_5 rfl rfl ?_
  refine ks_ild (ad := ad) (ca := ca) (S := S) (k := 12) C hb hW.1 x1_a12 x1_t12 hu dX1_request_6 ?_
  refine lv_iconst (v := 1) hx hb dX1_request_7 (by decide) ?_
  refine lv_iadd hx hb dX1_request_8 ?_
  refine ks_ist (ad := ad) (ca := ca) (S := S) (k := 12) (wf := w1_ h ad ca) C hb hW x1_a12 x1_t12 x1_s12 hu dX1_request_9 (fun S_1 eS_1 H locs hW => ?_)
  refine lv_aload_n hx hb dX1_request_10 rfl (lv_at hl 0 rfl) ?_
  refine x1_get C hb hW.1 13 (by decide) q36 (fun _ h9 => h9) rfl dX1_request_11 ?_
  refine lv_iload_n hx hb dX1_request_14 rfl (lv_at hl 1 rfl) ?_
  refine lv_iload_n hx hb dX1_request_15 rfl (lv_at hl 2 rfl) ?_
  refine ks_ist (ad := ad) (ca := ca) (S := S_1) (k := 13) (wf := w1_ h ad ca) C hb hW x1_a13 x1_t13 x1_s13 hu dX1_request_16 (fun S_2 eS_2 H locs hW => ?_)
  refine lv_aload_n hx hb dX1_request_17 rfl (lv_at hl 0 rfl) ?_
  refine x1_get C hb hW.1 14 (by decide) q37 (fun _ h9 => h9) rfl dX1_request_18 ?_
  refine lv_iload_n hx hb dX1_request_21 rfl (lv_at hl 1 rfl) ?_
  refine lv_iload_n hx hb dX1_request_22 rfl (lv_at hl 1 rfl) ?_
  refine lv_bipush (v := 8) hx hb dX1_request_23 (by decide) ?_
  refine lv_imul hx hb dX1_request_25 ?_
  refine lv_iload_n hx hb dX1_request_26 rfl (lv_at hl 3 rfl) ?_
  refine lv_iadd hx hb dX1_request_27 ?_
  refine ks_ist (ad := ad) (ca := ca) (S := S_2) (k := 14) (wf := w1_ h ad ca) C hb hW x1_a14 x1_t14 x1_s14 hu dX1_request_28 (fun S_3 eS_3 H locs hW => ?_)
  refine lv_aload_n hx hb dX1_request_29 rfl (lv_at hl 0 rfl) ?_
  refine x1_get C hb hW.1 15 (by decide) q38 (fun _ h9 => h9) rfl dX1_request_30 ?_
  refine lv_iload_n hx hb dX1_request_33 rfl (lv_at hl 1 rfl) ?_
  refine lv_iload_n hx hb dX1_request_34 rfl (lv_at hl 1 rfl) ?_
  refine lv_bipush (v := 8) hx hb dX1_request_35 (by decide) ?_
  refine lv_imul hx hb dX1_request_37 ?_
  refine lv_iload hx hb dX1_request_38 (lv_at hl 4 rfl) ?_
  refine lv_iadd hx hb dX1_request_40 ?_
  refine ks_ist (ad := ad) (ca := ca) (S := S_3) (k := 15) (wf := w1_ h ad ca) C hb hW x1_a15 x1_t15 x1_s15 hu dX1_request_41 (fun S_4 eS_4 H locs hW => ?_)
  refine lv_aload_n hx hb dX1_request_42 rfl (lv_at hl 0 rfl) ?_
  refine x1_get C hb hW.1 16 (by decide) q39 (fun _ h9 => h9) rfl dX1_request_43 ?_
  refine lv_iload_n hx hb dX1_request_46 rfl (lv_at hl 1 rfl) ?_
  refine lv_iload hx hb dX1_request_47 (lv_at hl 5 rfl) ?_
  refine ks_ist (ad := ad) (ca := ca) (S := S_4) (k := 16) (wf := w1_ h ad ca) C hb hW x1_a16 x1_t16 x1_s16 hu dX1_request_49 (fun S_5 eS_5 H locs hW => ?_)
  refine lv_aload_n hx hb dX1_request_50 rfl (lv_at hl 0 rfl) ?_
  refine lv_iload_n hx hb dX1_request_51 rfl (lv_at hl 1 rfl) ?_
  refine ks_callI (C := RX1) (ci := 0) (As := [.int u]) (rest := []) hx hb hml hown hts hK hA hW rfl x1_o rfl (fun sz => m1_receive l D h ad ca S_5 sz u (by subst eS_5; subst eS_4; subst eS_3; subst eS_2; subst eS_1; exact sv_ok_sent hok hs ht) hu) (cwV 1 hts (lw_V q95 q97 qs2 q13 q98) rfl rfl rfl (by decide +kernel) ⟨(Nat.le_of_ble_eq_true rfl), (Nat.le_of_ble_eq_true rfl)⟩) rfl hl.1 rfl (Nat.le_of_ble_eq_true rfl) dX1_request_52 ⟨Nat.zero_le _, Nat.zero_le _⟩ (fun H locs hW => ?_)
  exact ks_iret hx hb hr hlocks hW dX1_request_55 (by subst eS_5; subst eS_4; subst eS_3; subst eS_2; subst eS_1; unfold sv_request; try rfl) (congrArg (w1_ h ad ca) (by subst eS_5; subst eS_4; subst eS_3; subst eS_2; subst eS_1; unfold sv_request; try rfl))
set_option maxHeartbeats 4000000 in
set_option maxRecDepth 100000 in
theorem m1_slotRequest (l : Launch) (D : va_G) (h : Nat) (ad : Nat → Nat) (ca : Nat → ClassId) (S : ks_St) (sz : Nat) (u slot op arg : Int32) (hok : sv_ok S) : Met l yX1_slotRequest (ws_ yX1_slotRequest cX1_slotRequest 5 (some .int)) ({ frames := 6, cells := 0, slots := 0, locals := 139 }) (ks_P D (w1_ h ad ca S) (t1_ ca) sz [.ref h, .int u, .int slot, .int op, .int arg]) (ks_Qi D (sv_slotReq S u slot op arg).1 (w1_ h ad ca (sv_slotReq S u slot op arg).2) (va_A (w1_ h ad ca S) sz)) 0 0 (va_A (w1_ h ad ca S) sz) := by
  refine ks_enter (Qc := ks_Qi D (sv_slotReq S u slot op arg).1 (w1_ h ad ca (sv_slotReq S u slot op arg).2)) RX1 (by decide) rfl (Nat.le_of_ble_eq_true rfl) ?_
  intro p e s m below meth c A ls hb hml hr hlocks hnm C hA hW hl
  obtain ⟨hx, hown, hts, hK⟩ := id C
  have hl : lv_has ls 5 [(0, .ref h), (1, .int u), (2, .int slot), (3, .int op), (4, .int arg)] := hl
  refine lv_iload_n hx hb dX1_slotRequest_0 rfl (lv_at hl 1 rfl) ?_
  refine ks_callN (As := [.int u]) (rest := []) hx hb hml hown hts (m1_badUser l u) (va_cwS 1 hts (lw_S q85 q86 q13 q87) rfl rfl rfl (by decide +kernel) ⟨(Nat.le_of_ble_eq_true rfl), (Nat.le_of_ble_eq_true rfl)⟩) rfl hl.1 rfl (Nat.le_of_ble_eq_true rfl) dX1_slotRequest_1 ⟨Nat.zero_le _, Nat.zero_le _⟩ ?_
  refine lv_if_eq (tgt := 9) hx hb dX1_slotRequest_4 (by decide) (fun c_1 => ?_) (fun c_1 => ?_)
  · refine lv_iload_n hx hb dX1_slotRequest_9 rfl (lv_at hl 2 rfl) ?_
    refine ks_callN (As := [.int slot]) (rest := []) hx hb hml hown hts (m1_badSlot l slot) (va_cwS 1 hts (lw_S q88 q89 q13 q90) rfl rfl rfl (by decide +kernel) ⟨(Nat.le_of_ble_eq_true rfl), (Nat.le_of_ble_eq_true rfl)⟩) rfl hl.1 rfl (Nat.le_of_ble_eq_true rfl) dX1_slotRequest_10 ⟨Nat.zero_le _, Nat.zero_le _⟩ ?_
    refine lv_if_eq (tgt := 19) hx hb dX1_slotRequest_13 (by decide) (fun c_2 => ?_) (fun c_2 => ?_)
    · refine lv_aload_n hx hb dX1_slotRequest_19 rfl (lv_at hl 0 rfl) ?_
      refine lv_iload_n hx hb dX1_slotRequest_20 rfl (lv_at hl 1 rfl) ?_
      refine lv_iload_n hx hb dX1_slotRequest_21 rfl (lv_at hl 3 rfl) ?_
      refine lv_iload_n hx hb dX1_slotRequest_22 rfl (lv_at hl 2 rfl) ?_
      refine lv_iload_n hx hb dX1_slotRequest_23 rfl (lv_at hl 2 rfl) ?_
      refine lv_iload hx hb dX1_slotRequest_24 (lv_at hl 4 rfl) ?_
      refine ks_callI (C := RX1) (ci := 0) (As := [.int u, .int op, .int slot, .int slot, .int arg]) (rest := []) hx hb hml hown hts hK hA hW rfl x1_o rfl (fun sz => m1_request l D h ad ca S sz u op slot slot arg hok (ks_user c_1) (ks_at (ks_user c_1) (ks_slot c_2)) (ks_at (ks_user c_1) (ks_slot c_2))) (cwV 5 hts (lw_V q91 q93 qs1 q13 q94) rfl rfl rfl (by decide +kernel) ⟨(Nat.le_of_ble_eq_true rfl), (Nat.le_of_ble_eq_true rfl)⟩) rfl hl.1 rfl (Nat.le_of_ble_eq_true rfl) dX1_slotRequest_26 ⟨Nat.zero_le _, Nat.zero_le _⟩ (fun H locs hW => ?_)
      exact ks_iret hx hb hr hlocks hW dX1_slotRequest_29 (by unfold sv_slotReq; rw [if_pos c_1, if_pos c_2]; try rfl) (congrArg (w1_ h ad ca) (by unfold sv_slotReq; rw [if_pos c_1, if_pos c_2]; try rfl))
    · refine lv_bipush (v := (-2)) hx hb dX1_slotRequest_16 (by decide) ?_
      exact ks_iret hx hb hr hlocks hW dX1_slotRequest_18 (by unfold sv_slotReq; rw [if_pos c_1, if_neg c_2]; try rfl) (congrArg (w1_ h ad ca) (by unfold sv_slotReq; rw [if_pos c_1, if_neg c_2]; try rfl))
  · refine lv_iconst (v := (-1)) hx hb dX1_slotRequest_7 (by decide) ?_
    exact ks_iret hx hb hr hlocks hW dX1_slotRequest_8 (by unfold sv_slotReq; rw [if_neg c_1]; try rfl) (congrArg (w1_ h ad ca) (by unfold sv_slotReq; rw [if_neg c_1]; try rfl))
set_option maxHeartbeats 4000000 in
set_option maxRecDepth 100000 in
theorem m1_create (l : Launch) (D : va_G) (h : Nat) (ad : Nat → Nat) (ca : Nat → ClassId) (S : ks_St) (sz : Nat) (u slot : Int32) (hok : sv_ok S) : Met l yX1_create (ws_ yX1_create cX1_create 3 (some .int)) ({ frames := 7, cells := 0, slots := 0, locals := 163 }) (ks_P D (w1_ h ad ca S) (t1_ ca) sz [.ref h, .int u, .int slot]) (ks_Qi D (sv_create S u slot).1 (w1_ h ad ca (sv_create S u slot).2) (va_A (w1_ h ad ca S) sz)) 0 0 (va_A (w1_ h ad ca S) sz) := by
  refine ks_enter (Qc := ks_Qi D (sv_create S u slot).1 (w1_ h ad ca (sv_create S u slot).2)) RX1 (by decide) rfl (Nat.le_of_ble_eq_true rfl) ?_
  intro p e s m below meth c A ls hb hml hr hlocks hnm C hA hW hl
  obtain ⟨hx, hown, hts, hK⟩ := id C
  have hl : lv_has ls 3 [(0, .ref h), (1, .int u), (2, .int slot)] := hl
  refine lv_aload_n hx hb dX1_create_0 rfl (lv_at hl 0 rfl) ?_
  refine lv_iload_n hx hb dX1_create_1 rfl (lv_at hl 1 rfl) ?_
  refine lv_iload_n hx hb dX1_create_2 rfl (lv_at hl 2 rfl) ?_
  refine lv_iconst (v := 0) hx hb dX1_create_3 (by decide) ?_
  refine lv_iconst (v := 0) hx hb dX1_create_4 (by decide) ?_
  refine ks_callI (C := RX1) (ci := 0) (As := [.int u, .int slot, .int 0, .int 0]) (rest := []) hx hb hml hown hts hK hA hW rfl x1_o rfl (fun sz => m1_slotRequest l D h ad ca S sz u slot 0 0 hok) (cwV 4 hts (lw_V q81 q83 qs0 q13 q84) rfl rfl rfl (by decide +kernel) ⟨(Nat.le_of_ble_eq_true rfl), (Nat.le_of_ble_eq_true rfl)⟩) rfl hl.1 rfl (Nat.le_of_ble_eq_true rfl) dX1_create_5 ⟨Nat.zero_le _, Nat.zero_le _⟩ (fun H locs hW => ?_)
  exact ks_iret hx hb hr hlocks hW dX1_create_8 (by unfold sv_create; try rfl) (congrArg (w1_ h ad ca) (by unfold sv_create; try rfl))
set_option maxHeartbeats 4000000 in
set_option maxRecDepth 100000 in
theorem m1_read (l : Launch) (D : va_G) (h : Nat) (ad : Nat → Nat) (ca : Nat → ClassId) (S : ks_St) (sz : Nat) (u slot : Int32) (hok : sv_ok S) : Met l yX1_read (ws_ yX1_read cX1_read 3 (some .int)) ({ frames := 7, cells := 0, slots := 0, locals := 163 }) (ks_P D (w1_ h ad ca S) (t1_ ca) sz [.ref h, .int u, .int slot]) (ks_Qi D (sv_read S u slot).1 (w1_ h ad ca (sv_read S u slot).2) (va_A (w1_ h ad ca S) sz)) 0 0 (va_A (w1_ h ad ca S) sz) := by
  refine ks_enter (Qc := ks_Qi D (sv_read S u slot).1 (w1_ h ad ca (sv_read S u slot).2)) RX1 (by decide) rfl (Nat.le_of_ble_eq_true rfl) ?_
  intro p e s m below meth c A ls hb hml hr hlocks hnm C hA hW hl
  obtain ⟨hx, hown, hts, hK⟩ := id C
  have hl : lv_has ls 3 [(0, .ref h), (1, .int u), (2, .int slot)] := hl
  refine lv_aload_n hx hb dX1_read_0 rfl (lv_at hl 0 rfl) ?_
  refine lv_iload_n hx hb dX1_read_1 rfl (lv_at hl 1 rfl) ?_
  refine lv_iload_n hx hb dX1_read_2 rfl (lv_at hl 2 rfl) ?_
  refine lv_iconst (v := 1) hx hb dX1_read_3 (by decide) ?_
  refine lv_iconst (v := 0) hx hb dX1_read_4 (by decide) ?_
  refine ks_callI (C := RX1) (ci := 0) (As := [.int u, .int slot, .int 1, .int 0]) (rest := []) hx hb hml hown hts hK hA hW rfl x1_o rfl (fun sz => m1_slotRequest l D h ad ca S sz u slot 1 0 hok) (cwV 4 hts (lw_V q81 q83 qs0 q13 q84) rfl rfl rfl (by decide +kernel) ⟨(Nat.le_of_ble_eq_true rfl), (Nat.le_of_ble_eq_true rfl)⟩) rfl hl.1 rfl (Nat.le_of_ble_eq_true rfl) dX1_read_5 ⟨Nat.zero_le _, Nat.zero_le _⟩ (fun H locs hW => ?_)
  exact ks_iret hx hb hr hlocks hW dX1_read_8 (by unfold sv_read; try rfl) (congrArg (w1_ h ad ca) (by unfold sv_read; try rfl))
set_option maxHeartbeats 4000000 in
set_option maxRecDepth 100000 in
theorem m1_add (l : Launch) (D : va_G) (h : Nat) (ad : Nat → Nat) (ca : Nat → ClassId) (S : ks_St) (sz : Nat) (u slot more : Int32) (hok : sv_ok S) : Met l yX1_add (ws_ yX1_add cX1_add 4 (some .int)) ({ frames := 7, cells := 0, slots := 0, locals := 163 }) (ks_P D (w1_ h ad ca S) (t1_ ca) sz [.ref h, .int u, .int slot, .int more]) (ks_Qi D (sv_add S u slot more).1 (w1_ h ad ca (sv_add S u slot more).2) (va_A (w1_ h ad ca S) sz)) 0 0 (va_A (w1_ h ad ca S) sz) := by
  refine ks_enter (Qc := ks_Qi D (sv_add S u slot more).1 (w1_ h ad ca (sv_add S u slot more).2)) RX1 (by decide) rfl (Nat.le_of_ble_eq_true rfl) ?_
  intro p e s m below meth c A ls hb hml hr hlocks hnm C hA hW hl
  obtain ⟨hx, hown, hts, hK⟩ := id C
  have hl : lv_has ls 4 [(0, .ref h), (1, .int u), (2, .int slot), (3, .int more)] := hl
  refine lv_aload_n hx hb dX1_add_0 rfl (lv_at hl 0 rfl) ?_
  refine lv_iload_n hx hb dX1_add_1 rfl (lv_at hl 1 rfl) ?_
  refine lv_iload_n hx hb dX1_add_2 rfl (lv_at hl 2 rfl) ?_
  refine lv_iconst (v := 2) hx hb dX1_add_3 (by decide) ?_
  refine lv_iload_n hx hb dX1_add_4 rfl (lv_at hl 3 rfl) ?_
  refine ks_callI (C := RX1) (ci := 0) (As := [.int u, .int slot, .int 2, .int more]) (rest := []) hx hb hml hown hts hK hA hW rfl x1_o rfl (fun sz => m1_slotRequest l D h ad ca S sz u slot 2 more hok) (cwV 4 hts (lw_V q81 q83 qs0 q13 q84) rfl rfl rfl (by decide +kernel) ⟨(Nat.le_of_ble_eq_true rfl), (Nat.le_of_ble_eq_true rfl)⟩) rfl hl.1 rfl (Nat.le_of_ble_eq_true rfl) dX1_add_5 ⟨Nat.zero_le _, Nat.zero_le _⟩ (fun H locs hW => ?_)
  exact ks_iret hx hb hr hlocks hW dX1_add_8 (by unfold sv_add; try rfl) (congrArg (w1_ h ad ca) (by unfold sv_add; try rfl))
set_option maxHeartbeats 4000000 in
set_option maxRecDepth 100000 in
theorem m1_destroy (l : Launch) (D : va_G) (h : Nat) (ad : Nat → Nat) (ca : Nat → ClassId) (S : ks_St) (sz : Nat) (u slot : Int32) (hok : sv_ok S) : Met l yX1_destroy (ws_ yX1_destroy cX1_destroy 3 (some .int)) ({ frames := 7, cells := 0, slots := 0, locals := 163 }) (ks_P D (w1_ h ad ca S) (t1_ ca) sz [.ref h, .int u, .int slot]) (ks_Qi D (sv_destroy S u slot).1 (w1_ h ad ca (sv_destroy S u slot).2) (va_A (w1_ h ad ca S) sz)) 0 0 (va_A (w1_ h ad ca S) sz) := by
  refine ks_enter (Qc := ks_Qi D (sv_destroy S u slot).1 (w1_ h ad ca (sv_destroy S u slot).2)) RX1 (by decide) rfl (Nat.le_of_ble_eq_true rfl) ?_
  intro p e s m below meth c A ls hb hml hr hlocks hnm C hA hW hl
  obtain ⟨hx, hown, hts, hK⟩ := id C
  have hl : lv_has ls 3 [(0, .ref h), (1, .int u), (2, .int slot)] := hl
  refine lv_aload_n hx hb dX1_destroy_0 rfl (lv_at hl 0 rfl) ?_
  refine lv_iload_n hx hb dX1_destroy_1 rfl (lv_at hl 1 rfl) ?_
  refine lv_iload_n hx hb dX1_destroy_2 rfl (lv_at hl 2 rfl) ?_
  refine lv_iconst (v := 3) hx hb dX1_destroy_3 (by decide) ?_
  refine lv_iconst (v := 0) hx hb dX1_destroy_4 (by decide) ?_
  refine ks_callI (C := RX1) (ci := 0) (As := [.int u, .int slot, .int 3, .int 0]) (rest := []) hx hb hml hown hts hK hA hW rfl x1_o rfl (fun sz => m1_slotRequest l D h ad ca S sz u slot 3 0 hok) (cwV 4 hts (lw_V q81 q83 qs0 q13 q84) rfl rfl rfl (by decide +kernel) ⟨(Nat.le_of_ble_eq_true rfl), (Nat.le_of_ble_eq_true rfl)⟩) rfl hl.1 rfl (Nat.le_of_ble_eq_true rfl) dX1_destroy_5 ⟨Nat.zero_le _, Nat.zero_le _⟩ (fun H locs hW => ?_)
  exact ks_iret hx hb hr hlocks hW dX1_destroy_8 (by unfold sv_destroy; try rfl) (congrArg (w1_ h ad ca) (by unfold sv_destroy; try rfl))
set_option maxHeartbeats 4000000 in
set_option maxRecDepth 100000 in
theorem m1_revoke (l : Launch) (D : va_G) (h : Nat) (ad : Nat → Nat) (ca : Nat → ClassId) (S : ks_St) (sz : Nat) (u slot : Int32) (hok : sv_ok S) : Met l yX1_revoke (ws_ yX1_revoke cX1_revoke 3 (some .int)) ({ frames := 7, cells := 0, slots := 0, locals := 163 }) (ks_P D (w1_ h ad ca S) (t1_ ca) sz [.ref h, .int u, .int slot]) (ks_Qi D (sv_revoke S u slot).1 (w1_ h ad ca (sv_revoke S u slot).2) (va_A (w1_ h ad ca S) sz)) 0 0 (va_A (w1_ h ad ca S) sz) := by
  refine ks_enter (Qc := ks_Qi D (sv_revoke S u slot).1 (w1_ h ad ca (sv_revoke S u slot).2)) RX1 (by decide) rfl (Nat.le_of_ble_eq_true rfl) ?_
  intro p e s m below meth c A ls hb hml hr hlocks hnm C hA hW hl
  obtain ⟨hx, hown, hts, hK⟩ := id C
  have hl : lv_has ls 3 [(0, .ref h), (1, .int u), (2, .int slot)] := hl
  refine lv_aload_n hx hb dX1_revoke_0 rfl (lv_at hl 0 rfl) ?_
  refine lv_iload_n hx hb dX1_revoke_1 rfl (lv_at hl 1 rfl) ?_
  refine lv_iload_n hx hb dX1_revoke_2 rfl (lv_at hl 2 rfl) ?_
  refine lv_iconst (v := 4) hx hb dX1_revoke_3 (by decide) ?_
  refine lv_iconst (v := 0) hx hb dX1_revoke_4 (by decide) ?_
  refine ks_callI (C := RX1) (ci := 0) (As := [.int u, .int slot, .int 4, .int 0]) (rest := []) hx hb hml hown hts hK hA hW rfl x1_o rfl (fun sz => m1_slotRequest l D h ad ca S sz u slot 4 0 hok) (cwV 4 hts (lw_V q81 q83 qs0 q13 q84) rfl rfl rfl (by decide +kernel) ⟨(Nat.le_of_ble_eq_true rfl), (Nat.le_of_ble_eq_true rfl)⟩) rfl hl.1 rfl (Nat.le_of_ble_eq_true rfl) dX1_revoke_5 ⟨Nat.zero_le _, Nat.zero_le _⟩ (fun H locs hW => ?_)
  exact ks_iret hx hb hr hlocks hW dX1_revoke_8 (by unfold sv_revoke; try rfl) (congrArg (w1_ h ad ca) (by unfold sv_revoke; try rfl))
set_option maxHeartbeats 4000000 in
set_option maxRecDepth 100000 in
theorem m1_restrict (l : Launch) (D : va_G) (h : Nat) (ad : Nat → Nat) (ca : Nat → ClassId) (S : ks_St) (sz : Nat) (u from_ to_ r : Int32) (hok : sv_ok S) : Met l yX1_restrict (ws_ yX1_restrict cX1_restrict 5 (some .int)) ({ frames := 6, cells := 0, slots := 0, locals := 139 }) (ks_P D (w1_ h ad ca S) (t1_ ca) sz [.ref h, .int u, .int from_, .int to_, .int r]) (ks_Qi D (sv_restrict S u from_ to_ r).1 (w1_ h ad ca (sv_restrict S u from_ to_ r).2) (va_A (w1_ h ad ca S) sz)) 0 0 (va_A (w1_ h ad ca S) sz) := by
  refine ks_enter (Qc := ks_Qi D (sv_restrict S u from_ to_ r).1 (w1_ h ad ca (sv_restrict S u from_ to_ r).2)) RX1 (by decide) rfl (Nat.le_of_ble_eq_true rfl) ?_
  intro p e s m below meth c A ls hb hml hr hlocks hnm C hA hW hl
  obtain ⟨hx, hown, hts, hK⟩ := id C
  have hl : lv_has ls 5 [(0, .ref h), (1, .int u), (2, .int from_), (3, .int to_), (4, .int r)] := hl
  refine lv_iload_n hx hb dX1_restrict_0 rfl (lv_at hl 1 rfl) ?_
  refine ks_callN (As := [.int u]) (rest := []) hx hb hml hown hts (m1_badUser l u) (va_cwS 1 hts (lw_S q85 q86 q13 q87) rfl rfl rfl (by decide +kernel) ⟨(Nat.le_of_ble_eq_true rfl), (Nat.le_of_ble_eq_true rfl)⟩) rfl hl.1 rfl (Nat.le_of_ble_eq_true rfl) dX1_restrict_1 ⟨Nat.zero_le _, Nat.zero_le _⟩ ?_
  refine lv_if_eq (tgt := 9) hx hb dX1_restrict_4 (by decide) (fun c_1 => ?_) (fun c_1 => ?_)
  · refine lv_iload_n hx hb dX1_restrict_9 rfl (lv_at hl 2 rfl) ?_
    refine ks_callN (As := [.int from_]) (rest := []) hx hb hml hown hts (m1_badSlot l from_) (va_cwS 1 hts (lw_S q88 q89 q13 q90) rfl rfl rfl (by decide +kernel) ⟨(Nat.le_of_ble_eq_true rfl), (Nat.le_of_ble_eq_true rfl)⟩) rfl hl.1 rfl (Nat.le_of_ble_eq_true rfl) dX1_restrict_10 ⟨Nat.zero_le _, Nat.zero_le _⟩ ?_
    refine lv_if_ne (tgt := 23) hx hb dX1_restrict_13 (by decide) (fun c_2 => ?_) (fun c_2 => ?_)
    · refine lv_bipush (v := (-2)) hx hb dX1_restrict_23 (by decide) ?_
      exact ks_iret hx hb hr hlocks hW dX1_restrict_25 (by unfold sv_restrict; rw [if_pos c_1, if_neg c_2]; try rfl) (congrArg (w1_ h ad ca) (by unfold sv_restrict; rw [if_pos c_1, if_neg c_2]; try rfl))
    · refine lv_iload_n hx hb dX1_restrict_16 rfl (lv_at hl 3 rfl) ?_
      refine ks_callN (As := [.int to_]) (rest := []) hx hb hml hown hts (m1_badSlot l to_) (va_cwS 1 hts (lw_S q88 q89 q13 q90) rfl rfl rfl (by decide +kernel) ⟨(Nat.le_of_ble_eq_true rfl), (Nat.le_of_ble_eq_true rfl)⟩) rfl hl.1 rfl (Nat.le_of_ble_eq_true rfl) dX1_restrict_17 ⟨Nat.zero_le _, Nat.zero_le _⟩ ?_
      refine lv_if_eq (tgt := 26) hx hb dX1_restrict_20 (by decide) (fun c_3 => ?_) (fun c_3 => ?_)
      · refine lv_iload hx hb dX1_restrict_26 (lv_at hl 4 rfl) ?_
        refine lv_if_lt (tgt := 38) hx hb dX1_restrict_28 (by decide) (fun c_4 => ?_) (fun c_4 => ?_)
        · refine lv_bipush (v := (-5)) hx hb dX1_restrict_38 (by decide) ?_
          exact ks_iret hx hb hr hlocks hW dX1_restrict_40 (by unfold sv_restrict; rw [if_pos c_1, if_pos c_2, if_pos c_3, if_pos c_4]; try rfl) (congrArg (w1_ h ad ca) (by unfold sv_restrict; rw [if_pos c_1, if_pos c_2, if_pos c_3, if_pos c_4]; try rfl))
        · refine lv_iload hx hb dX1_restrict_31 (lv_at hl 4 rfl) ?_
          refine lv_bipush (v := 15) hx hb dX1_restrict_33 (by decide) ?_
          refine lv_icmp_le (tgt := 41) hx hb dX1_restrict_35 (by decide) (fun c_5 => ?_) (fun c_5 => ?_)
          · refine lv_aload_n hx hb dX1_restrict_41 rfl (lv_at hl 0 rfl) ?_
            refine lv_iload_n hx hb dX1_restrict_42 rfl (lv_at hl 1 rfl) ?_
            refine lv_iconst (v := 5) hx hb dX1_restrict_43 (by decide) ?_
            refine lv_iload_n hx hb dX1_restrict_44 rfl (lv_at hl 2 rfl) ?_
            refine lv_iload_n hx hb dX1_restrict_45 rfl (lv_at hl 3 rfl) ?_
            refine lv_iload hx hb dX1_restrict_46 (lv_at hl 4 rfl) ?_
            refine ks_callI (C := RX1) (ci := 0) (As := [.int u, .int 5, .int from_, .int to_, .int r]) (rest := []) hx hb hml hown hts hK hA hW rfl x1_o rfl (fun sz => m1_request l D h ad ca S sz u 5 from_ to_ r hok (ks_user c_1) (ks_at (ks_user c_1) (ks_slot c_2)) (ks_at (ks_user c_1) (ks_slot c_3))) (cwV 5 hts (lw_V q91 q93 qs1 q13 q94) rfl rfl rfl (by decide +kernel) ⟨(Nat.le_of_ble_eq_true rfl), (Nat.le_of_ble_eq_true rfl)⟩) rfl hl.1 rfl (Nat.le_of_ble_eq_true rfl) dX1_restrict_48 ⟨Nat.zero_le _, Nat.zero_le _⟩ (fun H locs hW => ?_)
            exact ks_iret hx hb hr hlocks hW dX1_restrict_51 (by unfold sv_restrict; rw [if_pos c_1, if_pos c_2, if_pos c_3, if_neg c_4, if_pos c_5]; try rfl) (congrArg (w1_ h ad ca) (by unfold sv_restrict; rw [if_pos c_1, if_pos c_2, if_pos c_3, if_neg c_4, if_pos c_5]; try rfl))
          · refine lv_bipush (v := (-5)) hx hb dX1_restrict_38 (by decide) ?_
            exact ks_iret hx hb hr hlocks hW dX1_restrict_40 (by unfold sv_restrict; rw [if_pos c_1, if_pos c_2, if_pos c_3, if_neg c_4, if_neg c_5]; try rfl) (congrArg (w1_ h ad ca) (by unfold sv_restrict; rw [if_pos c_1, if_pos c_2, if_pos c_3, if_neg c_4, if_neg c_5]; try rfl))
      · refine lv_bipush (v := (-2)) hx hb dX1_restrict_23 (by decide) ?_
        exact ks_iret hx hb hr hlocks hW dX1_restrict_25 (by unfold sv_restrict; rw [if_pos c_1, if_pos c_2, if_neg c_3]; try rfl) (congrArg (w1_ h ad ca) (by unfold sv_restrict; rw [if_pos c_1, if_pos c_2, if_neg c_3]; try rfl))
  · refine lv_iconst (v := (-1)) hx hb dX1_restrict_7 (by decide) ?_
    exact ks_iret hx hb hr hlocks hW dX1_restrict_8 (by unfold sv_restrict; rw [if_neg c_1]; try rfl) (congrArg (w1_ h ad ca) (by unfold sv_restrict; rw [if_neg c_1]; try rfl))
set_option maxHeartbeats 4000000 in
set_option maxRecDepth 100000 in
theorem m1_again (l : Launch) (D : va_G) (h : Nat) (ad : Nat → Nat) (ca : Nat → ClassId) (S : ks_St) (sz : Nat) (u : Int32) (hok : sv_ok S) : Met l yX1_again (ws_ yX1_again cX1_again 2 (some .int)) ({ frames := 5, cells := 0, slots := 0, locals := 114 }) (ks_P D (w1_ h ad ca S) (t1_ ca) sz [.ref h, .int u]) (ks_Qi D (sv_again S u).1 (w1_ h ad ca (sv_again S u).2) (va_A (w1_ h ad ca S) sz)) 0 0 (va_A (w1_ h ad ca S) sz) := by
  refine ks_enter (Qc := ks_Qi D (sv_again S u).1 (w1_ h ad ca (sv_again S u).2)) RX1 (by decide) rfl (Nat.le_of_ble_eq_true rfl) ?_
  intro p e s m below meth c A ls hb hml hr hlocks hnm C hA hW hl
  obtain ⟨hx, hown, hts, hK⟩ := id C
  have hl : lv_has ls 2 [(0, .ref h), (1, .int u)] := hl
  refine lv_iload_n hx hb dX1_again_0 rfl (lv_at hl 1 rfl) ?_
  refine ks_callN (As := [.int u]) (rest := []) hx hb hml hown hts (m1_badUser l u) (va_cwS 1 hts (lw_S q85 q86 q13 q87) rfl rfl rfl (by decide +kernel) ⟨(Nat.le_of_ble_eq_true rfl), (Nat.le_of_ble_eq_true rfl)⟩) rfl hl.1 rfl (Nat.le_of_ble_eq_true rfl) dX1_again_1 ⟨Nat.zero_le _, Nat.zero_le _⟩ ?_
  refine lv_if_eq (tgt := 9) hx hb dX1_again_4 (by decide) (fun c_1 => ?_) (fun c_1 => ?_)
  · refine lv_aload_n hx hb dX1_again_9 rfl (lv_at hl 0 rfl) ?_
    refine x1_get C hb hW.1 12 (by decide) q35 (fun _ h9 => h9) rfl dX1_again_10 ?_
    refine lv_iload_n hx hb dX1_again_13 rfl (lv_at hl 1 rfl) ?_
    refine ks_ild (ad := ad) (ca := ca) (S := S) (k := 12) C hb hW.1 x1_a12 x1_t12 (ks_user c_1) dX1_again_14 ?_
    refine lv_if_ne (tgt := 21) hx hb dX1_again_15 (by decide) (fun c_2 => ?_) (fun c_2 => ?_)
    · refine lv_aload_n hx hb dX1_again_21 rfl (lv_at hl 0 rfl) ?_
      refine lv_iload_n hx hb dX1_again_22 rfl (lv_at hl 1 rfl) ?_
      refine ks_callI (C := RX1) (ci := 0) (As := [.int u]) (rest := []) hx hb hml hown hts hK hA hW rfl x1_o rfl (fun sz => m1_receive l D h ad ca S sz u hok (ks_user c_1)) (cwV 1 hts (lw_V q95 q97 qs2 q13 q98) rfl rfl rfl (by decide +kernel) ⟨(Nat.le_of_ble_eq_true rfl), (Nat.le_of_ble_eq_true rfl)⟩) rfl hl.1 rfl (Nat.le_of_ble_eq_true rfl) dX1_again_23 ⟨Nat.zero_le _, Nat.zero_le _⟩ (fun H locs hW => ?_)
      exact ks_iret hx hb hr hlocks hW dX1_again_26 (by unfold sv_again; rw [if_pos c_1, if_neg c_2]; try rfl) (congrArg (w1_ h ad ca) (by unfold sv_again; rw [if_pos c_1, if_neg c_2]; try rfl))
    · refine lv_bipush (v := (-6)) hx hb dX1_again_18 (by decide) ?_
      exact ks_iret hx hb hr hlocks hW dX1_again_20 (by unfold sv_again; rw [if_pos c_1, if_pos c_2]; try rfl) (congrArg (w1_ h ad ca) (by unfold sv_again; rw [if_pos c_1, if_pos c_2]; try rfl))
  · refine lv_iconst (v := (-1)) hx hb dX1_again_7 (by decide) ?_
    exact ks_iret hx hb hr hlocks hW dX1_again_8 (by unfold sv_again; rw [if_neg c_1]; try rfl) (congrArg (w1_ h ad ca) (by unfold sv_again; rw [if_neg c_1]; try rfl))
set_option maxHeartbeats 4000000 in
set_option maxRecDepth 100000 in
theorem m1_copy (l : Launch) (D : va_G) (h : Nat) (ad : Nat → Nat) (ca : Nat → ClassId) (S : ks_St) (sz : Nat) (u from_ to_ : Int32) : Met l yX1_copy (ws_ yX1_copy cX1_copy 6 (some .int)) ({ frames := 1, cells := 0, slots := 0, locals := 20 }) (ks_P D (w1_ h ad ca S) (t1_ ca) sz [.ref h, .int u, .int from_, .int to_]) (ks_Qi D (sv_copy S u from_ to_).1 (w1_ h ad ca (sv_copy S u from_ to_).2) (va_A (w1_ h ad ca S) sz)) 0 0 (va_A (w1_ h ad ca S) sz) := by
  refine ks_enter (Qc := ks_Qi D (sv_copy S u from_ to_).1 (w1_ h ad ca (sv_copy S u from_ to_).2)) RX1 (by decide) rfl (Nat.le_of_ble_eq_true rfl) ?_
  intro p e s m below meth c A ls hb hml hr hlocks hnm C hA hW hl
  obtain ⟨hx, hown, hts, hK⟩ := id C
  have hl : lv_has ls 6 [(0, .ref h), (1, .int u), (2, .int from_), (3, .int to_)] := hl
  refine lv_iload_n hx hb dX1_copy_0 rfl (lv_at hl 1 rfl) ?_
  refine ks_callN (As := [.int u]) (rest := []) hx hb hml hown hts (m1_badUser l u) (va_cwS 1 hts (lw_S q85 q86 q13 q87) rfl rfl rfl (by decide +kernel) ⟨(Nat.le_of_ble_eq_true rfl), (Nat.le_of_ble_eq_true rfl)⟩) rfl hl.1 rfl (Nat.le_of_ble_eq_true rfl) dX1_copy_1 ⟨Nat.zero_le _, Nat.zero_le _⟩ ?_
  refine lv_if_eq (tgt := 9) hx hb dX1_copy_4 (by decide) (fun c_1 => ?_) (fun c_1 => ?_)
  · refine lv_iload_n hx hb dX1_copy_9 rfl (lv_at hl 2 rfl) ?_
    refine ks_callN (As := [.int from_]) (rest := []) hx hb hml hown hts (m1_badSlot l from_) (va_cwS 1 hts (lw_S q88 q89 q13 q90) rfl rfl rfl (by decide +kernel) ⟨(Nat.le_of_ble_eq_true rfl), (Nat.le_of_ble_eq_true rfl)⟩) rfl hl.1 rfl (Nat.le_of_ble_eq_true rfl) dX1_copy_10 ⟨Nat.zero_le _, Nat.zero_le _⟩ ?_
    refine lv_if_eq (tgt := 19) hx hb dX1_copy_13 (by decide) (fun c_2 => ?_) (fun c_2 => ?_)
    · refine lv_iload_n hx hb dX1_copy_19 rfl (lv_at hl 1 rfl) ?_
      refine lv_bipush (v := 8) hx hb dX1_copy_20 (by decide) ?_
      refine lv_imul hx hb dX1_copy_22 ?_
      refine lv_iload_n hx hb dX1_copy_23 rfl (lv_at hl 2 rfl) ?_
      refine lv_iadd hx hb dX1_copy_24 ?_
      refine lv_topi (fun x_3 ex_3 => ?_)
      refine lv_istore (lv' := [(4, .int x_3), (0, .ref h), (1, .int u), (2, .int from_), (3, .int to_)]) hx hb dX1_copy_25 hl (by decide) rfl (fun ls hl => ?_)
      refine lv_iload_n hx hb dX1_copy_27 rfl (lv_at hl 4 rfl) ?_
      refine lv_bipush (v := 15) hx hb dX1_copy_28 (by decide) ?_
      refine lv_iand hx hb dX1_copy_30 ?_
      refine lv_topi (fun x_4 ex_4 => ?_)
      refine lv_istore (lv' := [(5, .int x_4), (4, .int x_3), (0, .ref h), (1, .int u), (2, .int from_), (3, .int to_)]) hx hb dX1_copy_31 hl (by decide) rfl (fun ls hl => ?_)
      refine lv_aload_n hx hb dX1_copy_33 rfl (lv_at hl 2 rfl) ?_
      refine x1_get C hb hW.1 8 (by decide) q31 (fun _ h9 => h9) rfl dX1_copy_34 ?_
      refine lv_iload hx hb dX1_copy_37 (lv_at hl 0 rfl) ?_
      refine lv_aload_n hx hb dX1_copy_39 rfl (lv_at hl 2 rfl) ?_
      refine x1_get C hb hW.1 8 (by decide) q31 (fun _ h9 => h9) rfl dX1_copy_40 ?_
      refine lv_iload hx hb dX1_copy_43 (lv_at hl 1 rfl) ?_
      refine ks_zld (ad := ad) (ca := ca) (S := S) (k := 8) C hb hW.1 x1_a8 x1_t8 (show vp_in x_3 16 by rw [ex_3]; exact (ks_at (ks_user c_1) (ks_slot c_2))) dX1_copy_45 ?_
      refine ks_zst (ad := ad) (ca := ca) (S := S) (k := 8) (wf := w1_ h ad ca) (y := (vp_nar .boolean (S 8 x_3.toNatClampNeg))) C hb hW x1_a8 x1_t8 x1_s8 (show vp_in x_4 16 by rw [ex_4]; exact pk_andIn to_ 4 rfl (by decide)) rfl dX1_copy_46 (fun S_5 eS_5 H locs hW => ?_)
      refine lv_aload_n hx hb dX1_copy_47 rfl (lv_at hl 2 rfl) ?_
      refine x1_get C hb hW.1 9 (by decide) q32 (fun _ h9 => h9) rfl dX1_copy_48 ?_
      refine lv_iload hx hb dX1_copy_51 (lv_at hl 0 rfl) ?_
      refine lv_aload_n hx hb dX1_copy_53 rfl (lv_at hl 2 rfl) ?_
      refine x1_get C hb hW.1 9 (by decide) q32 (fun _ h9 => h9) rfl dX1_copy_54 ?_
      refine lv_iload hx hb dX1_copy_57 (lv_at hl 1 rfl) ?_
      refine ks_ild (ad := ad) (ca := ca) (S := S_5) (k := 9) C hb hW.1 x1_a9 x1_t9 (show vp_in x_3 16 by rw [ex_3]; exact (ks_at (ks_user c_1) (ks_slot c_2))) dX1_copy_59 ?_
      refine ks_ist (ad := ad) (ca := ca) (S := S_5) (k := 9) (wf := w1_ h ad ca) C hb hW x1_a9 x1_t9 x1_s9 (show vp_in x_4 16 by rw [ex_4]; exact pk_andIn to_ 4 rfl (by decide)) dX1_copy_60 (fun S_6 eS_6 H locs hW => ?_)
      refine lv_aload_n hx hb dX1_copy_61 rfl (lv_at hl 2 rfl) ?_
      refine x1_get C hb hW.1 10 (by decide) q33 (fun _ h9 => h9) rfl dX1_copy_62 ?_
      refine lv_iload hx hb dX1_copy_65 (lv_at hl 0 rfl) ?_
      refine lv_aload_n hx hb dX1_copy_67 rfl (lv_at hl 2 rfl) ?_
      refine x1_get C hb hW.1 10 (by decide) q33 (fun _ h9 => h9) rfl dX1_copy_68 ?_
      refine lv_iload hx hb dX1_copy_71 (lv_at hl 1 rfl) ?_
      refine ks_ild (ad := ad) (ca := ca) (S := S_6) (k := 10) C hb hW.1 x1_a10 x1_t10 (show vp_in x_3 16 by rw [ex_3]; exact (ks_at (ks_user c_1) (ks_slot c_2))) dX1_copy_73 ?_
      refine ks_ist (ad := ad) (ca := ca) (S := S_6) (k := 10) (wf := w1_ h ad ca) C hb hW x1_a10 x1_t10 x1_s10 (show vp_in x_4 16 by rw [ex_4]; exact pk_andIn to_ 4 rfl (by decide)) dX1_copy_74 (fun S_7 eS_7 H locs hW => ?_)
      refine lv_aload_n hx hb dX1_copy_75 rfl (lv_at hl 2 rfl) ?_
      refine x1_get C hb hW.1 11 (by decide) q34 (fun _ h9 => h9) rfl dX1_copy_76 ?_
      refine lv_iload hx hb dX1_copy_79 (lv_at hl 0 rfl) ?_
      refine lv_aload_n hx hb dX1_copy_81 rfl (lv_at hl 2 rfl) ?_
      refine x1_get C hb hW.1 11 (by decide) q34 (fun _ h9 => h9) rfl dX1_copy_82 ?_
      refine lv_iload hx hb dX1_copy_85 (lv_at hl 1 rfl) ?_
      refine ks_ild (ad := ad) (ca := ca) (S := S_7) (k := 11) C hb hW.1 x1_a11 x1_t11 (show vp_in x_3 16 by rw [ex_3]; exact (ks_at (ks_user c_1) (ks_slot c_2))) dX1_copy_87 ?_
      refine ks_ist (ad := ad) (ca := ca) (S := S_7) (k := 11) (wf := w1_ h ad ca) C hb hW x1_a11 x1_t11 x1_s11 (show vp_in x_4 16 by rw [ex_4]; exact pk_andIn to_ 4 rfl (by decide)) dX1_copy_88 (fun S_8 eS_8 H locs hW => ?_)
      refine lv_iconst (v := 0) hx hb dX1_copy_89 (by decide) ?_
      exact ks_iret hx hb hr hlocks hW dX1_copy_90 (by subst eS_8; subst eS_7; subst eS_6; subst eS_5; subst ex_4; subst ex_3; unfold sv_copy; rw [if_pos c_1, if_pos c_2]; try rfl) (congrArg (w1_ h ad ca) (by subst eS_8; subst eS_7; subst eS_6; subst eS_5; subst ex_4; subst ex_3; unfold sv_copy; rw [if_pos c_1, if_pos c_2]; try rfl))
    · refine lv_bipush (v := (-2)) hx hb dX1_copy_16 (by decide) ?_
      exact ks_iret hx hb hr hlocks hW dX1_copy_18 (by unfold sv_copy; rw [if_pos c_1, if_neg c_2]; try rfl) (congrArg (w1_ h ad ca) (by unfold sv_copy; rw [if_pos c_1, if_neg c_2]; try rfl))
  · refine lv_iconst (v := (-1)) hx hb dX1_copy_7 (by decide) ?_
    exact ks_iret hx hb hr hlocks hW dX1_copy_8 (by unfold sv_copy; rw [if_neg c_1]; try rfl) (congrArg (w1_ h ad ca) (by unfold sv_copy; rw [if_neg c_1]; try rfl))
set_option maxHeartbeats 4000000 in
set_option maxRecDepth 100000 in
theorem m1_tamper (l : Launch) (D : va_G) (h : Nat) (ad : Nat → Nat) (ca : Nat → ClassId) (S : ks_St) (sz : Nat) (u slot bits : Int32) : Met l yX1_tamper (ws_ yX1_tamper cX1_tamper 5 (some .int)) ({ frames := 1, cells := 0, slots := 0, locals := 20 }) (ks_P D (w1_ h ad ca S) (t1_ ca) sz [.ref h, .int u, .int slot, .int bits]) (ks_Qi D (sv_tamper S u slot bits).1 (w1_ h ad ca (sv_tamper S u slot bits).2) (va_A (w1_ h ad ca S) sz)) 0 0 (va_A (w1_ h ad ca S) sz) := by
  refine ks_enter (Qc := ks_Qi D (sv_tamper S u slot bits).1 (w1_ h ad ca (sv_tamper S u slot bits).2)) RX1 (by decide) rfl (Nat.le_of_ble_eq_true rfl) ?_
  intro p e s m below meth c A ls hb hml hr hlocks hnm C hA hW hl
  obtain ⟨hx, hown, hts, hK⟩ := id C
  have hl : lv_has ls 5 [(0, .ref h), (1, .int u), (2, .int slot), (3, .int bits)] := hl
  refine lv_iload_n hx hb dX1_tamper_0 rfl (lv_at hl 1 rfl) ?_
  refine ks_callN (As := [.int u]) (rest := []) hx hb hml hown hts (m1_badUser l u) (va_cwS 1 hts (lw_S q85 q86 q13 q87) rfl rfl rfl (by decide +kernel) ⟨(Nat.le_of_ble_eq_true rfl), (Nat.le_of_ble_eq_true rfl)⟩) rfl hl.1 rfl (Nat.le_of_ble_eq_true rfl) dX1_tamper_1 ⟨Nat.zero_le _, Nat.zero_le _⟩ ?_
  refine lv_if_eq (tgt := 9) hx hb dX1_tamper_4 (by decide) (fun c_1 => ?_) (fun c_1 => ?_)
  · refine lv_iload_n hx hb dX1_tamper_9 rfl (lv_at hl 2 rfl) ?_
    refine ks_callN (As := [.int slot]) (rest := []) hx hb hml hown hts (m1_badSlot l slot) (va_cwS 1 hts (lw_S q88 q89 q13 q90) rfl rfl rfl (by decide +kernel) ⟨(Nat.le_of_ble_eq_true rfl), (Nat.le_of_ble_eq_true rfl)⟩) rfl hl.1 rfl (Nat.le_of_ble_eq_true rfl) dX1_tamper_10 ⟨Nat.zero_le _, Nat.zero_le _⟩ ?_
    refine lv_if_eq (tgt := 19) hx hb dX1_tamper_13 (by decide) (fun c_2 => ?_) (fun c_2 => ?_)
    · refine lv_iload_n hx hb dX1_tamper_19 rfl (lv_at hl 1 rfl) ?_
      refine lv_bipush (v := 8) hx hb dX1_tamper_20 (by decide) ?_
      refine lv_imul hx hb dX1_tamper_22 ?_
      refine lv_iload_n hx hb dX1_tamper_23 rfl (lv_at hl 2 rfl) ?_
      refine lv_iadd hx hb dX1_tamper_24 ?_
      refine lv_topi (fun x_3 ex_3 => ?_)
      refine lv_istore (lv' := [(4, .int x_3), (0, .ref h), (1, .int u), (2, .int slot), (3, .int bits)]) hx hb dX1_tamper_25 hl (by decide) rfl (fun ls hl => ?_)
      refine lv_aload_n hx hb dX1_tamper_27 rfl (lv_at hl 1 rfl) ?_
      refine x1_get C hb hW.1 8 (by decide) q31 (fun _ h9 => h9) rfl dX1_tamper_28 ?_
      refine lv_iload hx hb dX1_tamper_31 (lv_at hl 0 rfl) ?_
      refine ks_zld (ad := ad) (ca := ca) (S := S) (k := 8) C hb hW.1 x1_a8 x1_t8 (show vp_in x_3 16 by rw [ex_3]; exact (ks_at (ks_user c_1) (ks_slot c_2))) dX1_tamper_33 ?_
      refine lv_if_ne (tgt := 40) hx hb dX1_tamper_34 (by decide) (fun c_4 => ?_) (fun c_4 => ?_)
      · refine lv_aload_n hx hb dX1_tamper_40 rfl (lv_at hl 1 rfl) ?_
        refine x1_get C hb hW.1 10 (by decide) q33 (fun _ h9 => h9) rfl dX1_tamper_41 ?_
        refine lv_iload hx hb dX1_tamper_44 (lv_at hl 0 rfl) ?_
        refine lv_dup2_11 hx hb dX1_tamper_46 rfl rfl ?_
        refine ks_ild (ad := ad) (ca := ca) (S := S) (k := 10) C hb hW.1 x1_a10 x1_t10 (show vp_in x_3 16 by rw [ex_3]; exact (ks_at (ks_user c_1) (ks_slot c_2))) dX1_tamper_47 ?_
        refine lv_iload_n hx hb dX1_tamper_48 rfl (lv_at hl 4 rfl) ?_
        refine lv_bipush (v := 15) hx hb dX1_tamper_49 (by decide) ?_
        refine lv_iand hx hb dX1_tamper_51 ?_
        refine lv_ixor hx hb dX1_tamper_52 ?_
        refine ks_ist (ad := ad) (ca := ca) (S := S) (k := 10) (wf := w1_ h ad ca) C hb hW x1_a10 x1_t10 x1_s10 (show vp_in x_3 16 by rw [ex_3]; exact (ks_at (ks_user c_1) (ks_slot c_2))) dX1_tamper_53 (fun S_5 eS_5 H locs hW => ?_)
        refine lv_aload_n hx hb dX1_tamper_54 rfl (lv_at hl 1 rfl) ?_
        refine x1_get C hb hW.1 9 (by decide) q32 (fun _ h9 => h9) rfl dX1_tamper_55 ?_
        refine lv_iload hx hb dX1_tamper_58 (lv_at hl 0 rfl) ?_
        refine lv_dup2_11 hx hb dX1_tamper_60 rfl rfl ?_
        refine ks_ild (ad := ad) (ca := ca) (S := S_5) (k := 9) C hb hW.1 x1_a9 x1_t9 (show vp_in x_3 16 by rw [ex_3]; exact (ks_at (ks_user c_1) (ks_slot c_2))) dX1_tamper_61 ?_
        refine lv_iload_n hx hb dX1_tamper_62 rfl (lv_at hl 4 rfl) ?_
        refine lv_iconst (v := 4) hx hb dX1_tamper_63 (by decide) ?_
        refine lv_ishr hx hb dX1_tamper_64 ?_
        refine lv_bipush (v := 7) hx hb dX1_tamper_65 (by decide) ?_
        refine lv_iand hx hb dX1_tamper_67 ?_
        refine lv_ixor hx hb dX1_tamper_68 ?_
        refine ks_ist (ad := ad) (ca := ca) (S := S_5) (k := 9) (wf := w1_ h ad ca) C hb hW x1_a9 x1_t9 x1_s9 (show vp_in x_3 16 by rw [ex_3]; exact (ks_at (ks_user c_1) (ks_slot c_2))) dX1_tamper_69 (fun S_6 eS_6 H locs hW => ?_)
        refine lv_iconst (v := 0) hx hb dX1_tamper_70 (by decide) ?_
        exact ks_iret hx hb hr hlocks hW dX1_tamper_71 (by subst eS_6; subst eS_5; subst ex_3; unfold sv_tamper; rw [if_pos c_1, if_pos c_2, if_neg c_4]; try rfl) (congrArg (w1_ h ad ca) (by subst eS_6; subst eS_5; subst ex_3; unfold sv_tamper; rw [if_pos c_1, if_pos c_2, if_neg c_4]; try rfl))
      · refine lv_bipush (v := (-3)) hx hb dX1_tamper_37 (by decide) ?_
        exact ks_iret hx hb hr hlocks hW dX1_tamper_39 (by subst ex_3; unfold sv_tamper; rw [if_pos c_1, if_pos c_2, if_pos c_4]; try rfl) (congrArg (w1_ h ad ca) (by subst ex_3; unfold sv_tamper; rw [if_pos c_1, if_pos c_2, if_pos c_4]; try rfl))
    · refine lv_bipush (v := (-2)) hx hb dX1_tamper_16 (by decide) ?_
      exact ks_iret hx hb hr hlocks hW dX1_tamper_18 (by unfold sv_tamper; rw [if_pos c_1, if_neg c_2]; try rfl) (congrArg (w1_ h ad ca) (by unfold sv_tamper; rw [if_pos c_1, if_neg c_2]; try rfl))
  · refine lv_iconst (v := (-1)) hx hb dX1_tamper_7 (by decide) ?_
    exact ks_iret hx hb hr hlocks hW dX1_tamper_8 (by unfold sv_tamper; rw [if_neg c_1]; try rfl) (congrArg (w1_ h ad ca) (by unfold sv_tamper; rw [if_neg c_1]; try rfl))
set_option maxHeartbeats 4000000 in
set_option maxRecDepth 100000 in
theorem m1_clear (l : Launch) (D : va_G) (h : Nat) (ad : Nat → Nat) (ca : Nat → ClassId) (S : ks_St) (sz : Nat) (u slot : Int32) : Met l yX1_clear (ws_ yX1_clear cX1_clear 5 (some .int)) ({ frames := 1, cells := 0, slots := 0, locals := 20 }) (ks_P D (w1_ h ad ca S) (t1_ ca) sz [.ref h, .int u, .int slot]) (ks_Qi D (sv_clear S u slot).1 (w1_ h ad ca (sv_clear S u slot).2) (va_A (w1_ h ad ca S) sz)) 0 0 (va_A (w1_ h ad ca S) sz) := by
  refine ks_enter (Qc := ks_Qi D (sv_clear S u slot).1 (w1_ h ad ca (sv_clear S u slot).2)) RX1 (by decide) rfl (Nat.le_of_ble_eq_true rfl) ?_
  intro p e s m below meth c A ls hb hml hr hlocks hnm C hA hW hl
  obtain ⟨hx, hown, hts, hK⟩ := id C
  have hl : lv_has ls 5 [(0, .ref h), (1, .int u), (2, .int slot)] := hl
  refine lv_iload_n hx hb dX1_clear_0 rfl (lv_at hl 1 rfl) ?_
  refine ks_callN (As := [.int u]) (rest := []) hx hb hml hown hts (m1_badUser l u) (va_cwS 1 hts (lw_S q85 q86 q13 q87) rfl rfl rfl (by decide +kernel) ⟨(Nat.le_of_ble_eq_true rfl), (Nat.le_of_ble_eq_true rfl)⟩) rfl hl.1 rfl (Nat.le_of_ble_eq_true rfl) dX1_clear_1 ⟨Nat.zero_le _, Nat.zero_le _⟩ ?_
  refine lv_if_eq (tgt := 9) hx hb dX1_clear_4 (by decide) (fun c_1 => ?_) (fun c_1 => ?_)
  · refine lv_iload_n hx hb dX1_clear_9 rfl (lv_at hl 2 rfl) ?_
    refine ks_callN (As := [.int slot]) (rest := []) hx hb hml hown hts (m1_badSlot l slot) (va_cwS 1 hts (lw_S q88 q89 q13 q90) rfl rfl rfl (by decide +kernel) ⟨(Nat.le_of_ble_eq_true rfl), (Nat.le_of_ble_eq_true rfl)⟩) rfl hl.1 rfl (Nat.le_of_ble_eq_true rfl) dX1_clear_10 ⟨Nat.zero_le _, Nat.zero_le _⟩ ?_
    refine lv_if_eq (tgt := 19) hx hb dX1_clear_13 (by decide) (fun c_2 => ?_) (fun c_2 => ?_)
    · refine lv_iload_n hx hb dX1_clear_19 rfl (lv_at hl 1 rfl) ?_
      refine lv_bipush (v := 8) hx hb dX1_clear_20 (by decide) ?_
      refine lv_imul hx hb dX1_clear_22 ?_
      refine lv_iload_n hx hb dX1_clear_23 rfl (lv_at hl 2 rfl) ?_
      refine lv_iadd hx hb dX1_clear_24 ?_
      refine lv_topi (fun x_3 ex_3 => ?_)
      refine lv_istore_n (lv' := [(3, .int x_3), (0, .ref h), (1, .int u), (2, .int slot)]) hx hb dX1_clear_25 rfl hl (by decide) rfl (fun ls hl => ?_)
      refine lv_aload_n hx hb dX1_clear_26 rfl (lv_at hl 1 rfl) ?_
      refine x1_get C hb hW.1 8 (by decide) q31 (fun _ h9 => h9) rfl dX1_clear_27 ?_
      refine lv_iload_n hx hb dX1_clear_30 rfl (lv_at hl 0 rfl) ?_
      refine ks_zld (ad := ad) (ca := ca) (S := S) (k := 8) C hb hW.1 x1_a8 x1_t8 (show vp_in x_3 16 by rw [ex_3]; exact (ks_at (ks_user c_1) (ks_slot c_2))) dX1_clear_31 ?_
      refine lv_if_eq (tgt := 39) hx hb dX1_clear_32 (by decide) (fun c_4 => ?_) (fun c_4 => ?_)
      · refine lv_iconst (v := 0) hx hb dX1_clear_39 (by decide) ?_
        refine lv_istore (lv' := [(4, .int 0), (3, .int x_3), (0, .ref h), (1, .int u), (2, .int slot)]) hx hb dX1_clear_40 hl (by decide) rfl (fun ls hl => ?_)
        refine lv_aload_n hx hb dX1_clear_42 rfl (lv_at hl 2 rfl) ?_
        refine x1_get C hb hW.1 8 (by decide) q31 (fun _ h9 => h9) rfl dX1_clear_43 ?_
        refine lv_iload_n hx hb dX1_clear_46 rfl (lv_at hl 1 rfl) ?_
        refine lv_iconst (v := 0) hx hb dX1_clear_47 (by decide) ?_
        refine ks_zst (ad := ad) (ca := ca) (S := S) (k := 8) (wf := w1_ h ad ca) (y := 0) C hb hW x1_a8 x1_t8 x1_s8 (show vp_in x_3 16 by rw [ex_3]; exact (ks_at (ks_user c_1) (ks_slot c_2))) rfl dX1_clear_48 (fun S_5 eS_5 H locs hW => ?_)
        refine lv_iload hx hb dX1_clear_49 (lv_at hl 0 rfl) ?_
        exact ks_iret hx hb hr hlocks hW dX1_clear_51 (by subst eS_5; subst ex_3; unfold sv_clear; rw [if_pos c_1, if_pos c_2, if_pos c_4]; try rfl) (congrArg (w1_ h ad ca) (by subst eS_5; subst ex_3; unfold sv_clear; rw [if_pos c_1, if_pos c_2, if_pos c_4]; try rfl))
      · refine lv_iconst (v := 1) hx hb dX1_clear_35 (by decide) ?_
        refine lv_goto (tgt := 40) hx hb dX1_clear_36 (by decide) ?_
        refine lv_istore (lv' := [(4, .int 1), (3, .int x_3), (0, .ref h), (1, .int u), (2, .int slot)]) hx hb dX1_clear_40 hl (by decide) rfl (fun ls hl => ?_)
        refine lv_aload_n hx hb dX1_clear_42 rfl (lv_at hl 2 rfl) ?_
        refine x1_get C hb hW.1 8 (by decide) q31 (fun _ h9 => h9) rfl dX1_clear_43 ?_
        refine lv_iload_n hx hb dX1_clear_46 rfl (lv_at hl 1 rfl) ?_
        refine lv_iconst (v := 0) hx hb dX1_clear_47 (by decide) ?_
        refine ks_zst (ad := ad) (ca := ca) (S := S) (k := 8) (wf := w1_ h ad ca) (y := 0) C hb hW x1_a8 x1_t8 x1_s8 (show vp_in x_3 16 by rw [ex_3]; exact (ks_at (ks_user c_1) (ks_slot c_2))) rfl dX1_clear_48 (fun S_6 eS_6 H locs hW => ?_)
        refine lv_iload hx hb dX1_clear_49 (lv_at hl 0 rfl) ?_
        exact ks_iret hx hb hr hlocks hW dX1_clear_51 (by subst eS_6; subst ex_3; unfold sv_clear; rw [if_pos c_1, if_pos c_2, if_neg c_4]; try rfl) (congrArg (w1_ h ad ca) (by subst eS_6; subst ex_3; unfold sv_clear; rw [if_pos c_1, if_pos c_2, if_neg c_4]; try rfl))
    · refine lv_bipush (v := (-2)) hx hb dX1_clear_16 (by decide) ?_
      exact ks_iret hx hb hr hlocks hW dX1_clear_18 (by unfold sv_clear; rw [if_pos c_1, if_neg c_2]; try rfl) (congrArg (w1_ h ad ca) (by unfold sv_clear; rw [if_pos c_1, if_neg c_2]; try rfl))
  · refine lv_iconst (v := (-1)) hx hb dX1_clear_7 (by decide) ?_
    exact ks_iret hx hb hr hlocks hW dX1_clear_8 (by unfold sv_clear; rw [if_neg c_1]; try rfl) (congrArg (w1_ h ad ca) (by unfold sv_clear; rw [if_neg c_1]; try rfl))
set_option maxHeartbeats 4000000 in
set_option maxRecDepth 100000 in
theorem m1_restart (l : Launch) (D : va_G) (h : Nat) (ad : Nat → Nat) (ca : Nat → ClassId) (S : ks_St) (sz : Nat) : Met l yX1_restart (ws_ yX1_restart cX1_restart 2 none) ({ frames := 0, cells := 0, slots := 0, locals := 0 }) (ks_P D (w1_ h ad ca S) (t1_ ca) sz [.ref h]) (ks_Qv D (w1_ h ad ca (sv_restart S)) (va_A (w1_ h ad ca S) sz)) 0 0 (va_A (w1_ h ad ca S) sz) := by
  refine ks_enter (Qc := ks_Qv D (w1_ h ad ca (sv_restart S))) RX1 (by decide) rfl (Nat.le_of_ble_eq_true rfl) ?_
  intro p e s m below meth c A ls hb hml hr hlocks hnm C hA hW hl
  obtain ⟨hx, hown, hts, hK⟩ := id C
  have hl : lv_has ls 2 [(0, .ref h)] := hl
  refine lv_iconst (v := 0) hx hb dX1_restart_0 (by decide) ?_
  refine lv_istore_n (lv' := [(1, .int 0), (0, .ref h)]) hx hb dX1_restart_1 rfl hl (by decide) rfl (fun ls hl => ?_)
  refine lv_iload_n hx hb dX1_restart_2 rfl (lv_at hl 0 rfl) ?_
  refine lv_iconst (v := 2) hx hb dX1_restart_3 (by decide) ?_
  refine lv_icmp_ge (tgt := 27) hx hb dX1_restart_4 (by decide) (fun c9 => absurd c9 (by decide)) (fun _ => ?_)
  refine lv_aload_n hx hb dX1_restart_7 rfl (lv_at hl 1 rfl) ?_
  refine x1_get C hb hW.1 6 (by decide) q29 (fun _ h9 => h9) rfl dX1_restart_8 ?_
  refine lv_iload_n hx hb dX1_restart_11 rfl (lv_at hl 0 rfl) ?_
  refine lv_iconst (v := 0) hx hb dX1_restart_12 (by decide) ?_
  refine ks_zst (ad := ad) (ca := ca) (S := S) (k := 6) (wf := w1_ h ad ca) (y := 0) C hb hW x1_a6 x1_t6 x1_s6 (vp_in_nI (n := 0) (N := 2) (by decide) (by decide)) rfl dX1_restart_13 (fun S_1 eS_1 H locs hW => ?_)
  refine lv_aload_n hx hb dX1_restart_14 rfl (lv_at hl 1 rfl) ?_
  refine x1_get C hb hW.1 7 (by decide) q30 (fun _ h9 => h9) rfl dX1_restart_15 ?_
  refine lv_iload_n hx hb dX1_restart_18 rfl (lv_at hl 0 rfl) ?_
  refine lv_iconst (v := 0) hx hb dX1_restart_19 (by decide) ?_
  refine ks_ist (ad := ad) (ca := ca) (S := S_1) (k := 7) (wf := w1_ h ad ca) C hb hW x1_a7 x1_t7 x1_s7 (vp_in_nI (n := 0) (N := 2) (by decide) (by decide)) dX1_restart_20 (fun S_2 eS_2 H locs hW => ?_)
  refine lv_iinc (v := 1) (lv' := [(1, .int 1), (0, .ref h)]) hx hb dX1_restart_21 hl (k := 0) rfl (by decide) (by decide) rfl (fun ls hl => ?_)
  refine lv_goto (tgt := 2) hx hb dX1_restart_24 (by decide) ?_
  refine lv_iload_n hx hb dX1_restart_2 rfl (lv_at hl 0 rfl) ?_
  refine lv_iconst (v := 2) hx hb dX1_restart_3 (by decide) ?_
  refine lv_icmp_ge (tgt := 27) hx hb dX1_restart_4 (by decide) (fun c9 => absurd c9 (by decide)) (fun _ => ?_)
  refine lv_aload_n hx hb dX1_restart_7 rfl (lv_at hl 1 rfl) ?_
  refine x1_get C hb hW.1 6 (by decide) q29 (fun _ h9 => h9) rfl dX1_restart_8 ?_
  refine lv_iload_n hx hb dX1_restart_11 rfl (lv_at hl 0 rfl) ?_
  refine lv_iconst (v := 0) hx hb dX1_restart_12 (by decide) ?_
  refine ks_zst (ad := ad) (ca := ca) (S := S_2) (k := 6) (wf := w1_ h ad ca) (y := 0) C hb hW x1_a6 x1_t6 x1_s6 (vp_in_nI (n := 1) (N := 2) (by decide) (by decide)) rfl dX1_restart_13 (fun S_3 eS_3 H locs hW => ?_)
  refine lv_aload_n hx hb dX1_restart_14 rfl (lv_at hl 1 rfl) ?_
  refine x1_get C hb hW.1 7 (by decide) q30 (fun _ h9 => h9) rfl dX1_restart_15 ?_
  refine lv_iload_n hx hb dX1_restart_18 rfl (lv_at hl 0 rfl) ?_
  refine lv_iconst (v := 0) hx hb dX1_restart_19 (by decide) ?_
  refine ks_ist (ad := ad) (ca := ca) (S := S_3) (k := 7) (wf := w1_ h ad ca) C hb hW x1_a7 x1_t7 x1_s7 (vp_in_nI (n := 1) (N := 2) (by decide) (by decide)) dX1_restart_20 (fun S_4 eS_4 H locs hW => ?_)
  refine lv_iinc (v := 2) (lv' := [(1, .int 2), (0, .ref h)]) hx hb dX1_restart_21 hl (k := 0) rfl (by decide) (by decide) rfl (fun ls hl => ?_)
  refine lv_goto (tgt := 2) hx hb dX1_restart_24 (by decide) ?_
  refine lv_iload_n hx hb dX1_restart_2 rfl (lv_at hl 0 rfl) ?_
  refine lv_iconst (v := 2) hx hb dX1_restart_3 (by decide) ?_
  refine lv_icmp_ge (tgt := 27) hx hb dX1_restart_4 (by decide) (fun _ => ?_) (fun c9 => absurd c9 (by decide))
  exact ks_vret hx hb hr hlocks hW dX1_restart_27 (congrArg (w1_ h ad ca) (by subst eS_4; subst eS_3; subst eS_2; subst eS_1; unfold sv_restart; try rfl))
set_option maxHeartbeats 4000000 in
set_option maxRecDepth 100000 in
theorem m1_genuine (l : Launch) (D : va_G) (h : Nat) (ad : Nat → Nat) (ca : Nat → ClassId) (S : ks_St) (u slot : Int32) (hok : sv_ok S) : Met l yX1_genuine (ws_ yX1_genuine cX1_genuine 3 (some .boolean)) ({ frames := 2, cells := 0, slots := 0, locals := 44 }) (ks_R D (w1_ h ad ca S) (t1_ ca) [.ref h, .int u, .int slot]) (QcRead (sv_genuine S u slot)) 0 0 ks_F := by
  refine ks_enterR RX1 (by decide) rfl (Nat.le_of_ble_eq_true rfl) ?_
  intro p e s m below meth c ls hb hml hr hlocks C hP hl
  obtain ⟨hx, hown, hts, hK⟩ := id C
  have hl : lv_has ls 3 [(0, .ref h), (1, .int u), (2, .int slot)] := hl
  refine lv_iload_n hx hb dX1_genuine_0 rfl (lv_at hl 1 rfl) ?_
  refine ks_callN (As := [.int u]) (rest := []) hx hb hml hown hts (m1_badUser l u) (va_cwS 1 hts (lw_S q85 q86 q13 q87) rfl rfl rfl (by decide +kernel) ⟨(Nat.le_of_ble_eq_true rfl), (Nat.le_of_ble_eq_true rfl)⟩) rfl hl.1 rfl (Nat.le_of_ble_eq_true rfl) dX1_genuine_1 ⟨Nat.zero_le _, Nat.zero_le _⟩ ?_
  refine lv_if_ne (tgt := 14) hx hb dX1_genuine_4 (by decide) (fun c_1 => ?_) (fun c_1 => ?_)
  · refine lv_iconst (v := 0) hx hb dX1_genuine_14 (by decide) ?_
    exact ks_zret hx hb hr hlocks dX1_genuine_15 rfl (by unfold sv_genuine; rw [if_neg c_1]; try rfl)
  · refine lv_iload_n hx hb dX1_genuine_7 rfl (lv_at hl 2 rfl) ?_
    refine ks_callN (As := [.int slot]) (rest := []) hx hb hml hown hts (m1_badSlot l slot) (va_cwS 1 hts (lw_S q88 q89 q13 q90) rfl rfl rfl (by decide +kernel) ⟨(Nat.le_of_ble_eq_true rfl), (Nat.le_of_ble_eq_true rfl)⟩) rfl hl.1 rfl (Nat.le_of_ble_eq_true rfl) dX1_genuine_8 ⟨Nat.zero_le _, Nat.zero_le _⟩ ?_
    refine lv_if_eq (tgt := 16) hx hb dX1_genuine_11 (by decide) (fun c_2 => ?_) (fun c_2 => ?_)
    · refine lv_aload_n hx hb dX1_genuine_16 rfl (lv_at hl 0 rfl) ?_
      refine lv_iload_n hx hb dX1_genuine_17 rfl (lv_at hl 1 rfl) ?_
      refine lv_bipush (v := 8) hx hb dX1_genuine_18 (by decide) ?_
      refine lv_imul hx hb dX1_genuine_20 ?_
      refine lv_iload_n hx hb dX1_genuine_21 rfl (lv_at hl 2 rfl) ?_
      refine lv_iadd hx hb dX1_genuine_22 ?_
      refine ks_callR (C := RX1) (ci := 0) (As := [.int ((u * 8) + slot)]) (rest := []) hx hb hml hown hts hK hP rfl x1_o rfl (m1_valid l D h ad ca S (((u * 8) + slot)) hok (ks_at (ks_user c_1) (ks_slot c_2))) (cwV 1 hts (lw_V q122 q124 qs7 q13 q125) rfl rfl rfl (by decide +kernel) ⟨(Nat.le_of_ble_eq_true rfl), (Nat.le_of_ble_eq_true rfl)⟩) rfl hl.1 rfl (Nat.le_of_ble_eq_true rfl) dX1_genuine_23 ⟨Nat.zero_le _, Nat.zero_le _⟩ ?_
      exact ks_zret hx hb hr hlocks dX1_genuine_26 (sv_valid_nar _ _) (by unfold sv_genuine; rw [if_pos c_1, if_pos c_2]; try rfl)
    · refine lv_iconst (v := 0) hx hb dX1_genuine_14 (by decide) ?_
      exact ks_zret hx hb hr hlocks dX1_genuine_15 rfl (by unfold sv_genuine; rw [if_pos c_1, if_neg c_2]; try rfl)
set_option maxHeartbeats 4000000 in
set_option maxRecDepth 100000 in
theorem m1_rights (l : Launch) (D : va_G) (h : Nat) (ad : Nat → Nat) (ca : Nat → ClassId) (S : ks_St) (u slot : Int32) : Met l yX1_rights (ws_ yX1_rights cX1_rights 4 (some .int)) ({ frames := 1, cells := 0, slots := 0, locals := 20 }) (ks_R D (w1_ h ad ca S) (t1_ ca) [.ref h, .int u, .int slot]) (QcRead (sv_rights S u slot)) 0 0 ks_F := by
  refine ks_enterR RX1 (by decide) rfl (Nat.le_of_ble_eq_true rfl) ?_
  intro p e s m below meth c ls hb hml hr hlocks C hP hl
  obtain ⟨hx, hown, hts, hK⟩ := id C
  have hl : lv_has ls 4 [(0, .ref h), (1, .int u), (2, .int slot)] := hl
  refine lv_iload_n hx hb dX1_rights_0 rfl (lv_at hl 1 rfl) ?_
  refine ks_callN (As := [.int u]) (rest := []) hx hb hml hown hts (m1_badUser l u) (va_cwS 1 hts (lw_S q85 q86 q13 q87) rfl rfl rfl (by decide +kernel) ⟨(Nat.le_of_ble_eq_true rfl), (Nat.le_of_ble_eq_true rfl)⟩) rfl hl.1 rfl (Nat.le_of_ble_eq_true rfl) dX1_rights_1 ⟨Nat.zero_le _, Nat.zero_le _⟩ ?_
  refine lv_if_eq (tgt := 9) hx hb dX1_rights_4 (by decide) (fun c_1 => ?_) (fun c_1 => ?_)
  · refine lv_iload_n hx hb dX1_rights_9 rfl (lv_at hl 2 rfl) ?_
    refine ks_callN (As := [.int slot]) (rest := []) hx hb hml hown hts (m1_badSlot l slot) (va_cwS 1 hts (lw_S q88 q89 q13 q90) rfl rfl rfl (by decide +kernel) ⟨(Nat.le_of_ble_eq_true rfl), (Nat.le_of_ble_eq_true rfl)⟩) rfl hl.1 rfl (Nat.le_of_ble_eq_true rfl) dX1_rights_10 ⟨Nat.zero_le _, Nat.zero_le _⟩ ?_
    refine lv_if_eq (tgt := 19) hx hb dX1_rights_13 (by decide) (fun c_2 => ?_) (fun c_2 => ?_)
    · refine lv_iload_n hx hb dX1_rights_19 rfl (lv_at hl 1 rfl) ?_
      refine lv_bipush (v := 8) hx hb dX1_rights_20 (by decide) ?_
      refine lv_imul hx hb dX1_rights_22 ?_
      refine lv_iload_n hx hb dX1_rights_23 rfl (lv_at hl 2 rfl) ?_
      refine lv_iadd hx hb dX1_rights_24 ?_
      refine lv_topi (fun x_3 ex_3 => ?_)
      refine lv_istore_n (lv' := [(3, .int x_3), (0, .ref h), (1, .int u), (2, .int slot)]) hx hb dX1_rights_25 rfl hl (by decide) rfl (fun ls hl => ?_)
      refine lv_aload_n hx hb dX1_rights_26 rfl (lv_at hl 1 rfl) ?_
      refine x1_get C hb hP 8 (by decide) q31 (fun _ h9 => h9) rfl dX1_rights_27 ?_
      refine lv_iload_n hx hb dX1_rights_30 rfl (lv_at hl 0 rfl) ?_
      refine ks_zld (ad := ad) (ca := ca) (S := S) (k := 8) C hb hP x1_a8 x1_t8 (show vp_in x_3 16 by rw [ex_3]; exact (ks_at (ks_user c_1) (ks_slot c_2))) dX1_rights_31 ?_
      refine lv_if_eq (tgt := 44) hx hb dX1_rights_32 (by decide) (fun c_4 => ?_) (fun c_4 => ?_)
      · refine lv_iconst (v := 0) hx hb dX1_rights_44 (by decide) ?_
        exact ks_rret hx hb hr hlocks dX1_rights_45 (by subst ex_3; unfold sv_rights; rw [if_pos c_1, if_pos c_2, if_pos c_4]; try rfl)
      · refine lv_aload_n hx hb dX1_rights_35 rfl (lv_at hl 1 rfl) ?_
        refine x1_get C hb hP 10 (by decide) q33 (fun _ h9 => h9) rfl dX1_rights_36 ?_
        refine lv_iload_n hx hb dX1_rights_39 rfl (lv_at hl 0 rfl) ?_
        refine ks_ild (ad := ad) (ca := ca) (S := S) (k := 10) C hb hP x1_a10 x1_t10 (show vp_in x_3 16 by rw [ex_3]; exact (ks_at (ks_user c_1) (ks_slot c_2))) dX1_rights_40 ?_
        refine lv_goto (tgt := 45) hx hb dX1_rights_41 (by decide) ?_
        exact ks_rret hx hb hr hlocks dX1_rights_45 (by subst ex_3; unfold sv_rights; rw [if_pos c_1, if_pos c_2, if_neg c_4]; try rfl)
    · refine lv_bipush (v := (-2)) hx hb dX1_rights_16 (by decide) ?_
      exact ks_rret hx hb hr hlocks dX1_rights_18 (by unfold sv_rights; rw [if_pos c_1, if_neg c_2]; try rfl)
  · refine lv_iconst (v := (-1)) hx hb dX1_rights_7 (by decide) ?_
    exact ks_rret hx hb hr hlocks dX1_rights_8 (by unfold sv_rights; rw [if_neg c_1]; try rfl)
set_option maxHeartbeats 4000000 in
theorem al1_loop {p : Program} {l : Launch} {e : Env} {R : Room} {s : State} {m : MethodId} {args : Array Value} {below : List Frame} {meth : Method} {c : Code} {H : Heap} {locs : List Loc} {cells slots : Nat} {Q : State → Prop} {D : va_G} {h : Nat} {ad : Nat → Nat} {ca : Nat → ClassId} {S : ks_St}
    (C : ks_K RX1 D (t1_ ca) p s m args) (hb : c.code = cX1_alive) (hP : va_P D vwCl (w1_ h ad ca S) H) :
    ∀ (n i : Nat) (k : Int32), i + n = 8 → ∀ (ls : Array Slot), lv_has ls 3 [(0, .ref h), (1, .int k), (2, .int (nI i))] →
      (∀ ls : Array Slot, lv_has ls 3 [(1, .int (sv_cnt (S 0) n i k))] → W p l e R s m args below meth c H locs cells slots Q (F0 m 28 ls [])) →
      W p l e R s m args below meth c H locs cells slots Q (F0 m 4 ls []) := by
  have hx := C.1
  intro n
  induction n with
  | zero =>
    intro i k hi ls hl K_
    refine lv_iload_n hx hb dX1_alive_4 rfl (lv_at hl 2 rfl) ?_
    refine lv_bipush (v := 8) hx hb dX1_alive_5 (by decide) ?_
    refine lv_icmp_ge (tgt := 28) hx hb dX1_alive_7 (by decide) (fun c_1 => ?_) (fun c_1 => ?_)
    · exact K_ ls (lv_sub hl [1] rfl)
    · exact absurd (nI_le (a := 8) (b := i) (by omega) (by omega)) c_1
  | succ n ih =>
    intro i k hi ls hl K_
    refine lv_iload_n hx hb dX1_alive_4 rfl (lv_at hl 2 rfl) ?_
    refine lv_bipush (v := 8) hx hb dX1_alive_5 (by decide) ?_
    refine lv_icmp_ge (tgt := 28) hx hb dX1_alive_7 (by decide) (fun c_1 => ?_) (fun c_1 => ?_)
    · exact absurd c_1 (nI_ge (a := i) (b := 8) (by omega) (by decide))
    · refine lv_aload_n hx hb dX1_alive_10 rfl (lv_at hl 0 rfl) ?_
      refine x1_get C hb hP 0 (by decide) q23 (fun _ h9 => h9) rfl dX1_alive_11 ?_
      refine lv_iload_n hx hb dX1_alive_14 rfl (lv_at hl 2 rfl) ?_
      refine ks_zld (ad := ad) (ca := ca) (S := S) (k := 0) C hb hP x1_a0 x1_t0 (vp_in_nI (n := i) (N := 8) (by omega) (by decide)) dX1_alive_15 ?_
      refine lv_if_eq (tgt := 22) hx hb dX1_alive_16 (by decide) (fun c_2 => ?_) (fun c_2 => ?_)
      · rw [nI_clamp (by omega)] at c_2
        refine lv_iinc (v := nI (i + 1)) (lv' := [(2, .int (nI (i + 1))), (0, .ref h), (1, .int k)]) hx hb dX1_alive_22 hl (k := 2) rfl (nI_1 i) (by decide) rfl (fun ls hl => ?_)
        refine lv_goto (tgt := 4) hx hb dX1_alive_25 (by decide) ?_
        refine ih (i + 1) k (by omega) ls (lv_sub hl [1, 2, 0] rfl) (fun ls hl => K_ ls ?_)
        rw [sv_cnt, if_pos c_2]
        exact hl
      · rw [nI_clamp (by omega)] at c_2
        refine lv_iinc (v := k + 1) (lv' := [(1, .int (k + 1)), (0, .ref h), (2, .int (nI i))]) hx hb dX1_alive_19 hl (k := 1) rfl rfl (by decide) rfl (fun ls hl => ?_)
        refine lv_iinc (v := nI (i + 1)) (lv' := [(2, .int (nI (i + 1))), (1, .int (k + 1)), (0, .ref h)]) hx hb dX1_alive_22 hl (k := 2) rfl (nI_1 i) (by decide) rfl (fun ls hl => ?_)
        refine lv_goto (tgt := 4) hx hb dX1_alive_25 (by decide) ?_
        refine ih (i + 1) (k + 1) (by omega) ls (lv_sub hl [2, 1, 0] rfl) (fun ls hl => K_ ls ?_)
        rw [sv_cnt, if_neg c_2]
        exact hl
set_option maxHeartbeats 4000000 in
set_option maxRecDepth 100000 in
theorem m1_alive (l : Launch) (D : va_G) (h : Nat) (ad : Nat → Nat) (ca : Nat → ClassId) (S : ks_St) : Met l yX1_alive (ws_ yX1_alive cX1_alive 3 (some .int)) ({ frames := 0, cells := 0, slots := 0, locals := 0 }) (ks_R D (w1_ h ad ca S) (t1_ ca) [.ref h]) (QcRead (sv_alive S)) 0 0 ks_F := by
  refine ks_enterR RX1 (by decide) rfl (Nat.le_of_ble_eq_true rfl) ?_
  intro p e s m below meth c ls hb hml hr hlocks C hP hl
  obtain ⟨hx, hown, hts, hK⟩ := id C
  have hl : lv_has ls 3 [(0, .ref h)] := hl
  refine lv_iconst (v := 0) hx hb dX1_alive_0 (by decide) ?_
  refine lv_istore_n (lv' := [(1, .int 0), (0, .ref h)]) hx hb dX1_alive_1 rfl hl (by decide) rfl (fun ls hl => ?_)
  refine lv_iconst (v := 0) hx hb dX1_alive_2 (by decide) ?_
  refine lv_istore_n (lv' := [(2, .int 0), (1, .int 0), (0, .ref h)]) hx hb dX1_alive_3 rfl hl (by decide) rfl (fun ls hl => ?_)
  refine al1_loop C hb hP 8 0 0 (by decide) ls (lv_sub hl [2, 1, 0] rfl) (fun ls hl => ?_)
  refine lv_iload_n hx hb dX1_alive_28 rfl (lv_at hl 0 rfl) ?_
  exact ks_rret hx hb hr hlocks dX1_alive_29 rfl
end
section
/-! part 10: contracts of the model: leaves -/
theorem mo_gen_at {S : ks_St} {u slot : Int32} (h : ¬ mo_genuine S u slot = 0) : vp_in (u * 8 + slot) 16 := by
  unfold mo_genuine at h
  by_cases a : 0 ≤ mo_refusal u slot
  · exact mo_at a
  · rw [if_neg a] at h; exact absurd rfl h
theorem mo_ref3 (u k : Int32) : mo_refusal u k = 0 ∨ mo_refusal u k = -1 ∨ mo_refusal u k = -2 := by
  unfold mo_refusal
  by_cases a : u = 0
  · rw [if_pos a]
    by_cases b : k < 0
    · rw [if_pos b]; exact Or.inr (Or.inr rfl)
    · rw [if_neg b]
      by_cases d : k ≤ 7
      · rw [if_pos d]; exact Or.inl rfl
      · rw [if_neg d]; exact Or.inr (Or.inr rfl)
  · rw [if_neg a]
    by_cases a1 : u = 1
    · rw [if_pos a1]
      by_cases b : k < 0
      · rw [if_pos b]; exact Or.inr (Or.inr rfl)
      · rw [if_neg b]
        by_cases d : k ≤ 7
        · rw [if_pos d]; exact Or.inl rfl
        · rw [if_neg d]; exact Or.inr (Or.inr rfl)
    · rw [if_neg a1]; exact Or.inr (Or.inl rfl)
theorem mo_ref0 {u k : Int32} (h : ¬ mo_refusal u k = 0) : ¬ 0 ≤ mo_refusal u k := by
  rcases mo_ref3 u k with e | e | e
  · exact absurd e h
  · rw [e]; decide
  · rw [e]; decide
theorem ks_u0 {u : Int32} (h : u = 0) : vp_in u 2 := by rw [h]; exact vp_in_nI (n := 0) (by decide) (by decide)
theorem ks_u1 {u : Int32} (h : u = 1) : vp_in u 2 := by rw [h]; exact vp_in_nI (n := 1) (by decide) (by decide)
set_option maxHeartbeats 4000000 in
set_option maxRecDepth 100000 in
theorem m2_refusal (l : Launch) (D : va_G) (h : Nat) (ad : Nat → Nat) (ca : Nat → ClassId) (S : ks_St) (u slot : Int32) : Met l yX2_refusal (ws_ yX2_refusal cX2_refusal 3 (some .int)) ({ frames := 0, cells := 0, slots := 0, locals := 0 }) (ks_R D (w2_ h ad ca S) (t2_ ca) [.ref h, .int u, .int slot]) (QcRead (mo_refusal u slot)) 0 0 ks_F := by
  refine ks_enterR RX2 (by decide) rfl (Nat.le_of_ble_eq_true rfl) ?_
  intro p e s m below meth c ls hb hml hr hlocks C hP hl
  obtain ⟨hx, hown, hts, hK⟩ := id C
  have hl : lv_has ls 3 [(0, .ref h), (1, .int u), (2, .int slot)] := hl
  refine lv_iload_n hx hb dX2_refusal_0 rfl (lv_at hl 1 rfl) ?_
  refine lv_if_eq (tgt := 11) hx hb dX2_refusal_1 (by decide) (fun c_1 => ?_) (fun c_1 => ?_)
  · refine lv_iload_n hx hb dX2_refusal_11 rfl (lv_at hl 2 rfl) ?_
    refine lv_if_lt (tgt := 21) hx hb dX2_refusal_12 (by decide) (fun c_2 => ?_) (fun c_2 => ?_)
    · refine lv_bipush (v := (-2)) hx hb dX2_refusal_21 (by decide) ?_
      refine lv_goto (tgt := 27) hx hb dX2_refusal_23 (by decide) ?_
      exact ks_rret hx hb hr hlocks dX2_refusal_27 (by unfold mo_refusal; rw [if_pos c_1, if_pos c_2]; try rfl)
    · refine lv_iload_n hx hb dX2_refusal_15 rfl (lv_at hl 2 rfl) ?_
      refine lv_bipush (v := 7) hx hb dX2_refusal_16 (by decide) ?_
      refine lv_icmp_le (tgt := 26) hx hb dX2_refusal_18 (by decide) (fun c_3 => ?_) (fun c_3 => ?_)
      · refine lv_iconst (v := 0) hx hb dX2_refusal_26 (by decide) ?_
        exact ks_rret hx hb hr hlocks dX2_refusal_27 (by unfold mo_refusal; rw [if_pos c_1, if_neg c_2, if_pos c_3]; try rfl)
      · refine lv_bipush (v := (-2)) hx hb dX2_refusal_21 (by decide) ?_
        refine lv_goto (tgt := 27) hx hb dX2_refusal_23 (by decide) ?_
        exact ks_rret hx hb hr hlocks dX2_refusal_27 (by unfold mo_refusal; rw [if_pos c_1, if_neg c_2, if_neg c_3]; try rfl)
  · refine lv_iload_n hx hb dX2_refusal_4 rfl (lv_at hl 1 rfl) ?_
    refine lv_iconst (v := 1) hx hb dX2_refusal_5 (by decide) ?_
    refine lv_icmp_eq (tgt := 11) hx hb dX2_refusal_6 (by decide) (fun c_4 => ?_) (fun c_4 => ?_)
    · refine lv_iload_n hx hb dX2_refusal_11 rfl (lv_at hl 2 rfl) ?_
      refine lv_if_lt (tgt := 21) hx hb dX2_refusal_12 (by decide) (fun c_5 => ?_) (fun c_5 => ?_)
      · refine lv_bipush (v := (-2)) hx hb dX2_refusal_21 (by decide) ?_
        refine lv_goto (tgt := 27) hx hb dX2_refusal_23 (by decide) ?_
        exact ks_rret hx hb hr hlocks dX2_refusal_27 (by unfold mo_refusal; rw [if_neg c_1, if_pos c_4, if_pos c_5]; try rfl)
      · refine lv_iload_n hx hb dX2_refusal_15 rfl (lv_at hl 2 rfl) ?_
        refine lv_bipush (v := 7) hx hb dX2_refusal_16 (by decide) ?_
        refine lv_icmp_le (tgt := 26) hx hb dX2_refusal_18 (by decide) (fun c_6 => ?_) (fun c_6 => ?_)
        · refine lv_iconst (v := 0) hx hb dX2_refusal_26 (by decide) ?_
          exact ks_rret hx hb hr hlocks dX2_refusal_27 (by unfold mo_refusal; rw [if_neg c_1, if_pos c_4, if_neg c_5, if_pos c_6]; try rfl)
        · refine lv_bipush (v := (-2)) hx hb dX2_refusal_21 (by decide) ?_
          refine lv_goto (tgt := 27) hx hb dX2_refusal_23 (by decide) ?_
          exact ks_rret hx hb hr hlocks dX2_refusal_27 (by unfold mo_refusal; rw [if_neg c_1, if_pos c_4, if_neg c_5, if_neg c_6]; try rfl)
    · refine lv_iconst (v := (-1)) hx hb dX2_refusal_9 (by decide) ?_
      exact ks_rret hx hb hr hlocks dX2_refusal_10 (by unfold mo_refusal; rw [if_neg c_1, if_neg c_4]; try rfl)
set_option maxHeartbeats 4000000 in
set_option maxRecDepth 100000 in
theorem m2_answered (l : Launch) (D : va_G) (h : Nat) (ad : Nat → Nat) (ca : Nat → ClassId) (S : ks_St) (sz : Nat) (u a : Int32) (hu : vp_in u 2) : Met l yX2_answered (ws_ yX2_answered cX2_answered 3 (some .int)) ({ frames := 0, cells := 0, slots := 0, locals := 0 }) (ks_P D (w2_ h ad ca S) (t2_ ca) sz [.ref h, .int u, .int a]) (ks_Qi D a (w2_ h ad ca (mo_answered S u a)) (va_A (w2_ h ad ca S) sz)) 0 0 (va_A (w2_ h ad ca S) sz) := by
  refine ks_enter (Qc := ks_Qi D a (w2_ h ad ca (mo_answered S u a))) RX2 (by decide) rfl (Nat.le_of_ble_eq_true rfl) ?_
  intro p e s m below meth c A ls hb hml hr hlocks hnm C hA hW hl
  obtain ⟨hx, hown, hts, hK⟩ := id C
  have hl : lv_has ls 3 [(0, .ref h), (1, .int u), (2, .int a)] := hl
  refine lv_aload_n hx hb dX2_answered_0 rfl (lv_at hl 0 rfl) ?_
  refine x2_get C hb hW.1 9 (by decide) q199 (fun _ h9 => h9) rfl dX2_answered_1 ?_
  refine lv_iload_n hx hb dX2_answered_4 rfl (lv_at hl 1 rfl) ?_
  refine lv_iconst (v := 1) hx hb dX2_answered_5 (by decide) ?_
  refine ks_zst (ad := ad) (ca := ca) (S := S) (k := 9) (wf := w2_ h ad ca) (y := 1) C hb hW x2_a9 x2_t9 x2_s9 hu rfl dX2_answered_6 (fun S_1 eS_1 H locs hW => ?_)
  refine lv_aload_n hx hb dX2_answered_7 rfl (lv_at hl 0 rfl) ?_
  refine x2_get C hb hW.1 10 (by decide) q200 (fun _ h9 => h9) rfl dX2_answered_8 ?_
  refine lv_iload_n hx hb dX2_answered_11 rfl (lv_at hl 1 rfl) ?_
  refine lv_iload_n hx hb dX2_answered_12 rfl (lv_at hl 2 rfl) ?_
  refine ks_ist (ad := ad) (ca := ca) (S := S_1) (k := 10) (wf := w2_ h ad ca) C hb hW x2_a10 x2_t10 x2_s10 hu dX2_answered_13 (fun S_2 eS_2 H locs hW => ?_)
  refine lv_iload_n hx hb dX2_answered_14 rfl (lv_at hl 2 rfl) ?_
  exact ks_iret hx hb hr hlocks hW dX2_answered_15 (by subst eS_2; subst eS_1; try rfl) (congrArg (w2_ h ad ca) (by subst eS_2; subst eS_1; try rfl))
set_option maxHeartbeats 4000000 in
set_option maxRecDepth 100000 in
theorem m2_give (l : Launch) (D : va_G) (h : Nat) (ad : Nat → Nat) (ca : Nat → ClassId) (S : ks_St) (sz : Nat) (at_ o r : Int32) (hat : vp_in at_ 16) (ho : vp_in o 8) : Met l yX2_give (ws_ yX2_give cX2_give 4 none) ({ frames := 0, cells := 0, slots := 0, locals := 0 }) (ks_P D (w2_ h ad ca S) (t2_ ca) sz [.ref h, .int at_, .int o, .int r]) (ks_Qv D (w2_ h ad ca (mo_give S at_ o r)) (va_A (w2_ h ad ca S) sz)) 0 0 (va_A (w2_ h ad ca S) sz) := by
  refine ks_enter (Qc := ks_Qv D (w2_ h ad ca (mo_give S at_ o r))) RX2 (by decide) rfl (Nat.le_of_ble_eq_true rfl) ?_
  intro p e s m below meth c A ls hb hml hr hlocks hnm C hA hW hl
  obtain ⟨hx, hown, hts, hK⟩ := id C
  have hl : lv_has ls 4 [(0, .ref h), (1, .int at_), (2, .int o), (3, .int r)] := hl
  refine lv_aload_n hx hb dX2_give_0 rfl (lv_at hl 0 rfl) ?_
  refine x2_get C hb hW.1 3 (by decide) q193 (fun _ h9 => h9) rfl dX2_give_1 ?_
  refine lv_iload_n hx hb dX2_give_4 rfl (lv_at hl 1 rfl) ?_
  refine lv_iconst (v := 1) hx hb dX2_give_5 (by decide) ?_
  refine ks_zst (ad := ad) (ca := ca) (S := S) (k := 3) (wf := w2_ h ad ca) (y := 1) C hb hW x2_a3 x2_t3 x2_s3 hat rfl dX2_give_6 (fun S_1 eS_1 H locs hW => ?_)
  refine lv_aload_n hx hb dX2_give_7 rfl (lv_at hl 0 rfl) ?_
  refine x2_get C hb hW.1 4 (by decide) q194 (fun _ h9 => h9) rfl dX2_give_8 ?_
  refine lv_iload_n hx hb dX2_give_11 rfl (lv_at hl 1 rfl) ?_
  refine lv_iload_n hx hb dX2_give_12 rfl (lv_at hl 2 rfl) ?_
  refine ks_ist (ad := ad) (ca := ca) (S := S_1) (k := 4) (wf := w2_ h ad ca) C hb hW x2_a4 x2_t4 x2_s4 hat dX2_give_13 (fun S_2 eS_2 H locs hW => ?_)
  refine lv_aload_n hx hb dX2_give_14 rfl (lv_at hl 0 rfl) ?_
  refine x2_get C hb hW.1 5 (by decide) q195 (fun _ h9 => h9) rfl dX2_give_15 ?_
  refine lv_iload_n hx hb dX2_give_18 rfl (lv_at hl 1 rfl) ?_
  refine lv_iload_n hx hb dX2_give_19 rfl (lv_at hl 3 rfl) ?_
  refine ks_ist (ad := ad) (ca := ca) (S := S_2) (k := 5) (wf := w2_ h ad ca) C hb hW x2_a5 x2_t5 x2_s5 hat dX2_give_20 (fun S_3 eS_3 H locs hW => ?_)
  refine lv_aload_n hx hb dX2_give_21 rfl (lv_at hl 0 rfl) ?_
  refine x2_get C hb hW.1 6 (by decide) q196 (fun _ h9 => h9) rfl dX2_give_22 ?_
  refine lv_iload_n hx hb dX2_give_25 rfl (lv_at hl 1 rfl) ?_
  refine lv_aload_n hx hb dX2_give_26 rfl (lv_at hl 0 rfl) ?_
  refine x2_get C hb hW.1 2 (by decide) q192 (fun _ h9 => h9) rfl dX2_give_27 ?_
  refine lv_iload_n hx hb dX2_give_30 rfl (lv_at hl 2 rfl) ?_
  refine ks_ild (ad := ad) (ca := ca) (S := S_3) (k := 2) C hb hW.1 x2_a2 x2_t2 ho dX2_give_31 ?_
  refine ks_ist (ad := ad) (ca := ca) (S := S_3) (k := 6) (wf := w2_ h ad ca) C hb hW x2_a6 x2_t6 x2_s6 hat dX2_give_32 (fun S_4 eS_4 H locs hW => ?_)
  refine lv_aload_n hx hb dX2_give_33 rfl (lv_at hl 0 rfl) ?_
  refine x2_get C hb hW.1 7 (by decide) q197 (fun _ h9 => h9) rfl dX2_give_34 ?_
  refine lv_iload_n hx hb dX2_give_37 rfl (lv_at hl 1 rfl) ?_
  refine lv_iload_n hx hb dX2_give_38 rfl (lv_at hl 2 rfl) ?_
  refine ks_ist (ad := ad) (ca := ca) (S := S_4) (k := 7) (wf := w2_ h ad ca) C hb hW x2_a7 x2_t7 x2_s7 hat dX2_give_39 (fun S_5 eS_5 H locs hW => ?_)
  refine lv_aload_n hx hb dX2_give_40 rfl (lv_at hl 0 rfl) ?_
  refine x2_get C hb hW.1 8 (by decide) q198 (fun _ h9 => h9) rfl dX2_give_41 ?_
  refine lv_iload_n hx hb dX2_give_44 rfl (lv_at hl 1 rfl) ?_
  refine lv_iload_n hx hb dX2_give_45 rfl (lv_at hl 3 rfl) ?_
  refine ks_ist (ad := ad) (ca := ca) (S := S_5) (k := 8) (wf := w2_ h ad ca) C hb hW x2_a8 x2_t8 x2_s8 hat dX2_give_46 (fun S_6 eS_6 H locs hW => ?_)
  exact ks_vret hx hb hr hlocks hW dX2_give_47 (congrArg (w2_ h ad ca) (by subst eS_6; subst eS_5; subst eS_4; subst eS_3; subst eS_2; subst eS_1; unfold mo_give; try rfl))
set_option maxHeartbeats 4000000 in
set_option maxRecDepth 100000 in
theorem m2_genuine (l : Launch) (D : va_G) (h : Nat) (ad : Nat → Nat) (ca : Nat → ClassId) (S : ks_St) (u slot : Int32) (hok : mo_ok S) : Met l yX2_genuine (ws_ yX2_genuine cX2_genuine 4 (some .boolean)) ({ frames := 1, cells := 0, slots := 0, locals := 22 }) (ks_R D (w2_ h ad ca S) (t2_ ca) [.ref h, .int u, .int slot]) (QcRead (mo_genuine S u slot)) 0 0 ks_F := by
  refine ks_enterR RX2 (by decide) rfl (Nat.le_of_ble_eq_true rfl) ?_
  intro p e s m below meth c ls hb hml hr hlocks C hP hl
  obtain ⟨hx, hown, hts, hK⟩ := id C
  have hl : lv_has ls 4 [(0, .ref h), (1, .int u), (2, .int slot)] := hl
  refine lv_aload_n hx hb dX2_genuine_0 rfl (lv_at hl 0 rfl) ?_
  refine lv_iload_n hx hb dX2_genuine_1 rfl (lv_at hl 1 rfl) ?_
  refine lv_iload_n hx hb dX2_genuine_2 rfl (lv_at hl 2 rfl) ?_
  refine ks_callR (C := RX2) (ci := 1) (As := [.int u, .int slot]) (rest := []) hx hb hml hown hts hK hP rfl x2_o rfl (m2_refusal l D h ad ca S u slot ) (cwV 2 hts (lw_V q228 q230 qs8 q14 q231) rfl rfl rfl (by decide +kernel) ⟨(Nat.le_of_ble_eq_true rfl), (Nat.le_of_ble_eq_true rfl)⟩) rfl hl.1 rfl (Nat.le_of_ble_eq_true rfl) dX2_genuine_3 ⟨Nat.zero_le _, Nat.zero_le _⟩ ?_
  refine lv_if_ge (tgt := 11) hx hb dX2_genuine_6 (by decide) (fun c_1 => ?_) (fun c_1 => ?_)
  · refine lv_iload_n hx hb dX2_genuine_11 rfl (lv_at hl 1 rfl) ?_
    refine lv_bipush (v := 8) hx hb dX2_genuine_12 (by decide) ?_
    refine lv_imul hx hb dX2_genuine_14 ?_
    refine lv_iload_n hx hb dX2_genuine_15 rfl (lv_at hl 2 rfl) ?_
    refine lv_iadd hx hb dX2_genuine_16 ?_
    refine lv_topi (fun x_2 ex_2 => ?_)
    refine lv_istore_n (lv' := [(3, .int x_2), (0, .ref h), (1, .int u), (2, .int slot)]) hx hb dX2_genuine_17 rfl hl (by decide) rfl (fun ls hl => ?_)
    refine lv_aload_n hx hb dX2_genuine_18 rfl (lv_at hl 1 rfl) ?_
    refine x2_get C hb hP 3 (by decide) q193 (fun _ h9 => h9) rfl dX2_genuine_19 ?_
    refine lv_iload_n hx hb dX2_genuine_22 rfl (lv_at hl 0 rfl) ?_
    refine ks_zld (ad := ad) (ca := ca) (S := S) (k := 3) C hb hP x2_a3 x2_t3 (show vp_in x_2 16 by rw [ex_2]; exact mo_at c_1) dX2_genuine_23 ?_
    refine lv_if_eq (tgt := 57) hx hb dX2_genuine_24 (by decide) (fun c_3 => ?_) (fun c_3 => ?_)
    · refine lv_iconst (v := 0) hx hb dX2_genuine_57 (by decide) ?_
      exact ks_zret hx hb hr hlocks dX2_genuine_58 rfl (by subst ex_2; unfold mo_genuine mo_gen; rw [if_pos c_1, if_pos c_3]; try rfl)
    · refine lv_aload_n hx hb dX2_genuine_27 rfl (lv_at hl 1 rfl) ?_
      refine x2_get C hb hP 7 (by decide) q197 (fun _ h9 => h9) rfl dX2_genuine_28 ?_
      refine lv_iload_n hx hb dX2_genuine_31 rfl (lv_at hl 0 rfl) ?_
      refine ks_ild (ad := ad) (ca := ca) (S := S) (k := 7) C hb hP x2_a7 x2_t7 (show vp_in x_2 16 by rw [ex_2]; exact mo_at c_1) dX2_genuine_32 ?_
      refine lv_aload_n hx hb dX2_genuine_33 rfl (lv_at hl 1 rfl) ?_
      refine x2_get C hb hP 4 (by decide) q194 (fun _ h9 => h9) rfl dX2_genuine_34 ?_
      refine lv_iload_n hx hb dX2_genuine_37 rfl (lv_at hl 0 rfl) ?_
      refine ks_ild (ad := ad) (ca := ca) (S := S) (k := 4) C hb hP x2_a4 x2_t4 (show vp_in x_2 16 by rw [ex_2]; exact mo_at c_1) dX2_genuine_38 ?_
      refine lv_icmp_ne (tgt := 57) hx hb dX2_genuine_39 (by decide) (fun c_4 => ?_) (fun c_4 => ?_)
      · refine lv_iconst (v := 0) hx hb dX2_genuine_57 (by decide) ?_
        exact ks_zret hx hb hr hlocks dX2_genuine_58 rfl (by subst ex_2; unfold mo_genuine mo_gen; rw [if_pos c_1, if_neg c_3, if_neg c_4]; try rfl)
      · refine lv_aload_n hx hb dX2_genuine_42 rfl (lv_at hl 1 rfl) ?_
        refine x2_get C hb hP 8 (by decide) q198 (fun _ h9 => h9) rfl dX2_genuine_43 ?_
        refine lv_iload_n hx hb dX2_genuine_46 rfl (lv_at hl 0 rfl) ?_
        refine ks_ild (ad := ad) (ca := ca) (S := S) (k := 8) C hb hP x2_a8 x2_t8 (show vp_in x_2 16 by rw [ex_2]; exact mo_at c_1) dX2_genuine_47 ?_
        refine lv_aload_n hx hb dX2_genuine_48 rfl (lv_at hl 1 rfl) ?_
        refine x2_get C hb hP 5 (by decide) q195 (fun _ h9 => h9) rfl dX2_genuine_49 ?_
        refine lv_iload_n hx hb dX2_genuine_52 rfl (lv_at hl 0 rfl) ?_
        refine ks_ild (ad := ad) (ca := ca) (S := S) (k := 5) C hb hP x2_a5 x2_t5 (show vp_in x_2 16 by rw [ex_2]; exact mo_at c_1) dX2_genuine_53 ?_
        refine lv_icmp_eq (tgt := 59) hx hb dX2_genuine_54 (by decide) (fun c_5 => ?_) (fun c_5 => ?_)
        · refine lv_aload_n hx hb dX2_genuine_59 rfl (lv_at hl 1 rfl) ?_
          refine x2_get C hb hP 0 (by decide) q190 (fun _ h9 => h9) rfl dX2_genuine_60 ?_
          refine lv_aload_n hx hb dX2_genuine_63 rfl (lv_at hl 1 rfl) ?_
          refine x2_get C hb hP 7 (by decide) q197 (fun _ h9 => h9) rfl dX2_genuine_64 ?_
          refine lv_iload_n hx hb dX2_genuine_67 rfl (lv_at hl 0 rfl) ?_
          refine ks_ild (ad := ad) (ca := ca) (S := S) (k := 7) C hb hP x2_a7 x2_t7 (show vp_in x_2 16 by rw [ex_2]; exact mo_at c_1) dX2_genuine_68 ?_
          refine ks_zld (ad := ad) (ca := ca) (S := S) (k := 0) C hb hP x2_a0 x2_t0 (hok _) dX2_genuine_69 ?_
          refine lv_if_eq (tgt := 97) hx hb dX2_genuine_70 (by decide) (fun c_6 => ?_) (fun c_6 => ?_)
          · refine lv_iconst (v := 0) hx hb dX2_genuine_97 (by decide) ?_
            exact ks_zret hx hb hr hlocks dX2_genuine_98 rfl (by subst ex_2; unfold mo_genuine mo_gen; rw [if_pos c_1, if_neg c_3, if_pos c_4, if_pos c_5, if_pos c_6]; try rfl)
          · refine lv_aload_n hx hb dX2_genuine_73 rfl (lv_at hl 1 rfl) ?_
            refine x2_get C hb hP 2 (by decide) q192 (fun _ h9 => h9) rfl dX2_genuine_74 ?_
            refine lv_aload_n hx hb dX2_genuine_77 rfl (lv_at hl 1 rfl) ?_
            refine x2_get C hb hP 7 (by decide) q197 (fun _ h9 => h9) rfl dX2_genuine_78 ?_
            refine lv_iload_n hx hb dX2_genuine_81 rfl (lv_at hl 0 rfl) ?_
            refine ks_ild (ad := ad) (ca := ca) (S := S) (k := 7) C hb hP x2_a7 x2_t7 (show vp_in x_2 16 by rw [ex_2]; exact mo_at c_1) dX2_genuine_82 ?_
            refine ks_ild (ad := ad) (ca := ca) (S := S) (k := 2) C hb hP x2_a2 x2_t2 (hok _) dX2_genuine_83 ?_
            refine lv_aload_n hx hb dX2_genuine_84 rfl (lv_at hl 1 rfl) ?_
            refine x2_get C hb hP 6 (by decide) q196 (fun _ h9 => h9) rfl dX2_genuine_85 ?_
            refine lv_iload_n hx hb dX2_genuine_88 rfl (lv_at hl 0 rfl) ?_
            refine ks_ild (ad := ad) (ca := ca) (S := S) (k := 6) C hb hP x2_a6 x2_t6 (show vp_in x_2 16 by rw [ex_2]; exact mo_at c_1) dX2_genuine_89 ?_
            refine lv_icmp_ne (tgt := 97) hx hb dX2_genuine_90 (by decide) (fun c_7 => ?_) (fun c_7 => ?_)
            · refine lv_iconst (v := 0) hx hb dX2_genuine_97 (by decide) ?_
              exact ks_zret hx hb hr hlocks dX2_genuine_98 rfl (by subst ex_2; unfold mo_genuine mo_gen; rw [if_pos c_1, if_neg c_3, if_pos c_4, if_pos c_5, if_neg c_6, if_neg c_7]; try rfl)
            · refine lv_iconst (v := 1) hx hb dX2_genuine_93 (by decide) ?_
              refine lv_goto (tgt := 98) hx hb dX2_genuine_94 (by decide) ?_
              exact ks_zret hx hb hr hlocks dX2_genuine_98 rfl (by subst ex_2; unfold mo_genuine mo_gen; rw [if_pos c_1, if_neg c_3, if_pos c_4, if_pos c_5, if_neg c_6, if_pos c_7]; try rfl)
        · refine lv_iconst (v := 0) hx hb dX2_genuine_57 (by decide) ?_
          exact ks_zret hx hb hr hlocks dX2_genuine_58 rfl (by subst ex_2; unfold mo_genuine mo_gen; rw [if_pos c_1, if_neg c_3, if_pos c_4, if_neg c_5]; try rfl)
  · refine lv_iconst (v := 0) hx hb dX2_genuine_9 (by decide) ?_
    exact ks_zret hx hb hr hlocks dX2_genuine_10 rfl (by unfold mo_genuine mo_gen; rw [if_neg c_1]; try rfl)
set_option maxHeartbeats 4000000 in
set_option maxRecDepth 100000 in
theorem m2_allows (l : Launch) (D : va_G) (h : Nat) (ad : Nat → Nat) (ca : Nat → ClassId) (S : ks_St) (u slot right : Int32) (hok : mo_ok S) : Met l yX2_allows (ws_ yX2_allows cX2_allows 4 (some .boolean)) ({ frames := 2, cells := 0, slots := 0, locals := 45 }) (ks_R D (w2_ h ad ca S) (t2_ ca) [.ref h, .int u, .int slot, .int right]) (QcRead (mo_allows S u slot right)) 0 0 ks_F := by
  refine ks_enterR RX2 (by decide) rfl (Nat.le_of_ble_eq_true rfl) ?_
  intro p e s m below meth c ls hb hml hr hlocks C hP hl
  obtain ⟨hx, hown, hts, hK⟩ := id C
  have hl : lv_has ls 4 [(0, .ref h), (1, .int u), (2, .int slot), (3, .int right)] := hl
  refine lv_aload_n hx hb dX2_allows_0 rfl (lv_at hl 0 rfl) ?_
  refine lv_iload_n hx hb dX2_allows_1 rfl (lv_at hl 1 rfl) ?_
  refine lv_iload_n hx hb dX2_allows_2 rfl (lv_at hl 2 rfl) ?_
  refine ks_callR (C := RX2) (ci := 1) (As := [.int u, .int slot]) (rest := []) hx hb hml hown hts hK hP rfl x2_o rfl (m2_genuine l D h ad ca S u slot hok) (cwV 2 hts (lw_V q248 q249 q250 q14 q251) rfl rfl rfl (by decide +kernel) ⟨(Nat.le_of_ble_eq_true rfl), (Nat.le_of_ble_eq_true rfl)⟩) rfl hl.1 rfl (Nat.le_of_ble_eq_true rfl) dX2_allows_3 ⟨Nat.zero_le _, Nat.zero_le _⟩ ?_
  refine lv_if_eq (tgt := 30) hx hb dX2_allows_6 (by decide) (fun c_1 => ?_) (fun c_1 => ?_)
  · refine lv_iconst (v := 0) hx hb dX2_allows_30 (by decide) ?_
    exact ks_zret hx hb hr hlocks dX2_allows_31 rfl (by unfold mo_allows; rw [if_pos c_1]; try rfl)
  · refine lv_aload_n hx hb dX2_allows_9 rfl (lv_at hl 0 rfl) ?_
    refine x2_get C hb hP 8 (by decide) q198 (fun _ h9 => h9) rfl dX2_allows_10 ?_
    refine lv_iload_n hx hb dX2_allows_13 rfl (lv_at hl 1 rfl) ?_
    refine lv_bipush (v := 8) hx hb dX2_allows_14 (by decide) ?_
    refine lv_imul hx hb dX2_allows_16 ?_
    refine lv_iload_n hx hb dX2_allows_17 rfl (lv_at hl 2 rfl) ?_
    refine lv_iadd hx hb dX2_allows_18 ?_
    refine ks_ild (ad := ad) (ca := ca) (S := S) (k := 8) C hb hP x2_a8 x2_t8 (mo_gen_at c_1) dX2_allows_19 ?_
    refine lv_iload_n hx hb dX2_allows_20 rfl (lv_at hl 3 rfl) ?_
    refine lv_iand hx hb dX2_allows_21 ?_
    refine lv_iload_n hx hb dX2_allows_22 rfl (lv_at hl 3 rfl) ?_
    refine lv_icmp_ne (tgt := 30) hx hb dX2_allows_23 (by decide) (fun c_2 => ?_) (fun c_2 => ?_)
    · refine lv_iconst (v := 0) hx hb dX2_allows_30 (by decide) ?_
      exact ks_zret hx hb hr hlocks dX2_allows_31 rfl (by unfold mo_allows; rw [if_neg c_1, if_neg c_2]; try rfl)
    · refine lv_iconst (v := 1) hx hb dX2_allows_26 (by decide) ?_
      refine lv_goto (tgt := 31) hx hb dX2_allows_27 (by decide) ?_
      exact ks_zret hx hb hr hlocks dX2_allows_31 rfl (by unfold mo_allows; rw [if_neg c_1, if_pos c_2]; try rfl)
end
section
/-! part 11: contracts of the model: its public methods -/
set_option maxHeartbeats 4000000 in
theorem cr_loop {p : Program} {l : Launch} {e : Env} {R : Room} {s : State} {m : MethodId} {args : Array Value} {below : List Frame} {meth : Method} {c : Code} {H : Heap} {locs : List Loc} {cells slots : Nat} {Q : State → Prop} {D : va_G} {h : Nat} {ad : Nat → Nat} {ca : Nat → ClassId} {S : ks_St} {u slot no : Int32}
    (C : ks_K RX2 D (t2_ ca) p s m args) (hb : c.code = cX2_create) (hP : va_P D vwCl (w2_ h ad ca S) H) :
    ∀ (n i : Nat), i + n = 8 → ∀ (ls : Array Slot), lv_has ls 5 [(0, .ref h), (1, .int u), (2, .int slot), (3, .int no), (4, .int (nI i))] →
      (∀ ls : Array Slot, sv_find (S 0) n i < 8 → lv_has ls 5 [(0, .ref h), (1, .int u), (2, .int slot), (3, .int no), (4, .int (nI (sv_find (S 0) n i)))] → W p l e R s m args below meth c H locs cells slots Q (F0 m 33 ls [])) →
      (∀ ls : Array Slot, sv_find (S 0) n i = 8 → lv_has ls 5 [(0, .ref h), (1, .int u), (2, .int slot), (3, .int no)] → W p l e R s m args below meth c H locs cells slots Q (F0 m 88 ls [])) →
      W p l e R s m args below meth c H locs cells slots Q (F0 m 16 ls []) := by
  have hx := C.1
  intro n
  induction n with
  | zero =>
    intro i hi ls hl K1 K2
    refine lv_iload hx hb dX2_create_16 (lv_at hl 4 rfl) ?_
    refine lv_bipush (v := 8) hx hb dX2_create_18 (by decide) ?_
    refine lv_icmp_ge (tgt := 88) hx hb dX2_create_20 (by decide) (fun c_1 => ?_) (fun c_1 => ?_)
    · exact K2 ls (by rw [sv_find]; omega) (lv_sub hl [0, 1, 2, 3] rfl)
    · exact absurd (nI_le (a := 8) (b := i) (by omega) (by omega)) c_1
  | succ n ih =>
    intro i hi ls hl K1 K2
    refine lv_iload hx hb dX2_create_16 (lv_at hl 4 rfl) ?_
    refine lv_bipush (v := 8) hx hb dX2_create_18 (by decide) ?_
    refine lv_icmp_ge (tgt := 88) hx hb dX2_create_20 (by decide) (fun c_1 => ?_) (fun c_1 => ?_)
    · exact absurd c_1 (nI_ge (a := i) (b := 8) (by omega) (by decide))
    · refine lv_aload_n hx hb dX2_create_23 rfl (lv_at hl 0 rfl) ?_
      refine x2_get C hb hP 0 (by decide) q190 (fun _ h9 => h9) rfl dX2_create_24 ?_
      refine lv_iload hx hb dX2_create_27 (lv_at hl 4 rfl) ?_
      refine ks_zld (ad := ad) (ca := ca) (S := S) (k := 0) C hb hP x2_a0 x2_t0 (vp_in_nI (n := i) (N := 8) (by omega) (by decide)) dX2_create_29 ?_
      refine lv_if_ne (tgt := 82) hx hb dX2_create_30 (by decide) (fun c_2 => ?_) (fun c_2 => ?_)
      · rw [nI_clamp (by omega)] at c_2
        refine lv_iinc (v := nI (i + 1)) (lv' := [(4, .int (nI (i + 1))), (0, .ref h), (1, .int u), (2, .int slot), (3, .int no)]) hx hb dX2_create_82 hl (k := 4) rfl (nI_1 i) (by decide) rfl (fun ls hl => ?_)
        refine lv_goto (tgt := 16) hx hb dX2_create_85 (by decide) ?_
        refine ih (i + 1) (by omega) ls (lv_sub hl [1, 2, 3, 4, 0] rfl) (fun ls hf hl => K1 ls ?_ ?_) (fun ls hf hl => K2 ls ?_ hl)
        · rw [sv_find, if_neg c_2]; exact hf
        · rw [sv_find, if_neg c_2]; exact hl
        · rw [sv_find, if_neg c_2]; exact hf
      · rw [nI_clamp (by omega)] at c_2
        refine K1 ls ?_ ?_
        · rw [sv_find, if_pos c_2]; omega
        · rw [sv_find, if_pos c_2]; exact hl
set_option maxHeartbeats 4000000 in
set_option maxRecDepth 100000 in
theorem m2_create (l : Launch) (D : va_G) (h : Nat) (ad : Nat → Nat) (ca : Nat → ClassId) (S : ks_St) (sz : Nat) (u slot : Int32) : Met l yX2_create (ws_ yX2_create cX2_create 5 (some .int)) ({ frames := 1, cells := 0, slots := 0, locals := 23 }) (ks_P D (w2_ h ad ca S) (t2_ ca) sz [.ref h, .int u, .int slot]) (ks_Qi D (mo_create S u slot).1 (w2_ h ad ca (mo_create S u slot).2) (va_A (w2_ h ad ca S) sz)) 0 0 (va_A (w2_ h ad ca S) sz) := by
  refine ks_enter (Qc := ks_Qi D (mo_create S u slot).1 (w2_ h ad ca (mo_create S u slot).2)) RX2 (by decide) rfl (Nat.le_of_ble_eq_true rfl) ?_
  intro p e s m below meth c A ls hb hml hr hlocks hnm C hA hW hl
  obtain ⟨hx, hown, hts, hK⟩ := id C
  have hl : lv_has ls 5 [(0, .ref h), (1, .int u), (2, .int slot)] := hl
  refine lv_aload_n hx hb dX2_create_0 rfl (lv_at hl 0 rfl) ?_
  refine lv_iload_n hx hb dX2_create_1 rfl (lv_at hl 1 rfl) ?_
  refine lv_iload_n hx hb dX2_create_2 rfl (lv_at hl 2 rfl) ?_
  refine ks_callR (C := RX2) (ci := 1) (As := [.int u, .int slot]) (rest := []) hx hb hml hown hts hK hW.1 rfl x2_o rfl (m2_refusal l D h ad ca S u slot ) (cwV 2 hts (lw_V q228 q230 qs8 q14 q231) rfl rfl rfl (by decide +kernel) ⟨(Nat.le_of_ble_eq_true rfl), (Nat.le_of_ble_eq_true rfl)⟩) rfl hl.1 rfl (Nat.le_of_ble_eq_true rfl) dX2_create_3 ⟨Nat.zero_le _, Nat.zero_le _⟩ ?_
  refine lv_topi (fun x_1 ex_1 => ?_)
  refine lv_istore_n (lv' := [(3, .int x_1), (0, .ref h), (1, .int u), (2, .int slot)]) hx hb dX2_create_6 rfl hl (by decide) rfl (fun ls hl => ?_)
  refine lv_iload_n hx hb dX2_create_7 rfl (lv_at hl 0 rfl) ?_
  refine lv_if_ge (tgt := 13) hx hb dX2_create_8 (by decide) (fun c_2 => ?_) (fun c_2 => ?_)
  · have hno : 0 ≤ mo_refusal u slot := by rw [← ex_1]; exact c_2
    have hat := mo_at hno
    have hu := (mo_rng hno).1
    refine lv_iconst (v := 0) hx hb dX2_create_13 (by decide) ?_
    refine lv_istore (lv' := [(4, .int 0), (3, .int x_1), (0, .ref h), (1, .int u), (2, .int slot)]) hx hb dX2_create_14 hl (by decide) rfl (fun ls hl => ?_)
    refine cr_loop C hb hW.1 8 0 (by decide) ls (lv_sub hl [2, 3, 4, 1, 0] rfl) (fun ls hf hl => ?_) (fun ls hf hl => ?_)
    · obtain ⟨o, eo⟩ : ∃ z : Int32, z = nI (sv_find (S 0) 8 0) := ⟨_, rfl⟩
      have ho : vp_in o 8 := by rw [eo]; exact vp_in_nI hf (by decide)
      have c_o : ¬ o = 8 := by rw [eo]; exact fun h8 => Nat.ne_of_lt hf ((nI_eq (by omega) (by decide)).mp h8)
      rw [← eo] at hl
      refine lv_aload_n hx hb dX2_create_33 rfl (lv_at hl 0 rfl) ?_
      refine x2_get C hb hW.1 0 (by decide) q190 (fun _ h9 => h9) rfl dX2_create_34 ?_
      refine lv_iload hx hb dX2_create_37 (lv_at hl 4 rfl) ?_
      refine lv_iconst (v := 1) hx hb dX2_create_39 (by decide) ?_
      refine ks_zst (ad := ad) (ca := ca) (S := S) (k := 0) (wf := w2_ h ad ca) (y := 1) C hb hW x2_a0 x2_t0 x2_s0 ho rfl dX2_create_40 (fun S_3 eS_3 H locs hW => ?_)
      refine lv_aload_n hx hb dX2_create_41 rfl (lv_at hl 0 rfl) ?_
      refine x2_get C hb hW.1 1 (by decide) q191 (fun _ h9 => h9) rfl dX2_create_42 ?_
      refine lv_iload hx hb dX2_create_45 (lv_at hl 4 rfl) ?_
      refine lv_iconst (v := 0) hx hb dX2_create_47 (by decide) ?_
      refine ks_ist (ad := ad) (ca := ca) (S := S_3) (k := 1) (wf := w2_ h ad ca) C hb hW x2_a1 x2_t1 x2_s1 ho dX2_create_48 (fun S_4 eS_4 H locs hW => ?_)
      refine lv_aload_n hx hb dX2_create_49 rfl (lv_at hl 0 rfl) ?_
      refine x2_get C hb hW.1 2 (by decide) q192 (fun _ h9 => h9) rfl dX2_create_50 ?_
      refine lv_iload hx hb dX2_create_53 (lv_at hl 4 rfl) ?_
      refine lv_dup2_11 hx hb dX2_create_55 rfl rfl ?_
      refine ks_ild (ad := ad) (ca := ca) (S := S_4) (k := 2) C hb hW.1 x2_a2 x2_t2 ho dX2_create_56 ?_
      refine lv_iconst (v := 1) hx hb dX2_create_57 (by decide) ?_
      refine lv_iadd hx hb dX2_create_58 ?_
      refine ks_ist (ad := ad) (ca := ca) (S := S_4) (k := 2) (wf := w2_ h ad ca) C hb hW x2_a2 x2_t2 x2_s2 ho dX2_create_59 (fun S_5 eS_5 H locs hW => ?_)
      refine lv_aload_n hx hb dX2_create_60 rfl (lv_at hl 0 rfl) ?_
      refine lv_iload_n hx hb dX2_create_61 rfl (lv_at hl 1 rfl) ?_
      refine lv_bipush (v := 8) hx hb dX2_create_62 (by decide) ?_
      refine lv_imul hx hb dX2_create_64 ?_
      refine lv_iload_n hx hb dX2_create_65 rfl (lv_at hl 2 rfl) ?_
      refine lv_iadd hx hb dX2_create_66 ?_
      refine lv_iload hx hb dX2_create_67 (lv_at hl 4 rfl) ?_
      refine lv_bipush (v := 15) hx hb dX2_create_69 (by decide) ?_
      refine ks_callV (C := RX2) (ci := 1) (As := [.int ((u * 8) + slot), .int o, .int 15]) (rest := []) hx hb hml hown hts hK hA hW rfl x2_o rfl (fun sz => m2_give l D h ad ca S_5 sz (((u * 8) + slot)) o 15 hat ho) (cwV 3 hts (lw_V q232 q234 qs9 q14 q235) rfl rfl rfl (by decide +kernel) ⟨(Nat.le_of_ble_eq_true rfl), (Nat.le_of_ble_eq_true rfl)⟩) rfl hl.1 rfl (Nat.le_of_ble_eq_true rfl) dX2_create_71 ⟨Nat.zero_le _, Nat.zero_le _⟩ (fun H locs hW => ?_)
      refine lv_aload_n hx hb dX2_create_74 rfl (lv_at hl 0 rfl) ?_
      refine lv_iload_n hx hb dX2_create_75 rfl (lv_at hl 1 rfl) ?_
      refine lv_iload hx hb dX2_create_76 (lv_at hl 4 rfl) ?_
      refine ks_callI (C := RX2) (ci := 1) (As := [.int u, .int o]) (rest := []) hx hb hml hown hts hK hA hW rfl x2_o rfl (fun sz => m2_answered l D h ad ca ((mo_give S_5 (((u * 8) + slot)) o 15)) sz u o hu) (cwV 2 hts (lw_V q236 q238 qs10 q14 q239) rfl rfl rfl (by decide +kernel) ⟨(Nat.le_of_ble_eq_true rfl), (Nat.le_of_ble_eq_true rfl)⟩) rfl hl.1 rfl (Nat.le_of_ble_eq_true rfl) dX2_create_78 ⟨Nat.zero_le _, Nat.zero_le _⟩ (fun H locs hW => ?_)
      exact ks_iret hx hb hr hlocks hW dX2_create_81 (by subst eS_5; subst eS_4; subst eS_3; subst eo; subst ex_1; unfold mo_create; rw [if_pos c_2, if_neg c_o]; try rfl) (congrArg (w2_ h ad ca) (by subst eS_5; subst eS_4; subst eS_3; subst eo; subst ex_1; unfold mo_create; rw [if_pos c_2, if_neg c_o]; try rfl))
    · have c_o : nI (sv_find (S 0) 8 0) = 8 := by rw [hf]; rfl
      refine lv_aload_n hx hb dX2_create_88 rfl (lv_at hl 0 rfl) ?_
      refine lv_iload_n hx hb dX2_create_89 rfl (lv_at hl 1 rfl) ?_
      refine lv_bipush (v := (-4)) hx hb dX2_create_90 (by decide) ?_
      refine ks_callI (C := RX2) (ci := 1) (As := [.int u, .int (-4)]) (rest := []) hx hb hml hown hts hK hA hW rfl x2_o rfl (fun sz => m2_answered l D h ad ca S sz u ((-4)) hu) (cwV 2 hts (lw_V q236 q238 qs10 q14 q239) rfl rfl rfl (by decide +kernel) ⟨(Nat.le_of_ble_eq_true rfl), (Nat.le_of_ble_eq_true rfl)⟩) rfl hl.1 rfl (Nat.le_of_ble_eq_true rfl) dX2_create_92 ⟨Nat.zero_le _, Nat.zero_le _⟩ (fun H locs hW => ?_)
      exact ks_iret hx hb hr hlocks hW dX2_create_95 (by subst ex_1; unfold mo_create; rw [if_pos c_2, if_pos c_o]; try rfl) (congrArg (w2_ h ad ca) (by subst ex_1; unfold mo_create; rw [if_pos c_2, if_pos c_o]; try rfl))
  · refine lv_iload_n hx hb dX2_create_11 rfl (lv_at hl 0 rfl) ?_
    exact ks_iret hx hb hr hlocks hW dX2_create_12 (by subst ex_1; unfold mo_create; rw [if_neg c_2]; try rfl) (congrArg (w2_ h ad ca) (by subst ex_1; unfold mo_create; rw [if_neg c_2]; try rfl))
set_option maxHeartbeats 4000000 in
set_option maxRecDepth 100000 in
theorem m2_read (l : Launch) (D : va_G) (h : Nat) (ad : Nat → Nat) (ca : Nat → ClassId) (S : ks_St) (sz : Nat) (u slot : Int32) (hok : mo_ok S) : Met l yX2_read (ws_ yX2_read cX2_read 4 (some .int)) ({ frames := 3, cells := 0, slots := 0, locals := 68 }) (ks_P D (w2_ h ad ca S) (t2_ ca) sz [.ref h, .int u, .int slot]) (ks_Qi D (mo_read S u slot).1 (w2_ h ad ca (mo_read S u slot).2) (va_A (w2_ h ad ca S) sz)) 0 0 (va_A (w2_ h ad ca S) sz) := by
  refine ks_enter (Qc := ks_Qi D (mo_read S u slot).1 (w2_ h ad ca (mo_read S u slot).2)) RX2 (by decide) rfl (Nat.le_of_ble_eq_true rfl) ?_
  intro p e s m below meth c A ls hb hml hr hlocks hnm C hA hW hl
  obtain ⟨hx, hown, hts, hK⟩ := id C
  have hl : lv_has ls 4 [(0, .ref h), (1, .int u), (2, .int slot)] := hl
  refine lv_aload_n hx hb dX2_read_0 rfl (lv_at hl 0 rfl) ?_
  refine lv_iload_n hx hb dX2_read_1 rfl (lv_at hl 1 rfl) ?_
  refine lv_iload_n hx hb dX2_read_2 rfl (lv_at hl 2 rfl) ?_
  refine ks_callR (C := RX2) (ci := 1) (As := [.int u, .int slot]) (rest := []) hx hb hml hown hts hK hW.1 rfl x2_o rfl (m2_refusal l D h ad ca S u slot ) (cwV 2 hts (lw_V q228 q230 qs8 q14 q231) rfl rfl rfl (by decide +kernel) ⟨(Nat.le_of_ble_eq_true rfl), (Nat.le_of_ble_eq_true rfl)⟩) rfl hl.1 rfl (Nat.le_of_ble_eq_true rfl) dX2_read_3 ⟨Nat.zero_le _, Nat.zero_le _⟩ ?_
  refine lv_topi (fun x_1 ex_1 => ?_)
  refine lv_istore_n (lv' := [(3, .int x_1), (0, .ref h), (1, .int u), (2, .int slot)]) hx hb dX2_read_6 rfl hl (by decide) rfl (fun ls hl => ?_)
  refine lv_iload_n hx hb dX2_read_7 rfl (lv_at hl 0 rfl) ?_
  refine lv_if_ge (tgt := 13) hx hb dX2_read_8 (by decide) (fun c_2 => ?_) (fun c_2 => ?_)
  · have hno : 0 ≤ mo_refusal u slot := by rw [← ex_1]; exact c_2
    have hat := mo_at hno
    have hu := (mo_rng hno).1
    refine lv_aload_n hx hb dX2_read_13 rfl (lv_at hl 1 rfl) ?_
    refine lv_iload_n hx hb dX2_read_14 rfl (lv_at hl 2 rfl) ?_
    refine lv_iload_n hx hb dX2_read_15 rfl (lv_at hl 3 rfl) ?_
    refine lv_iconst (v := 1) hx hb dX2_read_16 (by decide) ?_
    refine ks_callR (C := RX2) (ci := 1) (As := [.int u, .int slot, .int 1]) (rest := []) hx hb hml hown hts hK hW.1 rfl x2_o rfl (m2_allows l D h ad ca S u slot 1 hok) (cwV 3 hts (lw_V q244 q246 qs11 q14 q247) rfl rfl rfl (by decide +kernel) ⟨(Nat.le_of_ble_eq_true rfl), (Nat.le_of_ble_eq_true rfl)⟩) rfl hl.1 rfl (Nat.le_of_ble_eq_true rfl) dX2_read_17 ⟨Nat.zero_le _, Nat.zero_le _⟩ ?_
    refine lv_if_ne (tgt := 31) hx hb dX2_read_20 (by decide) (fun c_3 => ?_) (fun c_3 => ?_)
    · refine lv_aload_n hx hb dX2_read_31 rfl (lv_at hl 1 rfl) ?_
      refine lv_iload_n hx hb dX2_read_32 rfl (lv_at hl 2 rfl) ?_
      refine lv_aload_n hx hb dX2_read_33 rfl (lv_at hl 1 rfl) ?_
      refine x2_get C hb hW.1 1 (by decide) q191 (fun _ h9 => h9) rfl dX2_read_34 ?_
      refine lv_aload_n hx hb dX2_read_37 rfl (lv_at hl 1 rfl) ?_
      refine x2_get C hb hW.1 7 (by decide) q197 (fun _ h9 => h9) rfl dX2_read_38 ?_
      refine lv_iload_n hx hb dX2_read_41 rfl (lv_at hl 2 rfl) ?_
      refine lv_bipush (v := 8) hx hb dX2_read_42 (by decide) ?_
      refine lv_imul hx hb dX2_read_44 ?_
      refine lv_iload_n hx hb dX2_read_45 rfl (lv_at hl 3 rfl) ?_
      refine lv_iadd hx hb dX2_read_46 ?_
      refine ks_ild (ad := ad) (ca := ca) (S := S) (k := 7) C hb hW.1 x2_a7 x2_t7 hat dX2_read_47 ?_
      refine ks_ild (ad := ad) (ca := ca) (S := S) (k := 1) C hb hW.1 x2_a1 x2_t1 (hok _) dX2_read_48 ?_
      refine ks_callI (C := RX2) (ci := 1) (As := [.int u, .int (S 1 ((S 7 (((u * 8) + slot)).toNatClampNeg)).toNatClampNeg)]) (rest := []) hx hb hml hown hts hK hA hW rfl x2_o rfl (fun sz => m2_answered l D h ad ca S sz u ((S 1 ((S 7 (((u * 8) + slot)).toNatClampNeg)).toNatClampNeg)) hu) (cwV 2 hts (lw_V q236 q238 qs10 q14 q239) rfl rfl rfl (by decide +kernel) ⟨(Nat.le_of_ble_eq_true rfl), (Nat.le_of_ble_eq_true rfl)⟩) rfl hl.1 rfl (Nat.le_of_ble_eq_true rfl) dX2_read_49 ⟨Nat.zero_le _, Nat.zero_le _⟩ (fun H locs hW => ?_)
      exact ks_iret hx hb hr hlocks hW dX2_read_52 (by subst ex_1; unfold mo_read; rw [if_pos c_2, if_neg c_3]; try rfl) (congrArg (w2_ h ad ca) (by subst ex_1; unfold mo_read; rw [if_pos c_2, if_neg c_3]; try rfl))
    · refine lv_aload_n hx hb dX2_read_23 rfl (lv_at hl 1 rfl) ?_
      refine lv_iload_n hx hb dX2_read_24 rfl (lv_at hl 2 rfl) ?_
      refine lv_bipush (v := (-3)) hx hb dX2_read_25 (by decide) ?_
      refine ks_callI (C := RX2) (ci := 1) (As := [.int u, .int (-3)]) (rest := []) hx hb hml hown hts hK hA hW rfl x2_o rfl (fun sz => m2_answered l D h ad ca S sz u ((-3)) hu) (cwV 2 hts (lw_V q236 q238 qs10 q14 q239) rfl rfl rfl (by decide +kernel) ⟨(Nat.le_of_ble_eq_true rfl), (Nat.le_of_ble_eq_true rfl)⟩) rfl hl.1 rfl (Nat.le_of_ble_eq_true rfl) dX2_read_27 ⟨Nat.zero_le _, Nat.zero_le _⟩ (fun H locs hW => ?_)
      exact ks_iret hx hb hr hlocks hW dX2_read_30 (by subst ex_1; unfold mo_read; rw [if_pos c_2, if_pos c_3]; try rfl) (congrArg (w2_ h ad ca) (by subst ex_1; unfold mo_read; rw [if_pos c_2, if_pos c_3]; try rfl))
  · refine lv_iload_n hx hb dX2_read_11 rfl (lv_at hl 0 rfl) ?_
    exact ks_iret hx hb hr hlocks hW dX2_read_12 (by subst ex_1; unfold mo_read; rw [if_neg c_2]; try rfl) (congrArg (w2_ h ad ca) (by subst ex_1; unfold mo_read; rw [if_neg c_2]; try rfl))
set_option maxHeartbeats 4000000 in
set_option maxRecDepth 100000 in
theorem m2_add (l : Launch) (D : va_G) (h : Nat) (ad : Nat → Nat) (ca : Nat → ClassId) (S : ks_St) (sz : Nat) (u slot more : Int32) (hok : mo_ok S) : Met l yX2_add (ws_ yX2_add cX2_add 6 (some .int)) ({ frames := 3, cells := 0, slots := 0, locals := 68 }) (ks_P D (w2_ h ad ca S) (t2_ ca) sz [.ref h, .int u, .int slot, .int more]) (ks_Qi D (mo_add S u slot more).1 (w2_ h ad ca (mo_add S u slot more).2) (va_A (w2_ h ad ca S) sz)) 0 0 (va_A (w2_ h ad ca S) sz) := by
  refine ks_enter (Qc := ks_Qi D (mo_add S u slot more).1 (w2_ h ad ca (mo_add S u slot more).2)) RX2 (by decide) rfl (Nat.le_of_ble_eq_true rfl) ?_
  intro p e s m below meth c A ls hb hml hr hlocks hnm C hA hW hl
  obtain ⟨hx, hown, hts, hK⟩ := id C
  have hl : lv_has ls 6 [(0, .ref h), (1, .int u), (2, .int slot), (3, .int more)] := hl
  refine lv_aload_n hx hb dX2_add_0 rfl (lv_at hl 0 rfl) ?_
  refine lv_iload_n hx hb dX2_add_1 rfl (lv_at hl 1 rfl) ?_
  refine lv_iload_n hx hb dX2_add_2 rfl (lv_at hl 2 rfl) ?_
  refine ks_callR (C := RX2) (ci := 1) (As := [.int u, .int slot]) (rest := []) hx hb hml hown hts hK hW.1 rfl x2_o rfl (m2_refusal l D h ad ca S u slot ) (cwV 2 hts (lw_V q228 q230 qs8 q14 q231) rfl rfl rfl (by decide +kernel) ⟨(Nat.le_of_ble_eq_true rfl), (Nat.le_of_ble_eq_true rfl)⟩) rfl hl.1 rfl (Nat.le_of_ble_eq_true rfl) dX2_add_3 ⟨Nat.zero_le _, Nat.zero_le _⟩ ?_
  refine lv_topi (fun x_1 ex_1 => ?_)
  refine lv_istore (lv' := [(4, .int x_1), (0, .ref h), (1, .int u), (2, .int slot), (3, .int more)]) hx hb dX2_add_6 hl (by decide) rfl (fun ls hl => ?_)
  refine lv_iload hx hb dX2_add_8 (lv_at hl 0 rfl) ?_
  refine lv_if_ge (tgt := 16) hx hb dX2_add_10 (by decide) (fun c_2 => ?_) (fun c_2 => ?_)
  · have hno : 0 ≤ mo_refusal u slot := by rw [← ex_1]; exact c_2
    have hat := mo_at hno
    have hu := (mo_rng hno).1
    refine lv_aload_n hx hb dX2_add_16 rfl (lv_at hl 1 rfl) ?_
    refine lv_iload_n hx hb dX2_add_17 rfl (lv_at hl 2 rfl) ?_
    refine lv_iload_n hx hb dX2_add_18 rfl (lv_at hl 3 rfl) ?_
    refine lv_iconst (v := 2) hx hb dX2_add_19 (by decide) ?_
    refine ks_callR (C := RX2) (ci := 1) (As := [.int u, .int slot, .int 2]) (rest := []) hx hb hml hown hts hK hW.1 rfl x2_o rfl (m2_allows l D h ad ca S u slot 2 hok) (cwV 3 hts (lw_V q244 q246 qs11 q14 q247) rfl rfl rfl (by decide +kernel) ⟨(Nat.le_of_ble_eq_true rfl), (Nat.le_of_ble_eq_true rfl)⟩) rfl hl.1 rfl (Nat.le_of_ble_eq_true rfl) dX2_add_20 ⟨Nat.zero_le _, Nat.zero_le _⟩ ?_
    refine lv_if_ne (tgt := 34) hx hb dX2_add_23 (by decide) (fun c_3 => ?_) (fun c_3 => ?_)
    · refine lv_aload_n hx hb dX2_add_34 rfl (lv_at hl 1 rfl) ?_
      refine x2_get C hb hW.1 7 (by decide) q197 (fun _ h9 => h9) rfl dX2_add_35 ?_
      refine lv_iload_n hx hb dX2_add_38 rfl (lv_at hl 2 rfl) ?_
      refine lv_bipush (v := 8) hx hb dX2_add_39 (by decide) ?_
      refine lv_imul hx hb dX2_add_41 ?_
      refine lv_iload_n hx hb dX2_add_42 rfl (lv_at hl 3 rfl) ?_
      refine lv_iadd hx hb dX2_add_43 ?_
      refine ks_ild (ad := ad) (ca := ca) (S := S) (k := 7) C hb hW.1 x2_a7 x2_t7 hat dX2_add_44 ?_
      refine lv_topi (fun x_4 ex_4 => ?_)
      refine lv_istore (lv' := [(5, .int x_4), (4, .int x_1), (0, .ref h), (1, .int u), (2, .int slot), (3, .int more)]) hx hb dX2_add_45 hl (by decide) rfl (fun ls hl => ?_)
      refine lv_aload_n hx hb dX2_add_47 rfl (lv_at hl 2 rfl) ?_
      refine x2_get C hb hW.1 1 (by decide) q191 (fun _ h9 => h9) rfl dX2_add_48 ?_
      refine lv_iload hx hb dX2_add_51 (lv_at hl 0 rfl) ?_
      refine lv_dup2_11 hx hb dX2_add_53 rfl rfl ?_
      refine ks_ild (ad := ad) (ca := ca) (S := S) (k := 1) C hb hW.1 x2_a1 x2_t1 (show vp_in x_4 8 by rw [ex_4]; exact hok _) dX2_add_54 ?_
      refine lv_iload_n hx hb dX2_add_55 rfl (lv_at hl 5 rfl) ?_
      refine lv_iadd hx hb dX2_add_56 ?_
      refine ks_ist (ad := ad) (ca := ca) (S := S) (k := 1) (wf := w2_ h ad ca) C hb hW x2_a1 x2_t1 x2_s1 (show vp_in x_4 8 by rw [ex_4]; exact hok _) dX2_add_57 (fun S_5 eS_5 H locs hW => ?_)
      refine lv_aload_n hx hb dX2_add_58 rfl (lv_at hl 2 rfl) ?_
      refine lv_iload_n hx hb dX2_add_59 rfl (lv_at hl 3 rfl) ?_
      refine lv_aload_n hx hb dX2_add_60 rfl (lv_at hl 2 rfl) ?_
      refine x2_get C hb hW.1 1 (by decide) q191 (fun _ h9 => h9) rfl dX2_add_61 ?_
      refine lv_iload hx hb dX2_add_64 (lv_at hl 0 rfl) ?_
      refine ks_ild (ad := ad) (ca := ca) (S := S_5) (k := 1) C hb hW.1 x2_a1 x2_t1 (show vp_in x_4 8 by rw [ex_4]; exact hok _) dX2_add_66 ?_
      refine ks_callI (C := RX2) (ci := 1) (As := [.int u, .int (S_5 1 x_4.toNatClampNeg)]) (rest := []) hx hb hml hown hts hK hA hW rfl x2_o rfl (fun sz => m2_answered l D h ad ca S_5 sz u ((S_5 1 x_4.toNatClampNeg)) hu) (cwV 2 hts (lw_V q236 q238 qs10 q14 q239) rfl rfl rfl (by decide +kernel) ⟨(Nat.le_of_ble_eq_true rfl), (Nat.le_of_ble_eq_true rfl)⟩) rfl hl.1 rfl (Nat.le_of_ble_eq_true rfl) dX2_add_67 ⟨Nat.zero_le _, Nat.zero_le _⟩ (fun H locs hW => ?_)
      exact ks_iret hx hb hr hlocks hW dX2_add_70 (by subst eS_5; subst ex_4; subst ex_1; unfold mo_add mo_added; rw [if_pos c_2, if_neg c_3]; try rfl) (congrArg (w2_ h ad ca) (by subst eS_5; subst ex_4; subst ex_1; unfold mo_add mo_added; rw [if_pos c_2, if_neg c_3]; try rfl))
    · refine lv_aload_n hx hb dX2_add_26 rfl (lv_at hl 1 rfl) ?_
      refine lv_iload_n hx hb dX2_add_27 rfl (lv_at hl 2 rfl) ?_
      refine lv_bipush (v := (-3)) hx hb dX2_add_28 (by decide) ?_
      refine ks_callI (C := RX2) (ci := 1) (As := [.int u, .int (-3)]) (rest := []) hx hb hml hown hts hK hA hW rfl x2_o rfl (fun sz => m2_answered l D h ad ca S sz u ((-3)) hu) (cwV 2 hts (lw_V q236 q238 qs10 q14 q239) rfl rfl rfl (by decide +kernel) ⟨(Nat.le_of_ble_eq_true rfl), (Nat.le_of_ble_eq_true rfl)⟩) rfl hl.1 rfl (Nat.le_of_ble_eq_true rfl) dX2_add_30 ⟨Nat.zero_le _, Nat.zero_le _⟩ (fun H locs hW => ?_)
      exact ks_iret hx hb hr hlocks hW dX2_add_33 (by subst ex_1; unfold mo_add mo_added; rw [if_pos c_2, if_pos c_3]; try rfl) (congrArg (w2_ h ad ca) (by subst ex_1; unfold mo_add mo_added; rw [if_pos c_2, if_pos c_3]; try rfl))
  · refine lv_iload hx hb dX2_add_13 (lv_at hl 0 rfl) ?_
    exact ks_iret hx hb hr hlocks hW dX2_add_15 (by subst ex_1; unfold mo_add mo_added; rw [if_neg c_2]; try rfl) (congrArg (w2_ h ad ca) (by subst ex_1; unfold mo_add mo_added; rw [if_neg c_2]; try rfl))
set_option maxHeartbeats 4000000 in
set_option maxRecDepth 100000 in
theorem m2_destroy (l : Launch) (D : va_G) (h : Nat) (ad : Nat → Nat) (ca : Nat → ClassId) (S : ks_St) (sz : Nat) (u slot : Int32) (hok : mo_ok S) : Met l yX2_destroy (ws_ yX2_destroy cX2_destroy 4 (some .int)) ({ frames := 3, cells := 0, slots := 0, locals := 68 }) (ks_P D (w2_ h ad ca S) (t2_ ca) sz [.ref h, .int u, .int slot]) (ks_Qi D (mo_destroy S u slot).1 (w2_ h ad ca (mo_destroy S u slot).2) (va_A (w2_ h ad ca S) sz)) 0 0 (va_A (w2_ h ad ca S) sz) := by
  refine ks_enter (Qc := ks_Qi D (mo_destroy S u slot).1 (w2_ h ad ca (mo_destroy S u slot).2)) RX2 (by decide) rfl (Nat.le_of_ble_eq_true rfl) ?_
  intro p e s m below meth c A ls hb hml hr hlocks hnm C hA hW hl
  obtain ⟨hx, hown, hts, hK⟩ := id C
  have hl : lv_has ls 4 [(0, .ref h), (1, .int u), (2, .int slot)] := hl
  refine lv_aload_n hx hb dX2_destroy_0 rfl (lv_at hl 0 rfl) ?_
  refine lv_iload_n hx hb dX2_destroy_1 rfl (lv_at hl 1 rfl) ?_
  refine lv_iload_n hx hb dX2_destroy_2 rfl (lv_at hl 2 rfl) ?_
  refine ks_callR (C := RX2) (ci := 1) (As := [.int u, .int slot]) (rest := []) hx hb hml hown hts hK hW.1 rfl x2_o rfl (m2_refusal l D h ad ca S u slot ) (cwV 2 hts (lw_V q228 q230 qs8 q14 q231) rfl rfl rfl (by decide +kernel) ⟨(Nat.le_of_ble_eq_true rfl), (Nat.le_of_ble_eq_true rfl)⟩) rfl hl.1 rfl (Nat.le_of_ble_eq_true rfl) dX2_destroy_3 ⟨Nat.zero_le _, Nat.zero_le _⟩ ?_
  refine lv_topi (fun x_1 ex_1 => ?_)
  refine lv_istore_n (lv' := [(3, .int x_1), (0, .ref h), (1, .int u), (2, .int slot)]) hx hb dX2_destroy_6 rfl hl (by decide) rfl (fun ls hl => ?_)
  refine lv_iload_n hx hb dX2_destroy_7 rfl (lv_at hl 0 rfl) ?_
  refine lv_if_ge (tgt := 13) hx hb dX2_destroy_8 (by decide) (fun c_2 => ?_) (fun c_2 => ?_)
  · have hno : 0 ≤ mo_refusal u slot := by rw [← ex_1]; exact c_2
    have hat := mo_at hno
    have hu := (mo_rng hno).1
    refine lv_aload_n hx hb dX2_destroy_13 rfl (lv_at hl 1 rfl) ?_
    refine lv_iload_n hx hb dX2_destroy_14 rfl (lv_at hl 2 rfl) ?_
    refine lv_iload_n hx hb dX2_destroy_15 rfl (lv_at hl 3 rfl) ?_
    refine lv_iconst (v := 4) hx hb dX2_destroy_16 (by decide) ?_
    refine ks_callR (C := RX2) (ci := 1) (As := [.int u, .int slot, .int 4]) (rest := []) hx hb hml hown hts hK hW.1 rfl x2_o rfl (m2_allows l D h ad ca S u slot 4 hok) (cwV 3 hts (lw_V q244 q246 qs11 q14 q247) rfl rfl rfl (by decide +kernel) ⟨(Nat.le_of_ble_eq_true rfl), (Nat.le_of_ble_eq_true rfl)⟩) rfl hl.1 rfl (Nat.le_of_ble_eq_true rfl) dX2_destroy_17 ⟨Nat.zero_le _, Nat.zero_le _⟩ ?_
    refine lv_if_ne (tgt := 31) hx hb dX2_destroy_20 (by decide) (fun c_3 => ?_) (fun c_3 => ?_)
    · refine lv_aload_n hx hb dX2_destroy_31 rfl (lv_at hl 1 rfl) ?_
      refine x2_get C hb hW.1 0 (by decide) q190 (fun _ h9 => h9) rfl dX2_destroy_32 ?_
      refine lv_aload_n hx hb dX2_destroy_35 rfl (lv_at hl 1 rfl) ?_
      refine x2_get C hb hW.1 7 (by decide) q197 (fun _ h9 => h9) rfl dX2_destroy_36 ?_
      refine lv_iload_n hx hb dX2_destroy_39 rfl (lv_at hl 2 rfl) ?_
      refine lv_bipush (v := 8) hx hb dX2_destroy_40 (by decide) ?_
      refine lv_imul hx hb dX2_destroy_42 ?_
      refine lv_iload_n hx hb dX2_destroy_43 rfl (lv_at hl 3 rfl) ?_
      refine lv_iadd hx hb dX2_destroy_44 ?_
      refine ks_ild (ad := ad) (ca := ca) (S := S) (k := 7) C hb hW.1 x2_a7 x2_t7 hat dX2_destroy_45 ?_
      refine lv_iconst (v := 0) hx hb dX2_destroy_46 (by decide) ?_
      refine ks_zst (ad := ad) (ca := ca) (S := S) (k := 0) (wf := w2_ h ad ca) (y := 0) C hb hW x2_a0 x2_t0 x2_s0 (hok _) rfl dX2_destroy_47 (fun S_4 eS_4 H locs hW => ?_)
      refine lv_aload_n hx hb dX2_destroy_48 rfl (lv_at hl 1 rfl) ?_
      refine lv_iload_n hx hb dX2_destroy_49 rfl (lv_at hl 2 rfl) ?_
      refine lv_iconst (v := 0) hx hb dX2_destroy_50 (by decide) ?_
      refine ks_callI (C := RX2) (ci := 1) (As := [.int u, .int 0]) (rest := []) hx hb hml hown hts hK hA hW rfl x2_o rfl (fun sz => m2_answered l D h ad ca S_4 sz u 0 hu) (cwV 2 hts (lw_V q236 q238 qs10 q14 q239) rfl rfl rfl (by decide +kernel) ⟨(Nat.le_of_ble_eq_true rfl), (Nat.le_of_ble_eq_true rfl)⟩) rfl hl.1 rfl (Nat.le_of_ble_eq_true rfl) dX2_destroy_51 ⟨Nat.zero_le _, Nat.zero_le _⟩ (fun H locs hW => ?_)
      exact ks_iret hx hb hr hlocks hW dX2_destroy_54 (by subst eS_4; subst ex_1; unfold mo_destroy; rw [if_pos c_2, if_neg c_3]; try rfl) (congrArg (w2_ h ad ca) (by subst eS_4; subst ex_1; unfold mo_destroy; rw [if_pos c_2, if_neg c_3]; try rfl))
    · refine lv_aload_n hx hb dX2_destroy_23 rfl (lv_at hl 1 rfl) ?_
      refine lv_iload_n hx hb dX2_destroy_24 rfl (lv_at hl 2 rfl) ?_
      refine lv_bipush (v := (-3)) hx hb dX2_destroy_25 (by decide) ?_
      refine ks_callI (C := RX2) (ci := 1) (As := [.int u, .int (-3)]) (rest := []) hx hb hml hown hts hK hA hW rfl x2_o rfl (fun sz => m2_answered l D h ad ca S sz u ((-3)) hu) (cwV 2 hts (lw_V q236 q238 qs10 q14 q239) rfl rfl rfl (by decide +kernel) ⟨(Nat.le_of_ble_eq_true rfl), (Nat.le_of_ble_eq_true rfl)⟩) rfl hl.1 rfl (Nat.le_of_ble_eq_true rfl) dX2_destroy_27 ⟨Nat.zero_le _, Nat.zero_le _⟩ (fun H locs hW => ?_)
      exact ks_iret hx hb hr hlocks hW dX2_destroy_30 (by subst ex_1; unfold mo_destroy; rw [if_pos c_2, if_pos c_3]; try rfl) (congrArg (w2_ h ad ca) (by subst ex_1; unfold mo_destroy; rw [if_pos c_2, if_pos c_3]; try rfl))
  · refine lv_iload_n hx hb dX2_destroy_11 rfl (lv_at hl 0 rfl) ?_
    exact ks_iret hx hb hr hlocks hW dX2_destroy_12 (by subst ex_1; unfold mo_destroy; rw [if_neg c_2]; try rfl) (congrArg (w2_ h ad ca) (by subst ex_1; unfold mo_destroy; rw [if_neg c_2]; try rfl))
set_option maxHeartbeats 4000000 in
set_option maxRecDepth 100000 in
theorem m2_revoke (l : Launch) (D : va_G) (h : Nat) (ad : Nat → Nat) (ca : Nat → ClassId) (S : ks_St) (sz : Nat) (u slot : Int32) (hok : mo_ok S) : Met l yX2_revoke (ws_ yX2_revoke cX2_revoke 5 (some .int)) ({ frames := 3, cells := 0, slots := 0, locals := 68 }) (ks_P D (w2_ h ad ca S) (t2_ ca) sz [.ref h, .int u, .int slot]) (ks_Qi D (mo_revoke S u slot).1 (w2_ h ad ca (mo_revoke S u slot).2) (va_A (w2_ h ad ca S) sz)) 0 0 (va_A (w2_ h ad ca S) sz) := by
  refine ks_enter (Qc := ks_Qi D (mo_revoke S u slot).1 (w2_ h ad ca (mo_revoke S u slot).2)) RX2 (by decide) rfl (Nat.le_of_ble_eq_true rfl) ?_
  intro p e s m below meth c A ls hb hml hr hlocks hnm C hA hW hl
  obtain ⟨hx, hown, hts, hK⟩ := id C
  have hl : lv_has ls 5 [(0, .ref h), (1, .int u), (2, .int slot)] := hl
  refine lv_aload_n hx hb dX2_revoke_0 rfl (lv_at hl 0 rfl) ?_
  refine lv_iload_n hx hb dX2_revoke_1 rfl (lv_at hl 1 rfl) ?_
  refine lv_iload_n hx hb dX2_revoke_2 rfl (lv_at hl 2 rfl) ?_
  refine ks_callR (C := RX2) (ci := 1) (As := [.int u, .int slot]) (rest := []) hx hb hml hown hts hK hW.1 rfl x2_o rfl (m2_refusal l D h ad ca S u slot ) (cwV 2 hts (lw_V q228 q230 qs8 q14 q231) rfl rfl rfl (by decide +kernel) ⟨(Nat.le_of_ble_eq_true rfl), (Nat.le_of_ble_eq_true rfl)⟩) rfl hl.1 rfl (Nat.le_of_ble_eq_true rfl) dX2_revoke_3 ⟨Nat.zero_le _, Nat.zero_le _⟩ ?_
  refine lv_topi (fun x_1 ex_1 => ?_)
  refine lv_istore_n (lv' := [(3, .int x_1), (0, .ref h), (1, .int u), (2, .int slot)]) hx hb dX2_revoke_6 rfl hl (by decide) rfl (fun ls hl => ?_)
  refine lv_iload_n hx hb dX2_revoke_7 rfl (lv_at hl 0 rfl) ?_
  refine lv_if_ge (tgt := 13) hx hb dX2_revoke_8 (by decide) (fun c_2 => ?_) (fun c_2 => ?_)
  · have hno : 0 ≤ mo_refusal u slot := by rw [← ex_1]; exact c_2
    have hat := mo_at hno
    have hu := (mo_rng hno).1
    refine lv_aload_n hx hb dX2_revoke_13 rfl (lv_at hl 1 rfl) ?_
    refine lv_iload_n hx hb dX2_revoke_14 rfl (lv_at hl 2 rfl) ?_
    refine lv_iload_n hx hb dX2_revoke_15 rfl (lv_at hl 3 rfl) ?_
    refine lv_bipush (v := 8) hx hb dX2_revoke_16 (by decide) ?_
    refine ks_callR (C := RX2) (ci := 1) (As := [.int u, .int slot, .int 8]) (rest := []) hx hb hml hown hts hK hW.1 rfl x2_o rfl (m2_allows l D h ad ca S u slot 8 hok) (cwV 3 hts (lw_V q244 q246 qs11 q14 q247) rfl rfl rfl (by decide +kernel) ⟨(Nat.le_of_ble_eq_true rfl), (Nat.le_of_ble_eq_true rfl)⟩) rfl hl.1 rfl (Nat.le_of_ble_eq_true rfl) dX2_revoke_18 ⟨Nat.zero_le _, Nat.zero_le _⟩ ?_
    refine lv_if_ne (tgt := 32) hx hb dX2_revoke_21 (by decide) (fun c_3 => ?_) (fun c_3 => ?_)
    · refine lv_iload_n hx hb dX2_revoke_32 rfl (lv_at hl 2 rfl) ?_
      refine lv_bipush (v := 8) hx hb dX2_revoke_33 (by decide) ?_
      refine lv_imul hx hb dX2_revoke_35 ?_
      refine lv_iload_n hx hb dX2_revoke_36 rfl (lv_at hl 3 rfl) ?_
      refine lv_iadd hx hb dX2_revoke_37 ?_
      refine lv_topi (fun x_4 ex_4 => ?_)
      refine lv_istore (lv' := [(4, .int x_4), (3, .int x_1), (0, .ref h), (1, .int u), (2, .int slot)]) hx hb dX2_revoke_38 hl (by decide) rfl (fun ls hl => ?_)
      refine lv_aload_n hx hb dX2_revoke_40 rfl (lv_at hl 2 rfl) ?_
      refine x2_get C hb hW.1 2 (by decide) q192 (fun _ h9 => h9) rfl dX2_revoke_41 ?_
      refine lv_aload_n hx hb dX2_revoke_44 rfl (lv_at hl 2 rfl) ?_
      refine x2_get C hb hW.1 7 (by decide) q197 (fun _ h9 => h9) rfl dX2_revoke_45 ?_
      refine lv_iload hx hb dX2_revoke_48 (lv_at hl 0 rfl) ?_
      refine ks_ild (ad := ad) (ca := ca) (S := S) (k := 7) C hb hW.1 x2_a7 x2_t7 (show vp_in x_4 16 by rw [ex_4]; exact hat) dX2_revoke_50 ?_
      refine lv_dup2_11 hx hb dX2_revoke_51 rfl rfl ?_
      refine ks_ild (ad := ad) (ca := ca) (S := S) (k := 2) C hb hW.1 x2_a2 x2_t2 (hok _) dX2_revoke_52 ?_
      refine lv_iconst (v := 1) hx hb dX2_revoke_53 (by decide) ?_
      refine lv_iadd hx hb dX2_revoke_54 ?_
      refine ks_ist (ad := ad) (ca := ca) (S := S) (k := 2) (wf := w2_ h ad ca) C hb hW x2_a2 x2_t2 x2_s2 (hok _) dX2_revoke_55 (fun S_5 eS_5 H locs hW => ?_)
      refine lv_aload_n hx hb dX2_revoke_56 rfl (lv_at hl 2 rfl) ?_
      refine lv_iload hx hb dX2_revoke_57 (lv_at hl 0 rfl) ?_
      refine lv_aload_n hx hb dX2_revoke_59 rfl (lv_at hl 2 rfl) ?_
      refine x2_get C hb hW.1 7 (by decide) q197 (fun _ h9 => h9) rfl dX2_revoke_60 ?_
      refine lv_iload hx hb dX2_revoke_63 (lv_at hl 0 rfl) ?_
      refine ks_ild (ad := ad) (ca := ca) (S := S_5) (k := 7) C hb hW.1 x2_a7 x2_t7 (show vp_in x_4 16 by rw [ex_4]; exact hat) dX2_revoke_65 ?_
      refine lv_aload_n hx hb dX2_revoke_66 rfl (lv_at hl 2 rfl) ?_
      refine x2_get C hb hW.1 8 (by decide) q198 (fun _ h9 => h9) rfl dX2_revoke_67 ?_
      refine lv_iload hx hb dX2_revoke_70 (lv_at hl 0 rfl) ?_
      refine ks_ild (ad := ad) (ca := ca) (S := S_5) (k := 8) C hb hW.1 x2_a8 x2_t8 (show vp_in x_4 16 by rw [ex_4]; exact hat) dX2_revoke_72 ?_
      refine ks_callV (C := RX2) (ci := 1) (As := [.int x_4, .int (S_5 7 x_4.toNatClampNeg), .int (S_5 8 x_4.toNatClampNeg)]) (rest := []) hx hb hml hown hts hK hA hW rfl x2_o rfl (fun sz => m2_give l D h ad ca S_5 sz x_4 ((S_5 7 x_4.toNatClampNeg)) ((S_5 8 x_4.toNatClampNeg)) (by subst ex_4; exact hat) (by subst eS_5; exact hok _)) (cwV 3 hts (lw_V q232 q234 qs9 q14 q235) rfl rfl rfl (by decide +kernel) ⟨(Nat.le_of_ble_eq_true rfl), (Nat.le_of_ble_eq_true rfl)⟩) rfl hl.1 rfl (Nat.le_of_ble_eq_true rfl) dX2_revoke_73 ⟨Nat.zero_le _, Nat.zero_le _⟩ (fun H locs hW => ?_)
      refine lv_aload_n hx hb dX2_revoke_76 rfl (lv_at hl 2 rfl) ?_
      refine lv_iload_n hx hb dX2_revoke_77 rfl (lv_at hl 3 rfl) ?_
      refine lv_iconst (v := 0) hx hb dX2_revoke_78 (by decide) ?_
      refine ks_callI (C := RX2) (ci := 1) (As := [.int u, .int 0]) (rest := []) hx hb hml hown hts hK hA hW rfl x2_o rfl (fun sz => m2_answered l D h ad ca ((mo_give S_5 x_4 ((S_5 7 x_4.toNatClampNeg)) ((S_5 8 x_4.toNatClampNeg)))) sz u 0 hu) (cwV 2 hts (lw_V q236 q238 qs10 q14 q239) rfl rfl rfl (by decide +kernel) ⟨(Nat.le_of_ble_eq_true rfl), (Nat.le_of_ble_eq_true rfl)⟩) rfl hl.1 rfl (Nat.le_of_ble_eq_true rfl) dX2_revoke_79 ⟨Nat.zero_le _, Nat.zero_le _⟩ (fun H locs hW => ?_)
      exact ks_iret hx hb hr hlocks hW dX2_revoke_82 (by subst eS_5; subst ex_4; subst ex_1; unfold mo_revoke; rw [if_pos c_2, if_neg c_3]; try rfl) (congrArg (w2_ h ad ca) (by subst eS_5; subst ex_4; subst ex_1; unfold mo_revoke; rw [if_pos c_2, if_neg c_3]; try rfl))
    · refine lv_aload_n hx hb dX2_revoke_24 rfl (lv_at hl 1 rfl) ?_
      refine lv_iload_n hx hb dX2_revoke_25 rfl (lv_at hl 2 rfl) ?_
      refine lv_bipush (v := (-3)) hx hb dX2_revoke_26 (by decide) ?_
      refine ks_callI (C := RX2) (ci := 1) (As := [.int u, .int (-3)]) (rest := []) hx hb hml hown hts hK hA hW rfl x2_o rfl (fun sz => m2_answered l D h ad ca S sz u ((-3)) hu) (cwV 2 hts (lw_V q236 q238 qs10 q14 q239) rfl rfl rfl (by decide +kernel) ⟨(Nat.le_of_ble_eq_true rfl), (Nat.le_of_ble_eq_true rfl)⟩) rfl hl.1 rfl (Nat.le_of_ble_eq_true rfl) dX2_revoke_28 ⟨Nat.zero_le _, Nat.zero_le _⟩ (fun H locs hW => ?_)
      exact ks_iret hx hb hr hlocks hW dX2_revoke_31 (by subst ex_1; unfold mo_revoke; rw [if_pos c_2, if_pos c_3]; try rfl) (congrArg (w2_ h ad ca) (by subst ex_1; unfold mo_revoke; rw [if_pos c_2, if_pos c_3]; try rfl))
  · refine lv_iload_n hx hb dX2_revoke_11 rfl (lv_at hl 0 rfl) ?_
    exact ks_iret hx hb hr hlocks hW dX2_revoke_12 (by subst ex_1; unfold mo_revoke; rw [if_neg c_2]; try rfl) (congrArg (w2_ h ad ca) (by subst ex_1; unfold mo_revoke; rw [if_neg c_2]; try rfl))
set_option maxHeartbeats 4000000 in
set_option maxRecDepth 100000 in
theorem m2_restrict (l : Launch) (D : va_G) (h : Nat) (ad : Nat → Nat) (ca : Nat → ClassId) (S : ks_St) (sz : Nat) (u from_ to_ r : Int32) (hok : mo_ok S) : Met l yX2_restrict (ws_ yX2_restrict cX2_restrict 8 (some .int)) ({ frames := 2, cells := 0, slots := 0, locals := 45 }) (ks_P D (w2_ h ad ca S) (t2_ ca) sz [.ref h, .int u, .int from_, .int to_, .int r]) (ks_Qi D (mo_restrict S u from_ to_ r).1 (w2_ h ad ca (mo_restrict S u from_ to_ r).2) (va_A (w2_ h ad ca S) sz)) 0 0 (va_A (w2_ h ad ca S) sz) := by
  refine ks_enter (Qc := ks_Qi D (mo_restrict S u from_ to_ r).1 (w2_ h ad ca (mo_restrict S u from_ to_ r).2)) RX2 (by decide) rfl (Nat.le_of_ble_eq_true rfl) ?_
  intro p e s m below meth c A ls hb hml hr hlocks hnm C hA hW hl
  obtain ⟨hx, hown, hts, hK⟩ := id C
  have hl : lv_has ls 8 [(0, .ref h), (1, .int u), (2, .int from_), (3, .int to_), (4, .int r)] := hl
  refine lv_aload_n hx hb dX2_restrict_0 rfl (lv_at hl 0 rfl) ?_
  refine lv_iload_n hx hb dX2_restrict_1 rfl (lv_at hl 1 rfl) ?_
  refine lv_iload_n hx hb dX2_restrict_2 rfl (lv_at hl 2 rfl) ?_
  refine ks_callR (C := RX2) (ci := 1) (As := [.int u, .int from_]) (rest := []) hx hb hml hown hts hK hW.1 rfl x2_o rfl (m2_refusal l D h ad ca S u from_ ) (cwV 2 hts (lw_V q228 q230 qs8 q14 q231) rfl rfl rfl (by decide +kernel) ⟨(Nat.le_of_ble_eq_true rfl), (Nat.le_of_ble_eq_true rfl)⟩) rfl hl.1 rfl (Nat.le_of_ble_eq_true rfl) dX2_restrict_3 ⟨Nat.zero_le _, Nat.zero_le _⟩ ?_
  refine lv_topi (fun x_1 ex_1 => ?_)
  refine lv_istore (lv' := [(5, .int x_1), (0, .ref h), (1, .int u), (2, .int from_), (3, .int to_), (4, .int r)]) hx hb dX2_restrict_6 hl (by decide) rfl (fun ls hl => ?_)
  refine lv_iload hx hb dX2_restrict_8 (lv_at hl 0 rfl) ?_
  refine lv_if_ne (tgt := 21) hx hb dX2_restrict_10 (by decide) (fun c_2 => ?_) (fun c_2 => ?_)
  · refine lv_iload hx hb dX2_restrict_21 (lv_at hl 0 rfl) ?_
    refine lv_if_ge (tgt := 29) hx hb dX2_restrict_23 (by decide) (fun c9 => absurd c9 (by rw [ex_1] at c_2 ⊢; exact mo_ref0 c_2)) (fun _ => ?_)
    refine lv_iload hx hb dX2_restrict_26 (lv_at hl 0 rfl) ?_
    exact ks_iret hx hb hr hlocks hW dX2_restrict_28 (by subst ex_1; unfold mo_restrict mo_restricted; rw [if_neg c_2]; try rfl) (congrArg (w2_ h ad ca) (by subst ex_1; unfold mo_restrict mo_restricted; rw [if_neg c_2]; try rfl))
  · refine lv_aload_n hx hb dX2_restrict_13 rfl (lv_at hl 1 rfl) ?_
    refine lv_iload_n hx hb dX2_restrict_14 rfl (lv_at hl 2 rfl) ?_
    refine lv_iload_n hx hb dX2_restrict_15 rfl (lv_at hl 4 rfl) ?_
    refine ks_callR (C := RX2) (ci := 1) (As := [.int u, .int to_]) (rest := []) hx hb hml hown hts hK hW.1 rfl x2_o rfl (m2_refusal l D h ad ca S u to_ ) (cwV 2 hts (lw_V q228 q230 qs8 q14 q231) rfl rfl rfl (by decide +kernel) ⟨(Nat.le_of_ble_eq_true rfl), (Nat.le_of_ble_eq_true rfl)⟩) rfl hl.1 rfl (Nat.le_of_ble_eq_true rfl) dX2_restrict_16 ⟨Nat.zero_le _, Nat.zero_le _⟩ ?_
    refine lv_topi (fun x_3 ex_3 => ?_)
    refine lv_istore (lv' := [(5, .int x_3), (0, .ref h), (1, .int u), (2, .int from_), (3, .int to_), (4, .int r)]) hx hb dX2_restrict_19 hl (by decide) rfl (fun ls hl => ?_)
    refine lv_iload hx hb dX2_restrict_21 (lv_at hl 0 rfl) ?_
    refine lv_if_ge (tgt := 29) hx hb dX2_restrict_23 (by decide) (fun c_4 => ?_) (fun c_4 => ?_)
    · have hf : 0 ≤ mo_refusal u from_ := by rw [← ex_1, c_2]; decide
      have ht : 0 ≤ mo_refusal u to_ := by rw [← ex_3]; exact c_4
      have hat := mo_at hf
      have hto := mo_at ht
      have hu := (mo_rng hf).1
      refine lv_iload hx hb dX2_restrict_29 (lv_at hl 5 rfl) ?_
      refine lv_if_lt (tgt := 41) hx hb dX2_restrict_31 (by decide) (fun c_5 => ?_) (fun c_5 => ?_)
      · refine lv_bipush (v := (-5)) hx hb dX2_restrict_41 (by decide) ?_
        exact ks_iret hx hb hr hlocks hW dX2_restrict_43 (by subst ex_3; subst ex_1; unfold mo_restrict mo_restricted; rw [if_pos c_2, if_pos c_4, if_pos c_5]; try rfl) (congrArg (w2_ h ad ca) (by subst ex_3; subst ex_1; unfold mo_restrict mo_restricted; rw [if_pos c_2, if_pos c_4, if_pos c_5]; try rfl))
      · refine lv_iload hx hb dX2_restrict_34 (lv_at hl 5 rfl) ?_
        refine lv_bipush (v := 15) hx hb dX2_restrict_36 (by decide) ?_
        refine lv_icmp_le (tgt := 44) hx hb dX2_restrict_38 (by decide) (fun c_6 => ?_) (fun c_6 => ?_)
        · refine lv_aload_n hx hb dX2_restrict_44 rfl (lv_at hl 1 rfl) ?_
          refine lv_iload_n hx hb dX2_restrict_45 rfl (lv_at hl 2 rfl) ?_
          refine lv_iload_n hx hb dX2_restrict_46 rfl (lv_at hl 3 rfl) ?_
          refine ks_callR (C := RX2) (ci := 1) (As := [.int u, .int from_]) (rest := []) hx hb hml hown hts hK hW.1 rfl x2_o rfl (m2_genuine l D h ad ca S u from_ hok) (cwV 2 hts (lw_V q248 q249 q250 q14 q251) rfl rfl rfl (by decide +kernel) ⟨(Nat.le_of_ble_eq_true rfl), (Nat.le_of_ble_eq_true rfl)⟩) rfl hl.1 rfl (Nat.le_of_ble_eq_true rfl) dX2_restrict_47 ⟨Nat.zero_le _, Nat.zero_le _⟩ ?_
          refine lv_if_ne (tgt := 61) hx hb dX2_restrict_50 (by decide) (fun c_7 => ?_) (fun c_7 => ?_)
          · refine lv_iload_n hx hb dX2_restrict_61 rfl (lv_at hl 2 rfl) ?_
            refine lv_bipush (v := 8) hx hb dX2_restrict_62 (by decide) ?_
            refine lv_imul hx hb dX2_restrict_64 ?_
            refine lv_iload_n hx hb dX2_restrict_65 rfl (lv_at hl 3 rfl) ?_
            refine lv_iadd hx hb dX2_restrict_66 ?_
            refine lv_topi (fun x_8 ex_8 => ?_)
            refine lv_istore (lv' := [(6, .int x_8), (5, .int x_3), (0, .ref h), (1, .int u), (2, .int from_), (3, .int to_), (4, .int r)]) hx hb dX2_restrict_67 hl (by decide) rfl (fun ls hl => ?_)
            refine lv_aload_n hx hb dX2_restrict_69 rfl (lv_at hl 2 rfl) ?_
            refine x2_get C hb hW.1 8 (by decide) q198 (fun _ h9 => h9) rfl dX2_restrict_70 ?_
            refine lv_iload hx hb dX2_restrict_73 (lv_at hl 0 rfl) ?_
            refine ks_ild (ad := ad) (ca := ca) (S := S) (k := 8) C hb hW.1 x2_a8 x2_t8 (show vp_in x_8 16 by rw [ex_8]; exact hat) dX2_restrict_75 ?_
            refine lv_iload hx hb dX2_restrict_76 (lv_at hl 6 rfl) ?_
            refine lv_iand hx hb dX2_restrict_78 ?_
            refine lv_topi (fun x_9 ex_9 => ?_)
            refine lv_istore (lv' := [(7, .int x_9), (6, .int x_8), (5, .int x_3), (0, .ref h), (1, .int u), (2, .int from_), (3, .int to_), (4, .int r)]) hx hb dX2_restrict_79 hl (by decide) rfl (fun ls hl => ?_)
            refine lv_aload_n hx hb dX2_restrict_81 rfl (lv_at hl 3 rfl) ?_
            refine lv_iload_n hx hb dX2_restrict_82 rfl (lv_at hl 4 rfl) ?_
            refine lv_bipush (v := 8) hx hb dX2_restrict_83 (by decide) ?_
            refine lv_imul hx hb dX2_restrict_85 ?_
            refine lv_iload_n hx hb dX2_restrict_86 rfl (lv_at hl 6 rfl) ?_
            refine lv_iadd hx hb dX2_restrict_87 ?_
            refine lv_aload_n hx hb dX2_restrict_88 rfl (lv_at hl 3 rfl) ?_
            refine x2_get C hb hW.1 7 (by decide) q197 (fun _ h9 => h9) rfl dX2_restrict_89 ?_
            refine lv_iload hx hb dX2_restrict_92 (lv_at hl 1 rfl) ?_
            refine ks_ild (ad := ad) (ca := ca) (S := S) (k := 7) C hb hW.1 x2_a7 x2_t7 (show vp_in x_8 16 by rw [ex_8]; exact hat) dX2_restrict_94 ?_
            refine lv_iload hx hb dX2_restrict_95 (lv_at hl 0 rfl) ?_
            refine ks_callV (C := RX2) (ci := 1) (As := [.int ((u * 8) + to_), .int (S 7 x_8.toNatClampNeg), .int x_9]) (rest := []) hx hb hml hown hts hK hA hW rfl x2_o rfl (fun sz => m2_give l D h ad ca S sz (((u * 8) + to_)) ((S 7 x_8.toNatClampNeg)) x_9 hto (hok _)) (cwV 3 hts (lw_V q232 q234 qs9 q14 q235) rfl rfl rfl (by decide +kernel) ⟨(Nat.le_of_ble_eq_true rfl), (Nat.le_of_ble_eq_true rfl)⟩) rfl hl.1 rfl (Nat.le_of_ble_eq_true rfl) dX2_restrict_97 ⟨Nat.zero_le _, Nat.zero_le _⟩ (fun H locs hW => ?_)
            refine lv_aload_n hx hb dX2_restrict_100 rfl (lv_at hl 3 rfl) ?_
            refine lv_iload_n hx hb dX2_restrict_101 rfl (lv_at hl 4 rfl) ?_
            refine lv_iload hx hb dX2_restrict_102 (lv_at hl 0 rfl) ?_
            refine ks_callI (C := RX2) (ci := 1) (As := [.int u, .int x_9]) (rest := []) hx hb hml hown hts hK hA hW rfl x2_o rfl (fun sz => m2_answered l D h ad ca ((mo_give S (((u * 8) + to_)) ((S 7 x_8.toNatClampNeg)) x_9)) sz u x_9 hu) (cwV 2 hts (lw_V q236 q238 qs10 q14 q239) rfl rfl rfl (by decide +kernel) ⟨(Nat.le_of_ble_eq_true rfl), (Nat.le_of_ble_eq_true rfl)⟩) rfl hl.1 rfl (Nat.le_of_ble_eq_true rfl) dX2_restrict_104 ⟨Nat.zero_le _, Nat.zero_le _⟩ (fun H locs hW => ?_)
            exact ks_iret hx hb hr hlocks hW dX2_restrict_107 (by subst ex_9; subst ex_8; subst ex_3; subst ex_1; unfold mo_restrict mo_restricted; rw [if_pos c_2, if_pos c_4, if_neg c_5, if_pos c_6, if_neg c_7]; try rfl) (congrArg (w2_ h ad ca) (by subst ex_9; subst ex_8; subst ex_3; subst ex_1; unfold mo_restrict mo_restricted; rw [if_pos c_2, if_pos c_4, if_neg c_5, if_pos c_6, if_neg c_7]; try rfl))
          · refine lv_aload_n hx hb dX2_restrict_53 rfl (lv_at hl 1 rfl) ?_
            refine lv_iload_n hx hb dX2_restrict_54 rfl (lv_at hl 2 rfl) ?_
            refine lv_bipush (v := (-3)) hx hb dX2_restrict_55 (by decide) ?_
            refine ks_callI (C := RX2) (ci := 1) (As := [.int u, .int (-3)]) (rest := []) hx hb hml hown hts hK hA hW rfl x2_o rfl (fun sz => m2_answered l D h ad ca S sz u ((-3)) hu) (cwV 2 hts (lw_V q236 q238 qs10 q14 q239) rfl rfl rfl (by decide +kernel) ⟨(Nat.le_of_ble_eq_true rfl), (Nat.le_of_ble_eq_true rfl)⟩) rfl hl.1 rfl (Nat.le_of_ble_eq_true rfl) dX2_restrict_57 ⟨Nat.zero_le _, Nat.zero_le _⟩ (fun H locs hW => ?_)
            exact ks_iret hx hb hr hlocks hW dX2_restrict_60 (by subst ex_3; subst ex_1; unfold mo_restrict mo_restricted; rw [if_pos c_2, if_pos c_4, if_neg c_5, if_pos c_6, if_pos c_7]; try rfl) (congrArg (w2_ h ad ca) (by subst ex_3; subst ex_1; unfold mo_restrict mo_restricted; rw [if_pos c_2, if_pos c_4, if_neg c_5, if_pos c_6, if_pos c_7]; try rfl))
        · refine lv_bipush (v := (-5)) hx hb dX2_restrict_41 (by decide) ?_
          exact ks_iret hx hb hr hlocks hW dX2_restrict_43 (by subst ex_3; subst ex_1; unfold mo_restrict mo_restricted; rw [if_pos c_2, if_pos c_4, if_neg c_5, if_neg c_6]; try rfl) (congrArg (w2_ h ad ca) (by subst ex_3; subst ex_1; unfold mo_restrict mo_restricted; rw [if_pos c_2, if_pos c_4, if_neg c_5, if_neg c_6]; try rfl))
    · refine lv_iload hx hb dX2_restrict_26 (lv_at hl 0 rfl) ?_
      exact ks_iret hx hb hr hlocks hW dX2_restrict_28 (by subst ex_3; subst ex_1; unfold mo_restrict mo_restricted; rw [if_pos c_2, if_neg c_4]; try rfl) (congrArg (w2_ h ad ca) (by subst ex_3; subst ex_1; unfold mo_restrict mo_restricted; rw [if_pos c_2, if_neg c_4]; try rfl))
set_option maxHeartbeats 4000000 in
set_option maxRecDepth 100000 in
theorem m2_again (l : Launch) (D : va_G) (h : Nat) (ad : Nat → Nat) (ca : Nat → ClassId) (S : ks_St) (u : Int32) : Met l yX2_again (ws_ yX2_again cX2_again 2 (some .int)) ({ frames := 0, cells := 0, slots := 0, locals := 0 }) (ks_R D (w2_ h ad ca S) (t2_ ca) [.ref h, .int u]) (QcRead (mo_again S u)) 0 0 ks_F := by
  refine ks_enterR RX2 (by decide) rfl (Nat.le_of_ble_eq_true rfl) ?_
  intro p e s m below meth c ls hb hml hr hlocks C hP hl
  obtain ⟨hx, hown, hts, hK⟩ := id C
  have hl : lv_has ls 2 [(0, .ref h), (1, .int u)] := hl
  refine lv_iload_n hx hb dX2_again_0 rfl (lv_at hl 1 rfl) ?_
  refine lv_if_eq (tgt := 11) hx hb dX2_again_1 (by decide) (fun c_1 => ?_) (fun c_1 => ?_)
  · refine lv_aload_n hx hb dX2_again_11 rfl (lv_at hl 0 rfl) ?_
    refine x2_get C hb hP 9 (by decide) q199 (fun _ h9 => h9) rfl dX2_again_12 ?_
    refine lv_iload_n hx hb dX2_again_15 rfl (lv_at hl 1 rfl) ?_
    refine ks_zld (ad := ad) (ca := ca) (S := S) (k := 9) C hb hP x2_a9 x2_t9 (ks_u0 c_1) dX2_again_16 ?_
    refine lv_if_eq (tgt := 29) hx hb dX2_again_17 (by decide) (fun c_2 => ?_) (fun c_2 => ?_)
    · refine lv_bipush (v := (-6)) hx hb dX2_again_29 (by decide) ?_
      exact ks_rret hx hb hr hlocks dX2_again_31 (by unfold mo_again; rw [if_pos c_1, if_pos c_2]; try rfl)
    · refine lv_aload_n hx hb dX2_again_20 rfl (lv_at hl 0 rfl) ?_
      refine x2_get C hb hP 10 (by decide) q200 (fun _ h9 => h9) rfl dX2_again_21 ?_
      refine lv_iload_n hx hb dX2_again_24 rfl (lv_at hl 1 rfl) ?_
      refine ks_ild (ad := ad) (ca := ca) (S := S) (k := 10) C hb hP x2_a10 x2_t10 (ks_u0 c_1) dX2_again_25 ?_
      refine lv_goto (tgt := 31) hx hb dX2_again_26 (by decide) ?_
      exact ks_rret hx hb hr hlocks dX2_again_31 (by unfold mo_again; rw [if_pos c_1, if_neg c_2]; try rfl)
  · refine lv_iload_n hx hb dX2_again_4 rfl (lv_at hl 1 rfl) ?_
    refine lv_iconst (v := 1) hx hb dX2_again_5 (by decide) ?_
    refine lv_icmp_eq (tgt := 11) hx hb dX2_again_6 (by decide) (fun c_3 => ?_) (fun c_3 => ?_)
    · refine lv_aload_n hx hb dX2_again_11 rfl (lv_at hl 0 rfl) ?_
      refine x2_get C hb hP 9 (by decide) q199 (fun _ h9 => h9) rfl dX2_again_12 ?_
      refine lv_iload_n hx hb dX2_again_15 rfl (lv_at hl 1 rfl) ?_
      refine ks_zld (ad := ad) (ca := ca) (S := S) (k := 9) C hb hP x2_a9 x2_t9 (ks_u1 c_3) dX2_again_16 ?_
      refine lv_if_eq (tgt := 29) hx hb dX2_again_17 (by decide) (fun c_4 => ?_) (fun c_4 => ?_)
      · refine lv_bipush (v := (-6)) hx hb dX2_again_29 (by decide) ?_
        exact ks_rret hx hb hr hlocks dX2_again_31 (by unfold mo_again; rw [if_neg c_1, if_pos c_3, if_pos c_4]; try rfl)
      · refine lv_aload_n hx hb dX2_again_20 rfl (lv_at hl 0 rfl) ?_
        refine x2_get C hb hP 10 (by decide) q200 (fun _ h9 => h9) rfl dX2_again_21 ?_
        refine lv_iload_n hx hb dX2_again_24 rfl (lv_at hl 1 rfl) ?_
        refine ks_ild (ad := ad) (ca := ca) (S := S) (k := 10) C hb hP x2_a10 x2_t10 (ks_u1 c_3) dX2_again_25 ?_
        refine lv_goto (tgt := 31) hx hb dX2_again_26 (by decide) ?_
        exact ks_rret hx hb hr hlocks dX2_again_31 (by unfold mo_again; rw [if_neg c_1, if_pos c_3, if_neg c_4]; try rfl)
    · refine lv_iconst (v := (-1)) hx hb dX2_again_9 (by decide) ?_
      exact ks_rret hx hb hr hlocks dX2_again_10 (by unfold mo_again; rw [if_neg c_1, if_neg c_3]; try rfl)
set_option maxHeartbeats 4000000 in
set_option maxRecDepth 100000 in
theorem m2_copy (l : Launch) (D : va_G) (h : Nat) (ad : Nat → Nat) (ca : Nat → ClassId) (S : ks_St) (sz : Nat) (u from_ to_ : Int32) : Met l yX2_copy (ws_ yX2_copy cX2_copy 7 (some .int)) ({ frames := 1, cells := 0, slots := 0, locals := 22 }) (ks_P D (w2_ h ad ca S) (t2_ ca) sz [.ref h, .int u, .int from_, .int to_]) (ks_Qi D (mo_copy S u from_ to_).1 (w2_ h ad ca (mo_copy S u from_ to_).2) (va_A (w2_ h ad ca S) sz)) 0 0 (va_A (w2_ h ad ca S) sz) := by
  refine ks_enter (Qc := ks_Qi D (mo_copy S u from_ to_).1 (w2_ h ad ca (mo_copy S u from_ to_).2)) RX2 (by decide) rfl (Nat.le_of_ble_eq_true rfl) ?_
  intro p e s m below meth c A ls hb hml hr hlocks hnm C hA hW hl
  obtain ⟨hx, hown, hts, hK⟩ := id C
  have hl : lv_has ls 7 [(0, .ref h), (1, .int u), (2, .int from_), (3, .int to_)] := hl
  refine lv_aload_n hx hb dX2_copy_0 rfl (lv_at hl 0 rfl) ?_
  refine lv_iload_n hx hb dX2_copy_1 rfl (lv_at hl 1 rfl) ?_
  refine lv_iload_n hx hb dX2_copy_2 rfl (lv_at hl 2 rfl) ?_
  refine ks_callR (C := RX2) (ci := 1) (As := [.int u, .int from_]) (rest := []) hx hb hml hown hts hK hW.1 rfl x2_o rfl (m2_refusal l D h ad ca S u from_ ) (cwV 2 hts (lw_V q228 q230 qs8 q14 q231) rfl rfl rfl (by decide +kernel) ⟨(Nat.le_of_ble_eq_true rfl), (Nat.le_of_ble_eq_true rfl)⟩) rfl hl.1 rfl (Nat.le_of_ble_eq_true rfl) dX2_copy_3 ⟨Nat.zero_le _, Nat.zero_le _⟩ ?_
  refine lv_topi (fun x_1 ex_1 => ?_)
  refine lv_istore (lv' := [(4, .int x_1), (0, .ref h), (1, .int u), (2, .int from_), (3, .int to_)]) hx hb dX2_copy_6 hl (by decide) rfl (fun ls hl => ?_)
  refine lv_iload hx hb dX2_copy_8 (lv_at hl 0 rfl) ?_
  refine lv_if_ge (tgt := 16) hx hb dX2_copy_10 (by decide) (fun c_2 => ?_) (fun c_2 => ?_)
  · have hno : 0 ≤ mo_refusal u from_ := by rw [← ex_1]; exact c_2
    have hat := mo_at hno
    have hu := (mo_rng hno).1
    refine lv_iload_n hx hb dX2_copy_16 rfl (lv_at hl 2 rfl) ?_
    refine lv_bipush (v := 8) hx hb dX2_copy_17 (by decide) ?_
    refine lv_imul hx hb dX2_copy_19 ?_
    refine lv_iload_n hx hb dX2_copy_20 rfl (lv_at hl 3 rfl) ?_
    refine lv_iadd hx hb dX2_copy_21 ?_
    refine lv_topi (fun x_3 ex_3 => ?_)
    refine lv_istore (lv' := [(5, .int x_3), (4, .int x_1), (0, .ref h), (1, .int u), (2, .int from_), (3, .int to_)]) hx hb dX2_copy_22 hl (by decide) rfl (fun ls hl => ?_)
    refine lv_iload_n hx hb dX2_copy_24 rfl (lv_at hl 5 rfl) ?_
    refine lv_bipush (v := 15) hx hb dX2_copy_25 (by decide) ?_
    refine lv_iand hx hb dX2_copy_27 ?_
    refine lv_topi (fun x_4 ex_4 => ?_)
    refine lv_istore (lv' := [(6, .int x_4), (5, .int x_3), (4, .int x_1), (0, .ref h), (1, .int u), (2, .int from_), (3, .int to_)]) hx hb dX2_copy_28 hl (by decide) rfl (fun ls hl => ?_)
    refine lv_aload_n hx hb dX2_copy_30 rfl (lv_at hl 3 rfl) ?_
    refine x2_get C hb hW.1 3 (by decide) q193 (fun _ h9 => h9) rfl dX2_copy_31 ?_
    refine lv_iload hx hb dX2_copy_34 (lv_at hl 0 rfl) ?_
    refine lv_aload_n hx hb dX2_copy_36 rfl (lv_at hl 3 rfl) ?_
    refine x2_get C hb hW.1 3 (by decide) q193 (fun _ h9 => h9) rfl dX2_copy_37 ?_
    refine lv_iload hx hb dX2_copy_40 (lv_at hl 1 rfl) ?_
    refine ks_zld (ad := ad) (ca := ca) (S := S) (k := 3) C hb hW.1 x2_a3 x2_t3 (show vp_in x_3 16 by rw [ex_3]; exact hat) dX2_copy_42 ?_
    refine ks_zst (ad := ad) (ca := ca) (S := S) (k := 3) (wf := w2_ h ad ca) (y := (vp_nar .boolean (S 3 x_3.toNatClampNeg))) C hb hW x2_a3 x2_t3 x2_s3 (show vp_in x_4 16 by rw [ex_4]; exact pk_andIn to_ 4 rfl (by decide)) rfl dX2_copy_43 (fun S_5 eS_5 H locs hW => ?_)
    refine lv_aload_n hx hb dX2_copy_44 rfl (lv_at hl 3 rfl) ?_
    refine x2_get C hb hW.1 4 (by decide) q194 (fun _ h9 => h9) rfl dX2_copy_45 ?_
    refine lv_iload hx hb dX2_copy_48 (lv_at hl 0 rfl) ?_
    refine lv_aload_n hx hb dX2_copy_50 rfl (lv_at hl 3 rfl) ?_
    refine x2_get C hb hW.1 4 (by decide) q194 (fun _ h9 => h9) rfl dX2_copy_51 ?_
    refine lv_iload hx hb dX2_copy_54 (lv_at hl 1 rfl) ?_
    refine ks_ild (ad := ad) (ca := ca) (S := S_5) (k := 4) C hb hW.1 x2_a4 x2_t4 (show vp_in x_3 16 by rw [ex_3]; exact hat) dX2_copy_56 ?_
    refine ks_ist (ad := ad) (ca := ca) (S := S_5) (k := 4) (wf := w2_ h ad ca) C hb hW x2_a4 x2_t4 x2_s4 (show vp_in x_4 16 by rw [ex_4]; exact pk_andIn to_ 4 rfl (by decide)) dX2_copy_57 (fun S_6 eS_6 H locs hW => ?_)
    refine lv_aload_n hx hb dX2_copy_58 rfl (lv_at hl 3 rfl) ?_
    refine x2_get C hb hW.1 5 (by decide) q195 (fun _ h9 => h9) rfl dX2_copy_59 ?_
    refine lv_iload hx hb dX2_copy_62 (lv_at hl 0 rfl) ?_
    refine lv_aload_n hx hb dX2_copy_64 rfl (lv_at hl 3 rfl) ?_
    refine x2_get C hb hW.1 5 (by decide) q195 (fun _ h9 => h9) rfl dX2_copy_65 ?_
    refine lv_iload hx hb dX2_copy_68 (lv_at hl 1 rfl) ?_
    refine ks_ild (ad := ad) (ca := ca) (S := S_6) (k := 5) C hb hW.1 x2_a5 x2_t5 (show vp_in x_3 16 by rw [ex_3]; exact hat) dX2_copy_70 ?_
    refine ks_ist (ad := ad) (ca := ca) (S := S_6) (k := 5) (wf := w2_ h ad ca) C hb hW x2_a5 x2_t5 x2_s5 (show vp_in x_4 16 by rw [ex_4]; exact pk_andIn to_ 4 rfl (by decide)) dX2_copy_71 (fun S_7 eS_7 H locs hW => ?_)
    refine lv_aload_n hx hb dX2_copy_72 rfl (lv_at hl 3 rfl) ?_
    refine x2_get C hb hW.1 6 (by decide) q196 (fun _ h9 => h9) rfl dX2_copy_73 ?_
    refine lv_iload hx hb dX2_copy_76 (lv_at hl 0 rfl) ?_
    refine lv_aload_n hx hb dX2_copy_78 rfl (lv_at hl 3 rfl) ?_
    refine x2_get C hb hW.1 6 (by decide) q196 (fun _ h9 => h9) rfl dX2_copy_79 ?_
    refine lv_iload hx hb dX2_copy_82 (lv_at hl 1 rfl) ?_
    refine ks_ild (ad := ad) (ca := ca) (S := S_7) (k := 6) C hb hW.1 x2_a6 x2_t6 (show vp_in x_3 16 by rw [ex_3]; exact hat) dX2_copy_84 ?_
    refine ks_ist (ad := ad) (ca := ca) (S := S_7) (k := 6) (wf := w2_ h ad ca) C hb hW x2_a6 x2_t6 x2_s6 (show vp_in x_4 16 by rw [ex_4]; exact pk_andIn to_ 4 rfl (by decide)) dX2_copy_85 (fun S_8 eS_8 H locs hW => ?_)
    refine lv_aload_n hx hb dX2_copy_86 rfl (lv_at hl 3 rfl) ?_
    refine x2_get C hb hW.1 7 (by decide) q197 (fun _ h9 => h9) rfl dX2_copy_87 ?_
    refine lv_iload hx hb dX2_copy_90 (lv_at hl 0 rfl) ?_
    refine lv_aload_n hx hb dX2_copy_92 rfl (lv_at hl 3 rfl) ?_
    refine x2_get C hb hW.1 7 (by decide) q197 (fun _ h9 => h9) rfl dX2_copy_93 ?_
    refine lv_iload hx hb dX2_copy_96 (lv_at hl 1 rfl) ?_
    refine ks_ild (ad := ad) (ca := ca) (S := S_8) (k := 7) C hb hW.1 x2_a7 x2_t7 (show vp_in x_3 16 by rw [ex_3]; exact hat) dX2_copy_98 ?_
    refine ks_ist (ad := ad) (ca := ca) (S := S_8) (k := 7) (wf := w2_ h ad ca) C hb hW x2_a7 x2_t7 x2_s7 (show vp_in x_4 16 by rw [ex_4]; exact pk_andIn to_ 4 rfl (by decide)) dX2_copy_99 (fun S_9 eS_9 H locs hW => ?_)
    refine lv_aload_n hx hb dX2_copy_100 rfl (lv_at hl 3 rfl) ?_
    refine x2_get C hb hW.1 8 (by decide) q198 (fun _ h9 => h9) rfl dX2_copy_101 ?_
    refine lv_iload hx hb dX2_copy_104 (lv_at hl 0 rfl) ?_
    refine lv_aload_n hx hb dX2_copy_106 rfl (lv_at hl 3 rfl) ?_
    refine x2_get C hb hW.1 8 (by decide) q198 (fun _ h9 => h9) rfl dX2_copy_107 ?_
    refine lv_iload hx hb dX2_copy_110 (lv_at hl 1 rfl) ?_
    refine ks_ild (ad := ad) (ca := ca) (S := S_9) (k := 8) C hb hW.1 x2_a8 x2_t8 (show vp_in x_3 16 by rw [ex_3]; exact hat) dX2_copy_112 ?_
    refine ks_ist (ad := ad) (ca := ca) (S := S_9) (k := 8) (wf := w2_ h ad ca) C hb hW x2_a8 x2_t8 x2_s8 (show vp_in x_4 16 by rw [ex_4]; exact pk_andIn to_ 4 rfl (by decide)) dX2_copy_113 (fun S_10 eS_10 H locs hW => ?_)
    refine lv_iconst (v := 0) hx hb dX2_copy_114 (by decide) ?_
    exact ks_iret hx hb hr hlocks hW dX2_copy_115 (by subst eS_10; subst eS_9; subst eS_8; subst eS_7; subst eS_6; subst eS_5; subst ex_4; subst ex_3; subst ex_1; unfold mo_copy; rw [if_pos c_2]; try rfl) (congrArg (w2_ h ad ca) (by subst eS_10; subst eS_9; subst eS_8; subst eS_7; subst eS_6; subst eS_5; subst ex_4; subst ex_3; subst ex_1; unfold mo_copy; rw [if_pos c_2]; try rfl))
  · refine lv_iload hx hb dX2_copy_13 (lv_at hl 0 rfl) ?_
    exact ks_iret hx hb hr hlocks hW dX2_copy_15 (by subst ex_1; unfold mo_copy; rw [if_neg c_2]; try rfl) (congrArg (w2_ h ad ca) (by subst ex_1; unfold mo_copy; rw [if_neg c_2]; try rfl))
set_option maxHeartbeats 4000000 in
set_option maxRecDepth 100000 in
theorem m2_tamper (l : Launch) (D : va_G) (h : Nat) (ad : Nat → Nat) (ca : Nat → ClassId) (S : ks_St) (sz : Nat) (u slot bits : Int32) : Met l yX2_tamper (ws_ yX2_tamper cX2_tamper 6 (some .int)) ({ frames := 1, cells := 0, slots := 0, locals := 22 }) (ks_P D (w2_ h ad ca S) (t2_ ca) sz [.ref h, .int u, .int slot, .int bits]) (ks_Qi D (mo_tamper S u slot bits).1 (w2_ h ad ca (mo_tamper S u slot bits).2) (va_A (w2_ h ad ca S) sz)) 0 0 (va_A (w2_ h ad ca S) sz) := by
  refine ks_enter (Qc := ks_Qi D (mo_tamper S u slot bits).1 (w2_ h ad ca (mo_tamper S u slot bits).2)) RX2 (by decide) rfl (Nat.le_of_ble_eq_true rfl) ?_
  intro p e s m below meth c A ls hb hml hr hlocks hnm C hA hW hl
  obtain ⟨hx, hown, hts, hK⟩ := id C
  have hl : lv_has ls 6 [(0, .ref h), (1, .int u), (2, .int slot), (3, .int bits)] := hl
  refine lv_aload_n hx hb dX2_tamper_0 rfl (lv_at hl 0 rfl) ?_
  refine lv_iload_n hx hb dX2_tamper_1 rfl (lv_at hl 1 rfl) ?_
  refine lv_iload_n hx hb dX2_tamper_2 rfl (lv_at hl 2 rfl) ?_
  refine ks_callR (C := RX2) (ci := 1) (As := [.int u, .int slot]) (rest := []) hx hb hml hown hts hK hW.1 rfl x2_o rfl (m2_refusal l D h ad ca S u slot ) (cwV 2 hts (lw_V q228 q230 qs8 q14 q231) rfl rfl rfl (by decide +kernel) ⟨(Nat.le_of_ble_eq_true rfl), (Nat.le_of_ble_eq_true rfl)⟩) rfl hl.1 rfl (Nat.le_of_ble_eq_true rfl) dX2_tamper_3 ⟨Nat.zero_le _, Nat.zero_le _⟩ ?_
  refine lv_topi (fun x_1 ex_1 => ?_)
  refine lv_istore (lv' := [(4, .int x_1), (0, .ref h), (1, .int u), (2, .int slot), (3, .int bits)]) hx hb dX2_tamper_6 hl (by decide) rfl (fun ls hl => ?_)
  refine lv_iload hx hb dX2_tamper_8 (lv_at hl 0 rfl) ?_
  refine lv_if_ge (tgt := 16) hx hb dX2_tamper_10 (by decide) (fun c_2 => ?_) (fun c_2 => ?_)
  · have hno : 0 ≤ mo_refusal u slot := by rw [← ex_1]; exact c_2
    have hat := mo_at hno
    have hu := (mo_rng hno).1
    refine lv_iload_n hx hb dX2_tamper_16 rfl (lv_at hl 2 rfl) ?_
    refine lv_bipush (v := 8) hx hb dX2_tamper_17 (by decide) ?_
    refine lv_imul hx hb dX2_tamper_19 ?_
    refine lv_iload_n hx hb dX2_tamper_20 rfl (lv_at hl 3 rfl) ?_
    refine lv_iadd hx hb dX2_tamper_21 ?_
    refine lv_topi (fun x_3 ex_3 => ?_)
    refine lv_istore (lv' := [(5, .int x_3), (4, .int x_1), (0, .ref h), (1, .int u), (2, .int slot), (3, .int bits)]) hx hb dX2_tamper_22 hl (by decide) rfl (fun ls hl => ?_)
    refine lv_aload_n hx hb dX2_tamper_24 rfl (lv_at hl 2 rfl) ?_
    refine x2_get C hb hW.1 3 (by decide) q193 (fun _ h9 => h9) rfl dX2_tamper_25 ?_
    refine lv_iload hx hb dX2_tamper_28 (lv_at hl 0 rfl) ?_
    refine ks_zld (ad := ad) (ca := ca) (S := S) (k := 3) C hb hW.1 x2_a3 x2_t3 (show vp_in x_3 16 by rw [ex_3]; exact hat) dX2_tamper_30 ?_
    refine lv_if_ne (tgt := 37) hx hb dX2_tamper_31 (by decide) (fun c_4 => ?_) (fun c_4 => ?_)
    · refine lv_aload_n hx hb dX2_tamper_37 rfl (lv_at hl 2 rfl) ?_
      refine x2_get C hb hW.1 8 (by decide) q198 (fun _ h9 => h9) rfl dX2_tamper_38 ?_
      refine lv_iload hx hb dX2_tamper_41 (lv_at hl 0 rfl) ?_
      refine lv_dup2_11 hx hb dX2_tamper_43 rfl rfl ?_
      refine ks_ild (ad := ad) (ca := ca) (S := S) (k := 8) C hb hW.1 x2_a8 x2_t8 (show vp_in x_3 16 by rw [ex_3]; exact hat) dX2_tamper_44 ?_
      refine lv_iload_n hx hb dX2_tamper_45 rfl (lv_at hl 5 rfl) ?_
      refine lv_bipush (v := 15) hx hb dX2_tamper_46 (by decide) ?_
      refine lv_iand hx hb dX2_tamper_48 ?_
      refine lv_ixor hx hb dX2_tamper_49 ?_
      refine ks_ist (ad := ad) (ca := ca) (S := S) (k := 8) (wf := w2_ h ad ca) C hb hW x2_a8 x2_t8 x2_s8 (show vp_in x_3 16 by rw [ex_3]; exact hat) dX2_tamper_50 (fun S_5 eS_5 H locs hW => ?_)
      refine lv_aload_n hx hb dX2_tamper_51 rfl (lv_at hl 2 rfl) ?_
      refine x2_get C hb hW.1 7 (by decide) q197 (fun _ h9 => h9) rfl dX2_tamper_52 ?_
      refine lv_iload hx hb dX2_tamper_55 (lv_at hl 0 rfl) ?_
      refine lv_dup2_11 hx hb dX2_tamper_57 rfl rfl ?_
      refine ks_ild (ad := ad) (ca := ca) (S := S_5) (k := 7) C hb hW.1 x2_a7 x2_t7 (show vp_in x_3 16 by rw [ex_3]; exact hat) dX2_tamper_58 ?_
      refine lv_iload_n hx hb dX2_tamper_59 rfl (lv_at hl 5 rfl) ?_
      refine lv_iconst (v := 4) hx hb dX2_tamper_60 (by decide) ?_
      refine lv_ishr hx hb dX2_tamper_61 ?_
      refine lv_bipush (v := 7) hx hb dX2_tamper_62 (by decide) ?_
      refine lv_iand hx hb dX2_tamper_64 ?_
      refine lv_ixor hx hb dX2_tamper_65 ?_
      refine ks_ist (ad := ad) (ca := ca) (S := S_5) (k := 7) (wf := w2_ h ad ca) C hb hW x2_a7 x2_t7 x2_s7 (show vp_in x_3 16 by rw [ex_3]; exact hat) dX2_tamper_66 (fun S_6 eS_6 H locs hW => ?_)
      refine lv_iconst (v := 0) hx hb dX2_tamper_67 (by decide) ?_
      exact ks_iret hx hb hr hlocks hW dX2_tamper_68 (by subst eS_6; subst eS_5; subst ex_3; subst ex_1; unfold mo_tamper; rw [if_pos c_2, if_neg c_4]; try rfl) (congrArg (w2_ h ad ca) (by subst eS_6; subst eS_5; subst ex_3; subst ex_1; unfold mo_tamper; rw [if_pos c_2, if_neg c_4]; try rfl))
    · refine lv_bipush (v := (-3)) hx hb dX2_tamper_34 (by decide) ?_
      exact ks_iret hx hb hr hlocks hW dX2_tamper_36 (by subst ex_3; subst ex_1; unfold mo_tamper; rw [if_pos c_2, if_pos c_4]; try rfl) (congrArg (w2_ h ad ca) (by subst ex_3; subst ex_1; unfold mo_tamper; rw [if_pos c_2, if_pos c_4]; try rfl))
  · refine lv_iload hx hb dX2_tamper_13 (lv_at hl 0 rfl) ?_
    exact ks_iret hx hb hr hlocks hW dX2_tamper_15 (by subst ex_1; unfold mo_tamper; rw [if_neg c_2]; try rfl) (congrArg (w2_ h ad ca) (by subst ex_1; unfold mo_tamper; rw [if_neg c_2]; try rfl))
set_option maxHeartbeats 4000000 in
set_option maxRecDepth 100000 in
theorem m2_clear (l : Launch) (D : va_G) (h : Nat) (ad : Nat → Nat) (ca : Nat → ClassId) (S : ks_St) (sz : Nat) (u slot : Int32) : Met l yX2_clear (ws_ yX2_clear cX2_clear 6 (some .int)) ({ frames := 1, cells := 0, slots := 0, locals := 22 }) (ks_P D (w2_ h ad ca S) (t2_ ca) sz [.ref h, .int u, .int slot]) (ks_Qi D (mo_clear S u slot).1 (w2_ h ad ca (mo_clear S u slot).2) (va_A (w2_ h ad ca S) sz)) 0 0 (va_A (w2_ h ad ca S) sz) := by
  refine ks_enter (Qc := ks_Qi D (mo_clear S u slot).1 (w2_ h ad ca (mo_clear S u slot).2)) RX2 (by decide) rfl (Nat.le_of_ble_eq_true rfl) ?_
  intro p e s m below meth c A ls hb hml hr hlocks hnm C hA hW hl
  obtain ⟨hx, hown, hts, hK⟩ := id C
  have hl : lv_has ls 6 [(0, .ref h), (1, .int u), (2, .int slot)] := hl
  refine lv_aload_n hx hb dX2_clear_0 rfl (lv_at hl 0 rfl) ?_
  refine lv_iload_n hx hb dX2_clear_1 rfl (lv_at hl 1 rfl) ?_
  refine lv_iload_n hx hb dX2_clear_2 rfl (lv_at hl 2 rfl) ?_
  refine ks_callR (C := RX2) (ci := 1) (As := [.int u, .int slot]) (rest := []) hx hb hml hown hts hK hW.1 rfl x2_o rfl (m2_refusal l D h ad ca S u slot ) (cwV 2 hts (lw_V q228 q230 qs8 q14 q231) rfl rfl rfl (by decide +kernel) ⟨(Nat.le_of_ble_eq_true rfl), (Nat.le_of_ble_eq_true rfl)⟩) rfl hl.1 rfl (Nat.le_of_ble_eq_true rfl) dX2_clear_3 ⟨Nat.zero_le _, Nat.zero_le _⟩ ?_
  refine lv_topi (fun x_1 ex_1 => ?_)
  refine lv_istore_n (lv' := [(3, .int x_1), (0, .ref h), (1, .int u), (2, .int slot)]) hx hb dX2_clear_6 rfl hl (by decide) rfl (fun ls hl => ?_)
  refine lv_iload_n hx hb dX2_clear_7 rfl (lv_at hl 0 rfl) ?_
  refine lv_if_ge (tgt := 13) hx hb dX2_clear_8 (by decide) (fun c_2 => ?_) (fun c_2 => ?_)
  · have hno : 0 ≤ mo_refusal u slot := by rw [← ex_1]; exact c_2
    have hat := mo_at hno
    have hu := (mo_rng hno).1
    refine lv_iload_n hx hb dX2_clear_13 rfl (lv_at hl 2 rfl) ?_
    refine lv_bipush (v := 8) hx hb dX2_clear_14 (by decide) ?_
    refine lv_imul hx hb dX2_clear_16 ?_
    refine lv_iload_n hx hb dX2_clear_17 rfl (lv_at hl 3 rfl) ?_
    refine lv_iadd hx hb dX2_clear_18 ?_
    refine lv_topi (fun x_3 ex_3 => ?_)
    refine lv_istore (lv' := [(4, .int x_3), (3, .int x_1), (0, .ref h), (1, .int u), (2, .int slot)]) hx hb dX2_clear_19 hl (by decide) rfl (fun ls hl => ?_)
    refine lv_aload_n hx hb dX2_clear_21 rfl (lv_at hl 2 rfl) ?_
    refine x2_get C hb hW.1 3 (by decide) q193 (fun _ h9 => h9) rfl dX2_clear_22 ?_
    refine lv_iload hx hb dX2_clear_25 (lv_at hl 0 rfl) ?_
    refine ks_zld (ad := ad) (ca := ca) (S := S) (k := 3) C hb hW.1 x2_a3 x2_t3 (show vp_in x_3 16 by rw [ex_3]; exact hat) dX2_clear_27 ?_
    refine lv_if_eq (tgt := 35) hx hb dX2_clear_28 (by decide) (fun c_4 => ?_) (fun c_4 => ?_)
    · refine lv_iconst (v := 0) hx hb dX2_clear_35 (by decide) ?_
      refine lv_istore (lv' := [(5, .int 0), (4, .int x_3), (3, .int x_1), (0, .ref h), (1, .int u), (2, .int slot)]) hx hb dX2_clear_36 hl (by decide) rfl (fun ls hl => ?_)
      refine lv_aload_n hx hb dX2_clear_38 rfl (lv_at hl 3 rfl) ?_
      refine x2_get C hb hW.1 3 (by decide) q193 (fun _ h9 => h9) rfl dX2_clear_39 ?_
      refine lv_iload hx hb dX2_clear_42 (lv_at hl 1 rfl) ?_
      refine lv_iconst (v := 0) hx hb dX2_clear_44 (by decide) ?_
      refine ks_zst (ad := ad) (ca := ca) (S := S) (k := 3) (wf := w2_ h ad ca) (y := 0) C hb hW x2_a3 x2_t3 x2_s3 (show vp_in x_3 16 by rw [ex_3]; exact hat) rfl dX2_clear_45 (fun S_5 eS_5 H locs hW => ?_)
      refine lv_iload hx hb dX2_clear_46 (lv_at hl 0 rfl) ?_
      exact ks_iret hx hb hr hlocks hW dX2_clear_48 (by subst eS_5; subst ex_3; subst ex_1; unfold mo_clear; rw [if_pos c_2, if_pos c_4]; try rfl) (congrArg (w2_ h ad ca) (by subst eS_5; subst ex_3; subst ex_1; unfold mo_clear; rw [if_pos c_2, if_pos c_4]; try rfl))
    · refine lv_iconst (v := 1) hx hb dX2_clear_31 (by decide) ?_
      refine lv_goto (tgt := 36) hx hb dX2_clear_32 (by decide) ?_
      refine lv_istore (lv' := [(5, .int 1), (4, .int x_3), (3, .int x_1), (0, .ref h), (1, .int u), (2, .int slot)]) hx hb dX2_clear_36 hl (by decide) rfl (fun ls hl => ?_)
      refine lv_aload_n hx hb dX2_clear_38 rfl (lv_at hl 3 rfl) ?_
      refine x2_get C hb hW.1 3 (by decide) q193 (fun _ h9 => h9) rfl dX2_clear_39 ?_
      refine lv_iload hx hb dX2_clear_42 (lv_at hl 1 rfl) ?_
      refine lv_iconst (v := 0) hx hb dX2_clear_44 (by decide) ?_
      refine ks_zst (ad := ad) (ca := ca) (S := S) (k := 3) (wf := w2_ h ad ca) (y := 0) C hb hW x2_a3 x2_t3 x2_s3 (show vp_in x_3 16 by rw [ex_3]; exact hat) rfl dX2_clear_45 (fun S_6 eS_6 H locs hW => ?_)
      refine lv_iload hx hb dX2_clear_46 (lv_at hl 0 rfl) ?_
      exact ks_iret hx hb hr hlocks hW dX2_clear_48 (by subst eS_6; subst ex_3; subst ex_1; unfold mo_clear; rw [if_pos c_2, if_neg c_4]; try rfl) (congrArg (w2_ h ad ca) (by subst eS_6; subst ex_3; subst ex_1; unfold mo_clear; rw [if_pos c_2, if_neg c_4]; try rfl))
  · refine lv_iload_n hx hb dX2_clear_11 rfl (lv_at hl 0 rfl) ?_
    exact ks_iret hx hb hr hlocks hW dX2_clear_12 (by subst ex_1; unfold mo_clear; rw [if_neg c_2]; try rfl) (congrArg (w2_ h ad ca) (by subst ex_1; unfold mo_clear; rw [if_neg c_2]; try rfl))
set_option maxHeartbeats 4000000 in
set_option maxRecDepth 100000 in
theorem m2_restart (l : Launch) (D : va_G) (h : Nat) (ad : Nat → Nat) (ca : Nat → ClassId) (S : ks_St) (sz : Nat) : Met l yX2_restart (ws_ yX2_restart cX2_restart 1 none) ({ frames := 0, cells := 0, slots := 0, locals := 0 }) (ks_P D (w2_ h ad ca S) (t2_ ca) sz [.ref h]) (ks_Qv D (w2_ h ad ca (mo_restart S)) (va_A (w2_ h ad ca S) sz)) 0 0 (va_A (w2_ h ad ca S) sz) := by
  refine ks_enter (Qc := ks_Qv D (w2_ h ad ca (mo_restart S))) RX2 (by decide) rfl (Nat.le_of_ble_eq_true rfl) ?_
  intro p e s m below meth c A ls hb hml hr hlocks hnm C hA hW hl
  obtain ⟨hx, hown, hts, hK⟩ := id C
  have hl : lv_has ls 1 [(0, .ref h)] := hl
  refine lv_aload_n hx hb dX2_restart_0 rfl (lv_at hl 0 rfl) ?_
  refine x2_get C hb hW.1 9 (by decide) q199 (fun _ h9 => h9) rfl dX2_restart_1 ?_
  refine lv_iconst (v := 0) hx hb dX2_restart_4 (by decide) ?_
  refine lv_iconst (v := 0) hx hb dX2_restart_5 (by decide) ?_
  refine ks_zst (ad := ad) (ca := ca) (S := S) (k := 9) (wf := w2_ h ad ca) (y := 0) C hb hW x2_a9 x2_t9 x2_s9 (vp_in_nI (n := 0) (N := 2) (by decide) (by decide)) rfl dX2_restart_6 (fun S_1 eS_1 H locs hW => ?_)
  refine lv_aload_n hx hb dX2_restart_7 rfl (lv_at hl 0 rfl) ?_
  refine x2_get C hb hW.1 9 (by decide) q199 (fun _ h9 => h9) rfl dX2_restart_8 ?_
  refine lv_iconst (v := 1) hx hb dX2_restart_11 (by decide) ?_
  refine lv_iconst (v := 0) hx hb dX2_restart_12 (by decide) ?_
  refine ks_zst (ad := ad) (ca := ca) (S := S_1) (k := 9) (wf := w2_ h ad ca) (y := 0) C hb hW x2_a9 x2_t9 x2_s9 (vp_in_nI (n := 1) (N := 2) (by decide) (by decide)) rfl dX2_restart_13 (fun S_2 eS_2 H locs hW => ?_)
  exact ks_vret hx hb hr hlocks hW dX2_restart_14 (congrArg (w2_ h ad ca) (by subst eS_2; subst eS_1; unfold mo_restart; try rfl))
set_option maxHeartbeats 4000000 in
set_option maxRecDepth 100000 in
theorem m2_rights (l : Launch) (D : va_G) (h : Nat) (ad : Nat → Nat) (ca : Nat → ClassId) (S : ks_St) (u slot : Int32) : Met l yX2_rights (ws_ yX2_rights cX2_rights 4 (some .int)) ({ frames := 1, cells := 0, slots := 0, locals := 22 }) (ks_R D (w2_ h ad ca S) (t2_ ca) [.ref h, .int u, .int slot]) (QcRead (mo_rights S u slot)) 0 0 ks_F := by
  refine ks_enterR RX2 (by decide) rfl (Nat.le_of_ble_eq_true rfl) ?_
  intro p e s m below meth c ls hb hml hr hlocks C hP hl
  obtain ⟨hx, hown, hts, hK⟩ := id C
  have hl : lv_has ls 4 [(0, .ref h), (1, .int u), (2, .int slot)] := hl
  refine lv_aload_n hx hb dX2_rights_0 rfl (lv_at hl 0 rfl) ?_
  refine lv_iload_n hx hb dX2_rights_1 rfl (lv_at hl 1 rfl) ?_
  refine lv_iload_n hx hb dX2_rights_2 rfl (lv_at hl 2 rfl) ?_
  refine ks_callR (C := RX2) (ci := 1) (As := [.int u, .int slot]) (rest := []) hx hb hml hown hts hK hP rfl x2_o rfl (m2_refusal l D h ad ca S u slot ) (cwV 2 hts (lw_V q228 q230 qs8 q14 q231) rfl rfl rfl (by decide +kernel) ⟨(Nat.le_of_ble_eq_true rfl), (Nat.le_of_ble_eq_true rfl)⟩) rfl hl.1 rfl (Nat.le_of_ble_eq_true rfl) dX2_rights_3 ⟨Nat.zero_le _, Nat.zero_le _⟩ ?_
  refine lv_topi (fun x_1 ex_1 => ?_)
  refine lv_istore_n (lv' := [(3, .int x_1), (0, .ref h), (1, .int u), (2, .int slot)]) hx hb dX2_rights_6 rfl hl (by decide) rfl (fun ls hl => ?_)
  refine lv_iload_n hx hb dX2_rights_7 rfl (lv_at hl 0 rfl) ?_
  refine lv_if_ge (tgt := 13) hx hb dX2_rights_8 (by decide) (fun c_2 => ?_) (fun c_2 => ?_)
  · have hno : 0 ≤ mo_refusal u slot := by rw [← ex_1]; exact c_2
    have hat := mo_at hno
    have hu := (mo_rng hno).1
    refine lv_aload_n hx hb dX2_rights_13 rfl (lv_at hl 1 rfl) ?_
    refine x2_get C hb hP 3 (by decide) q193 (fun _ h9 => h9) rfl dX2_rights_14 ?_
    refine lv_iload_n hx hb dX2_rights_17 rfl (lv_at hl 2 rfl) ?_
    refine lv_bipush (v := 8) hx hb dX2_rights_18 (by decide) ?_
    refine lv_imul hx hb dX2_rights_20 ?_
    refine lv_iload_n hx hb dX2_rights_21 rfl (lv_at hl 3 rfl) ?_
    refine lv_iadd hx hb dX2_rights_22 ?_
    refine ks_zld (ad := ad) (ca := ca) (S := S) (k := 3) C hb hP x2_a3 x2_t3 hat dX2_rights_23 ?_
    refine lv_if_eq (tgt := 41) hx hb dX2_rights_24 (by decide) (fun c_3 => ?_) (fun c_3 => ?_)
    · refine lv_iconst (v := 0) hx hb dX2_rights_41 (by decide) ?_
      exact ks_rret hx hb hr hlocks dX2_rights_42 (by subst ex_1; unfold mo_rights; rw [if_pos c_2, if_pos c_3]; try rfl)
    · refine lv_aload_n hx hb dX2_rights_27 rfl (lv_at hl 1 rfl) ?_
      refine x2_get C hb hP 8 (by decide) q198 (fun _ h9 => h9) rfl dX2_rights_28 ?_
      refine lv_iload_n hx hb dX2_rights_31 rfl (lv_at hl 2 rfl) ?_
      refine lv_bipush (v := 8) hx hb dX2_rights_32 (by decide) ?_
      refine lv_imul hx hb dX2_rights_34 ?_
      refine lv_iload_n hx hb dX2_rights_35 rfl (lv_at hl 3 rfl) ?_
      refine lv_iadd hx hb dX2_rights_36 ?_
      refine ks_ild (ad := ad) (ca := ca) (S := S) (k := 8) C hb hP x2_a8 x2_t8 hat dX2_rights_37 ?_
      refine lv_goto (tgt := 42) hx hb dX2_rights_38 (by decide) ?_
      exact ks_rret hx hb hr hlocks dX2_rights_42 (by subst ex_1; unfold mo_rights; rw [if_pos c_2, if_neg c_3]; try rfl)
  · refine lv_iload_n hx hb dX2_rights_11 rfl (lv_at hl 0 rfl) ?_
    exact ks_rret hx hb hr hlocks dX2_rights_12 (by subst ex_1; unfold mo_rights; rw [if_neg c_2]; try rfl)
set_option maxHeartbeats 4000000 in
theorem al2_loop {p : Program} {l : Launch} {e : Env} {R : Room} {s : State} {m : MethodId} {args : Array Value} {below : List Frame} {meth : Method} {c : Code} {H : Heap} {locs : List Loc} {cells slots : Nat} {Q : State → Prop} {D : va_G} {h : Nat} {ad : Nat → Nat} {ca : Nat → ClassId} {S : ks_St}
    (C : ks_K RX2 D (t2_ ca) p s m args) (hb : c.code = cX2_alive) (hP : va_P D vwCl (w2_ h ad ca S) H) :
    ∀ (n i : Nat) (k : Int32), i + n = 8 → ∀ (ls : Array Slot), lv_has ls 3 [(0, .ref h), (1, .int k), (2, .int (nI i))] →
      (∀ ls : Array Slot, lv_has ls 3 [(1, .int (sv_cnt (S 0) n i k))] → W p l e R s m args below meth c H locs cells slots Q (F0 m 28 ls [])) →
      W p l e R s m args below meth c H locs cells slots Q (F0 m 4 ls []) := by
  have hx := C.1
  intro n
  induction n with
  | zero =>
    intro i k hi ls hl K_
    refine lv_iload_n hx hb dX2_alive_4 rfl (lv_at hl 2 rfl) ?_
    refine lv_bipush (v := 8) hx hb dX2_alive_5 (by decide) ?_
    refine lv_icmp_ge (tgt := 28) hx hb dX2_alive_7 (by decide) (fun c_1 => ?_) (fun c_1 => ?_)
    · exact K_ ls (lv_sub hl [1] rfl)
    · exact absurd (nI_le (a := 8) (b := i) (by omega) (by omega)) c_1
  | succ n ih =>
    intro i k hi ls hl K_
    refine lv_iload_n hx hb dX2_alive_4 rfl (lv_at hl 2 rfl) ?_
    refine lv_bipush (v := 8) hx hb dX2_alive_5 (by decide) ?_
    refine lv_icmp_ge (tgt := 28) hx hb dX2_alive_7 (by decide) (fun c_1 => ?_) (fun c_1 => ?_)
    · exact absurd c_1 (nI_ge (a := i) (b := 8) (by omega) (by decide))
    · refine lv_aload_n hx hb dX2_alive_10 rfl (lv_at hl 0 rfl) ?_
      refine x2_get C hb hP 0 (by decide) q190 (fun _ h9 => h9) rfl dX2_alive_11 ?_
      refine lv_iload_n hx hb dX2_alive_14 rfl (lv_at hl 2 rfl) ?_
      refine ks_zld (ad := ad) (ca := ca) (S := S) (k := 0) C hb hP x2_a0 x2_t0 (vp_in_nI (n := i) (N := 8) (by omega) (by decide)) dX2_alive_15 ?_
      refine lv_if_eq (tgt := 22) hx hb dX2_alive_16 (by decide) (fun c_2 => ?_) (fun c_2 => ?_)
      · rw [nI_clamp (by omega)] at c_2
        refine lv_iinc (v := nI (i + 1)) (lv' := [(2, .int (nI (i + 1))), (0, .ref h), (1, .int k)]) hx hb dX2_alive_22 hl (k := 2) rfl (nI_1 i) (by decide) rfl (fun ls hl => ?_)
        refine lv_goto (tgt := 4) hx hb dX2_alive_25 (by decide) ?_
        refine ih (i + 1) k (by omega) ls (lv_sub hl [1, 2, 0] rfl) (fun ls hl => K_ ls ?_)
        rw [sv_cnt, if_pos c_2]
        exact hl
      · rw [nI_clamp (by omega)] at c_2
        refine lv_iinc (v := k + 1) (lv' := [(1, .int (k + 1)), (0, .ref h), (2, .int (nI i))]) hx hb dX2_alive_19 hl (k := 1) rfl rfl (by decide) rfl (fun ls hl => ?_)
        refine lv_iinc (v := nI (i + 1)) (lv' := [(2, .int (nI (i + 1))), (1, .int (k + 1)), (0, .ref h)]) hx hb dX2_alive_22 hl (k := 2) rfl (nI_1 i) (by decide) rfl (fun ls hl => ?_)
        refine lv_goto (tgt := 4) hx hb dX2_alive_25 (by decide) ?_
        refine ih (i + 1) (k + 1) (by omega) ls (lv_sub hl [2, 1, 0] rfl) (fun ls hl => K_ ls ?_)
        rw [sv_cnt, if_neg c_2]
        exact hl
set_option maxHeartbeats 4000000 in
set_option maxRecDepth 100000 in
theorem m2_alive (l : Launch) (D : va_G) (h : Nat) (ad : Nat → Nat) (ca : Nat → ClassId) (S : ks_St) : Met l yX2_alive (ws_ yX2_alive cX2_alive 3 (some .int)) ({ frames := 0, cells := 0, slots := 0, locals := 0 }) (ks_R D (w2_ h ad ca S) (t2_ ca) [.ref h]) (QcRead (mo_alive S)) 0 0 ks_F := by
  refine ks_enterR RX2 (by decide) rfl (Nat.le_of_ble_eq_true rfl) ?_
  intro p e s m below meth c ls hb hml hr hlocks C hP hl
  obtain ⟨hx, hown, hts, hK⟩ := id C
  have hl : lv_has ls 3 [(0, .ref h)] := hl
  refine lv_iconst (v := 0) hx hb dX2_alive_0 (by decide) ?_
  refine lv_istore_n (lv' := [(1, .int 0), (0, .ref h)]) hx hb dX2_alive_1 rfl hl (by decide) rfl (fun ls hl => ?_)
  refine lv_iconst (v := 0) hx hb dX2_alive_2 (by decide) ?_
  refine lv_istore_n (lv' := [(2, .int 0), (1, .int 0), (0, .ref h)]) hx hb dX2_alive_3 rfl hl (by decide) rfl (fun ls hl => ?_)
  refine al2_loop C hb hP 8 0 0 (by decide) ls (lv_sub hl [2, 1, 0] rfl) (fun ls hl => ?_)
  refine lv_iload_n hx hb dX2_alive_28 rfl (lv_at hl 0 rfl) ?_
  exact ks_rret hx hb hr hlocks dX2_alive_29 rfl
end
section
/-! part 12: the constructors, and cell -/
set_option maxRecDepth 100000
def x1_f0 : List Value := [.null, .null, .null, .int 0, .int 0, .null, .null, .null, .null, .null, .null, .null, .null, .null, .null, .null, .null]
/-- the constructor made the arrays u.1 of the classes u.2; the state is S -/
def ks_Q1 (D : va_G) (h : Nat) (S : ks_St) (A : Nat → Prop) : Array Value → State → Outcome → State → Prop := va_Qv (fun (_ : (Nat → Nat) × (Nat → ClassId)) => True) (fun u t => va_P D vwCl (w1_ h u.1 u.2 S) t.heap ∧ va_K D vwCl (t1_ u.2) t ∧ va_D A (w1_ h u.1 u.2 S)) A
set_option maxHeartbeats 8000000 in
set_option maxRecDepth 100000 in
theorem m1_init (l : Launch) (D : va_G) (h : Nat) (sz : Nat) (seed : Int32) : Met l yX1_init (ws_ yX1_init cX1_init 2 none) ({ frames := 1, cells := 15, slots := 104, locals := 12 }) (ks_P D [(h, .inr (0, x1_f0))] [] sz [.ref h, .int seed]) (ks_Q1 D h (sv_init seed) (va_A [(h, .inr (0, x1_f0))] sz)) 15 104 (va_A [(h, .inr (0, x1_f0))] sz) := by
  refine ks_enter (Qc := ks_Q1 D h (sv_init seed)) RX1 (by decide) rfl (Nat.le_of_ble_eq_true rfl) ?_
  intro p e s m below meth c A ls hb hml hr hlocks hnm C hA hW hl
  obtain ⟨hx, hown, hts, hK⟩ := id C
  obtain ⟨hP, hD, hS⟩ := hW
  have hl : lv_has ls 2 [(0, .ref h), (1, .int seed)] := hl
  refine lv_aload_n hx hb dX1_init_0 rfl (lv_at hl 0 rfl) ?_
  refine W.objInit hx hb hown (hts _ q20) (hts _ q21) (hts _ q22) rfl (by rw [hml]; exact hl.1) rfl dX1_init_1 (Nat.le_of_ble_eq_true rfl) (Nat.le_of_ble_eq_true rfl) ?_
  refine W.eq (g2 := F0 m 4 ls []) rfl ?_
  refine lv_aload_n hx hb dX1_init_4 rfl (lv_at hl 0 rfl) ?_
  refine lv_bipush (v := 8) hx hb dX1_init_5 (by decide) ?_
  refine va_newa (D := D) (cl := vwCl) (atype := .boolean) (ty := .boolean) (N' := 8) (a0 := (8, .inl (fun _ => 0))) hx hb (hts _ q75) rfl hK hP hD hS hA (fun _ => rfl) (by decide) (by decide) (by decide) (Nat.le_of_ble_eq_true rfl) (Nat.le_of_ble_eq_true rfl) dX1_init_7 (fun a_0 k_0 H hK hP hD hS => ?_)
  have hK : va_K D vwCl [(k_0, .boolean)] s := hK
  have hP : va_P D vwCl [(h, .inr (0, [.null, .null, .null, .int 0, .int 0, .null, .null, .null, .null, .null, .null, .null, .null, .null, .null, .null, .null])), (a_0, .inl (k_0, 8, .inl (fun _ => 0)))] H := hP
  have hD : va_D A [(h, .inr (0, [.null, .null, .null, .int 0, .int 0, .null, .null, .null, .null, .null, .null, .null, .null, .null, .null, .null, .null])), (a_0, .inl (k_0, 8, .inl (fun _ => 0)))] := hD
  refine W.widen (k := 1) (n := 8) (Nat.le_of_ble_eq_true rfl) (Nat.le_of_ble_eq_true rfl) ?_
  refine va_putF (D := D) (cl := vwCl) (ci := 0) (v := .ref a_0) (ty := .array .boolean) (C := RX1) (T := TX1) (N := 17) hx hb hts in_X1 tyX1 tyX1_ok nmX1 hown hK hP hD hS 0 rfl rfl 0 (by decide) (hts _ q23) (fun _ h9 => h9) rfl hnm rfl (by decide +kernel) rfl rfl (Nat.le_of_ble_eq_true rfl) dX1_init_9 (fun H locs hP hD hS => ?_)
  have hP : va_P D vwCl [(h, .inr (0, [.ref a_0, .null, .null, .int 0, .int 0, .null, .null, .null, .null, .null, .null, .null, .null, .null, .null, .null, .null])), (a_0, .inl (k_0, 8, .inl (fun _ => 0)))] H := hP
  have hD : va_D A [(h, .inr (0, [.ref a_0, .null, .null, .int 0, .int 0, .null, .null, .null, .null, .null, .null, .null, .null, .null, .null, .null, .null])), (a_0, .inl (k_0, 8, .inl (fun _ => 0)))] := hD
  refine lv_aload_n hx hb dX1_init_12 rfl (lv_at hl 0 rfl) ?_
  refine lv_bipush (v := 8) hx hb dX1_init_13 (by decide) ?_
  refine va_newa (D := D) (cl := vwCl) (atype := .int) (ty := .int) (N' := 8) (a0 := (8, .inl (fun _ => 0))) hx hb (hts _ q76) rfl hK hP hD hS hA (fun _ => rfl) (by decide) (by decide) (by decide) (Nat.le_of_ble_eq_true rfl) (Nat.le_of_ble_eq_true rfl) dX1_init_15 (fun a_1 k_1 H hK hP hD hS => ?_)
  have hK : va_K D vwCl [(k_0, .boolean), (k_1, .int)] s := hK
  have hP : va_P D vwCl [(h, .inr (0, [.ref a_0, .null, .null, .int 0, .int 0, .null, .null, .null, .null, .null, .null, .null, .null, .null, .null, .null, .null])), (a_0, .inl (k_0, 8, .inl (fun _ => 0))), (a_1, .inl (k_1, 8, .inl (fun _ => 0)))] H := hP
  have hD : va_D A [(h, .inr (0, [.ref a_0, .null, .null, .int 0, .int 0, .null, .null, .null, .null, .null, .null, .null, .null, .null, .null, .null, .null])), (a_0, .inl (k_0, 8, .inl (fun _ => 0))), (a_1, .inl (k_1, 8, .inl (fun _ => 0)))] := hD
  refine W.widen (k := 2) (n := 16) (Nat.le_of_ble_eq_true rfl) (Nat.le_of_ble_eq_true rfl) ?_
  refine va_putF (D := D) (cl := vwCl) (ci := 0) (v := .ref a_1) (ty := .array .int) (C := RX1) (T := TX1) (N := 17) hx hb hts in_X1 tyX1 tyX1_ok nmX1 hown hK hP hD hS 0 rfl rfl 1 (by decide) (hts _ q24) (fun _ h9 => h9) rfl hnm rfl (by decide +kernel) rfl rfl (Nat.le_of_ble_eq_true rfl) dX1_init_17 (fun H locs hP hD hS => ?_)
  have hP : va_P D vwCl [(h, .inr (0, [.ref a_0, .ref a_1, .null, .int 0, .int 0, .null, .null, .null, .null, .null, .null, .null, .null, .null, .null, .null, .null])), (a_0, .inl (k_0, 8, .inl (fun _ => 0))), (a_1, .inl (k_1, 8, .inl (fun _ => 0)))] H := hP
  have hD : va_D A [(h, .inr (0, [.ref a_0, .ref a_1, .null, .int 0, .int 0, .null, .null, .null, .null, .null, .null, .null, .null, .null, .null, .null, .null])), (a_0, .inl (k_0, 8, .inl (fun _ => 0))), (a_1, .inl (k_1, 8, .inl (fun _ => 0)))] := hD
  refine lv_aload_n hx hb dX1_init_20 rfl (lv_at hl 0 rfl) ?_
  refine lv_bipush (v := 8) hx hb dX1_init_21 (by decide) ?_
  refine va_newa (D := D) (cl := vwCl) (atype := .int) (ty := .int) (N' := 8) (a0 := (8, .inl (fun _ => 0))) hx hb (hts _ q76) rfl hK hP hD hS hA (fun _ => rfl) (by decide) (by decide) (by decide) (Nat.le_of_ble_eq_true rfl) (Nat.le_of_ble_eq_true rfl) dX1_init_23 (fun a_2 k_2 H hK hP hD hS => ?_)
  have hK : va_K D vwCl [(k_0, .boolean), (k_1, .int), (k_2, .int)] s := hK
  have hP : va_P D vwCl [(h, .inr (0, [.ref a_0, .ref a_1, .null, .int 0, .int 0, .null, .null, .null, .null, .null, .null, .null, .null, .null, .null, .null, .null])), (a_0, .inl (k_0, 8, .inl (fun _ => 0))), (a_1, .inl (k_1, 8, .inl (fun _ => 0))), (a_2, .inl (k_2, 8, .inl (fun _ => 0)))] H := hP
  have hD : va_D A [(h, .inr (0, [.ref a_0, .ref a_1, .null, .int 0, .int 0, .null, .null, .null, .null, .null, .null, .null, .null, .null, .null, .null, .null])), (a_0, .inl (k_0, 8, .inl (fun _ => 0))), (a_1, .inl (k_1, 8, .inl (fun _ => 0))), (a_2, .inl (k_2, 8, .inl (fun _ => 0)))] := hD
  refine W.widen (k := 3) (n := 24) (Nat.le_of_ble_eq_true rfl) (Nat.le_of_ble_eq_true rfl) ?_
  refine va_putF (D := D) (cl := vwCl) (ci := 0) (v := .ref a_2) (ty := .array .int) (C := RX1) (T := TX1) (N := 17) hx hb hts in_X1 tyX1 tyX1_ok nmX1 hown hK hP hD hS 0 rfl rfl 2 (by decide) (hts _ q25) (fun _ h9 => h9) rfl hnm rfl (by decide +kernel) rfl rfl (Nat.le_of_ble_eq_true rfl) dX1_init_25 (fun H locs hP hD hS => ?_)
  have hP : va_P D vwCl [(h, .inr (0, [.ref a_0, .ref a_1, .ref a_2, .int 0, .int 0, .null, .null, .null, .null, .null, .null, .null, .null, .null, .null, .null, .null])), (a_0, .inl (k_0, 8, .inl (fun _ => 0))), (a_1, .inl (k_1, 8, .inl (fun _ => 0))), (a_2, .inl (k_2, 8, .inl (fun _ => 0)))] H := hP
  have hD : va_D A [(h, .inr (0, [.ref a_0, .ref a_1, .ref a_2, .int 0, .int 0, .null, .null, .null, .null, .null, .null, .null, .null, .null, .null, .null, .null])), (a_0, .inl (k_0, 8, .inl (fun _ => 0))), (a_1, .inl (k_1, 8, .inl (fun _ => 0))), (a_2, .inl (k_2, 8, .inl (fun _ => 0)))] := hD
  refine lv_aload_n hx hb dX1_init_28 rfl (lv_at hl 0 rfl) ?_
  refine lv_iconst (v := 2) hx hb dX1_init_29 (by decide) ?_
  refine va_newa (D := D) (cl := vwCl) (atype := .int) (ty := .int) (N' := 2) (a0 := (2, .inl (fun _ => 0))) hx hb (hts _ q76) rfl hK hP hD hS hA (fun _ => rfl) (by decide) (by decide) (by decide) (Nat.le_of_ble_eq_true rfl) (Nat.le_of_ble_eq_true rfl) dX1_init_30 (fun a_5 k_5 H hK hP hD hS => ?_)
  have hK : va_K D vwCl [(k_0, .boolean), (k_1, .int), (k_2, .int), (k_5, .int)] s := hK
  have hP : va_P D vwCl [(h, .inr (0, [.ref a_0, .ref a_1, .ref a_2, .int 0, .int 0, .null, .null, .null, .null, .null, .null, .null, .null, .null, .null, .null, .null])), (a_0, .inl (k_0, 8, .inl (fun _ => 0))), (a_1, .inl (k_1, 8, .inl (fun _ => 0))), (a_2, .inl (k_2, 8, .inl (fun _ => 0))), (a_5, .inl (k_5, 2, .inl (fun _ => 0)))] H := hP
  have hD : va_D A [(h, .inr (0, [.ref a_0, .ref a_1, .ref a_2, .int 0, .int 0, .null, .null, .null, .null, .null, .null, .null, .null, .null, .null, .null, .null])), (a_0, .inl (k_0, 8, .inl (fun _ => 0))), (a_1, .inl (k_1, 8, .inl (fun _ => 0))), (a_2, .inl (k_2, 8, .inl (fun _ => 0))), (a_5, .inl (k_5, 2, .inl (fun _ => 0)))] := hD
  refine W.widen (k := 4) (n := 26) (Nat.le_of_ble_eq_true rfl) (Nat.le_of_ble_eq_true rfl) ?_
  refine va_putF (D := D) (cl := vwCl) (ci := 0) (v := .ref a_5) (ty := .array .int) (C := RX1) (T := TX1) (N := 17) hx hb hts in_X1 tyX1 tyX1_ok nmX1 hown hK hP hD hS 0 rfl rfl 5 (by decide) (hts _ q28) (fun _ h9 => h9) rfl hnm rfl (by decide +kernel) rfl rfl (Nat.le_of_ble_eq_true rfl) dX1_init_32 (fun H locs hP hD hS => ?_)
  have hP : va_P D vwCl [(h, .inr (0, [.ref a_0, .ref a_1, .ref a_2, .int 0, .int 0, .ref a_5, .null, .null, .null, .null, .null, .null, .null, .null, .null, .null, .null])), (a_0, .inl (k_0, 8, .inl (fun _ => 0))), (a_1, .inl (k_1, 8, .inl (fun _ => 0))), (a_2, .inl (k_2, 8, .inl (fun _ => 0))), (a_5, .inl (k_5, 2, .inl (fun _ => 0)))] H := hP
  have hD : va_D A [(h, .inr (0, [.ref a_0, .ref a_1, .ref a_2, .int 0, .int 0, .ref a_5, .null, .null, .null, .null, .null, .null, .null, .null, .null, .null, .null])), (a_0, .inl (k_0, 8, .inl (fun _ => 0))), (a_1, .inl (k_1, 8, .inl (fun _ => 0))), (a_2, .inl (k_2, 8, .inl (fun _ => 0))), (a_5, .inl (k_5, 2, .inl (fun _ => 0)))] := hD
  refine lv_aload_n hx hb dX1_init_35 rfl (lv_at hl 0 rfl) ?_
  refine lv_iconst (v := 2) hx hb dX1_init_36 (by decide) ?_
  refine va_newa (D := D) (cl := vwCl) (atype := .boolean) (ty := .boolean) (N' := 2) (a0 := (2, .inl (fun _ => 0))) hx hb (hts _ q75) rfl hK hP hD hS hA (fun _ => rfl) (by decide) (by decide) (by decide) (Nat.le_of_ble_eq_true rfl) (Nat.le_of_ble_eq_true rfl) dX1_init_37 (fun a_6 k_6 H hK hP hD hS => ?_)
  have hK : va_K D vwCl [(k_0, .boolean), (k_1, .int), (k_2, .int), (k_5, .int), (k_6, .boolean)] s := hK
  have hP : va_P D vwCl [(h, .inr (0, [.ref a_0, .ref a_1, .ref a_2, .int 0, .int 0, .ref a_5, .null, .null, .null, .null, .null, .null, .null, .null, .null, .null, .null])), (a_0, .inl (k_0, 8, .inl (fun _ => 0))), (a_1, .inl (k_1, 8, .inl (fun _ => 0))), (a_2, .inl (k_2, 8, .inl (fun _ => 0))), (a_5, .inl (k_5, 2, .inl (fun _ => 0))), (a_6, .inl (k_6, 2, .inl (fun _ => 0)))] H := hP
  have hD : va_D A [(h, .inr (0, [.ref a_0, .ref a_1, .ref a_2, .int 0, .int 0, .ref a_5, .null, .null, .null, .null, .null, .null, .null, .null, .null, .null, .null])), (a_0, .inl (k_0, 8, .inl (fun _ => 0))), (a_1, .inl (k_1, 8, .inl (fun _ => 0))), (a_2, .inl (k_2, 8, .inl (fun _ => 0))), (a_5, .inl (k_5, 2, .inl (fun _ => 0))), (a_6, .inl (k_6, 2, .inl (fun _ => 0)))] := hD
  refine W.widen (k := 5) (n := 28) (Nat.le_of_ble_eq_true rfl) (Nat.le_of_ble_eq_true rfl) ?_
  refine va_putF (D := D) (cl := vwCl) (ci := 0) (v := .ref a_6) (ty := .array .boolean) (C := RX1) (T := TX1) (N := 17) hx hb hts in_X1 tyX1 tyX1_ok nmX1 hown hK hP hD hS 0 rfl rfl 6 (by decide) (hts _ q29) (fun _ h9 => h9) rfl hnm rfl (by decide +kernel) rfl rfl (Nat.le_of_ble_eq_true rfl) dX1_init_39 (fun H locs hP hD hS => ?_)
  have hP : va_P D vwCl [(h, .inr (0, [.ref a_0, .ref a_1, .ref a_2, .int 0, .int 0, .ref a_5, .ref a_6, .null, .null, .null, .null, .null, .null, .null, .null, .null, .null])), (a_0, .inl (k_0, 8, .inl (fun _ => 0))), (a_1, .inl (k_1, 8, .inl (fun _ => 0))), (a_2, .inl (k_2, 8, .inl (fun _ => 0))), (a_5, .inl (k_5, 2, .inl (fun _ => 0))), (a_6, .inl (k_6, 2, .inl (fun _ => 0)))] H := hP
  have hD : va_D A [(h, .inr (0, [.ref a_0, .ref a_1, .ref a_2, .int 0, .int 0, .ref a_5, .ref a_6, .null, .null, .null, .null, .null, .null, .null, .null, .null, .null])), (a_0, .inl (k_0, 8, .inl (fun _ => 0))), (a_1, .inl (k_1, 8, .inl (fun _ => 0))), (a_2, .inl (k_2, 8, .inl (fun _ => 0))), (a_5, .inl (k_5, 2, .inl (fun _ => 0))), (a_6, .inl (k_6, 2, .inl (fun _ => 0)))] := hD
  refine lv_aload_n hx hb dX1_init_42 rfl (lv_at hl 0 rfl) ?_
  refine lv_iconst (v := 2) hx hb dX1_init_43 (by decide) ?_
  refine va_newa (D := D) (cl := vwCl) (atype := .int) (ty := .int) (N' := 2) (a0 := (2, .inl (fun _ => 0))) hx hb (hts _ q76) rfl hK hP hD hS hA (fun _ => rfl) (by decide) (by decide) (by decide) (Nat.le_of_ble_eq_true rfl) (Nat.le_of_ble_eq_true rfl) dX1_init_44 (fun a_7 k_7 H hK hP hD hS => ?_)
  have hK : va_K D vwCl [(k_0, .boolean), (k_1, .int), (k_2, .int), (k_5, .int), (k_6, .boolean), (k_7, .int)] s := hK
  have hP : va_P D vwCl [(h, .inr (0, [.ref a_0, .ref a_1, .ref a_2, .int 0, .int 0, .ref a_5, .ref a_6, .null, .null, .null, .null, .null, .null, .null, .null, .null, .null])), (a_0, .inl (k_0, 8, .inl (fun _ => 0))), (a_1, .inl (k_1, 8, .inl (fun _ => 0))), (a_2, .inl (k_2, 8, .inl (fun _ => 0))), (a_5, .inl (k_5, 2, .inl (fun _ => 0))), (a_6, .inl (k_6, 2, .inl (fun _ => 0))), (a_7, .inl (k_7, 2, .inl (fun _ => 0)))] H := hP
  have hD : va_D A [(h, .inr (0, [.ref a_0, .ref a_1, .ref a_2, .int 0, .int 0, .ref a_5, .ref a_6, .null, .null, .null, .null, .null, .null, .null, .null, .null, .null])), (a_0, .inl (k_0, 8, .inl (fun _ => 0))), (a_1, .inl (k_1, 8, .inl (fun _ => 0))), (a_2, .inl (k_2, 8, .inl (fun _ => 0))), (a_5, .inl (k_5, 2, .inl (fun _ => 0))), (a_6, .inl (k_6, 2, .inl (fun _ => 0))), (a_7, .inl (k_7, 2, .inl (fun _ => 0)))] := hD
  refine W.widen (k := 6) (n := 30) (Nat.le_of_ble_eq_true rfl) (Nat.le_of_ble_eq_true rfl) ?_
  refine va_putF (D := D) (cl := vwCl) (ci := 0) (v := .ref a_7) (ty := .array .int) (C := RX1) (T := TX1) (N := 17) hx hb hts in_X1 tyX1 tyX1_ok nmX1 hown hK hP hD hS 0 rfl rfl 7 (by decide) (hts _ q30) (fun _ h9 => h9) rfl hnm rfl (by decide +kernel) rfl rfl (Nat.le_of_ble_eq_true rfl) dX1_init_46 (fun H locs hP hD hS => ?_)
  have hP : va_P D vwCl [(h, .inr (0, [.ref a_0, .ref a_1, .ref a_2, .int 0, .int 0, .ref a_5, .ref a_6, .ref a_7, .null, .null, .null, .null, .null, .null, .null, .null, .null])), (a_0, .inl (k_0, 8, .inl (fun _ => 0))), (a_1, .inl (k_1, 8, .inl (fun _ => 0))), (a_2, .inl (k_2, 8, .inl (fun _ => 0))), (a_5, .inl (k_5, 2, .inl (fun _ => 0))), (a_6, .inl (k_6, 2, .inl (fun _ => 0))), (a_7, .inl (k_7, 2, .inl (fun _ => 0)))] H := hP
  have hD : va_D A [(h, .inr (0, [.ref a_0, .ref a_1, .ref a_2, .int 0, .int 0, .ref a_5, .ref a_6, .ref a_7, .null, .null, .null, .null, .null, .null, .null, .null, .null])), (a_0, .inl (k_0, 8, .inl (fun _ => 0))), (a_1, .inl (k_1, 8, .inl (fun _ => 0))), (a_2, .inl (k_2, 8, .inl (fun _ => 0))), (a_5, .inl (k_5, 2, .inl (fun _ => 0))), (a_6, .inl (k_6, 2, .inl (fun _ => 0))), (a_7, .inl (k_7, 2, .inl (fun _ => 0)))] := hD
  refine lv_aload_n hx hb dX1_init_49 rfl (lv_at hl 0 rfl) ?_
  refine lv_bipush (v := 16) hx hb dX1_init_50 (by decide) ?_
  refine va_newa (D := D) (cl := vwCl) (atype := .boolean) (ty := .boolean) (N' := 16) (a0 := (16, .inl (fun _ => 0))) hx hb (hts _ q75) rfl hK hP hD hS hA (fun _ => rfl) (by decide) (by decide) (by decide) (Nat.le_of_ble_eq_true rfl) (Nat.le_of_ble_eq_true rfl) dX1_init_52 (fun a_8 k_8 H hK hP hD hS => ?_)
  have hK : va_K D vwCl [(k_0, .boolean), (k_1, .int), (k_2, .int), (k_5, .int), (k_6, .boolean), (k_7, .int), (k_8, .boolean)] s := hK
  have hP : va_P D vwCl [(h, .inr (0, [.ref a_0, .ref a_1, .ref a_2, .int 0, .int 0, .ref a_5, .ref a_6, .ref a_7, .null, .null, .null, .null, .null, .null, .null, .null, .null])), (a_0, .inl (k_0, 8, .inl (fun _ => 0))), (a_1, .inl (k_1, 8, .inl (fun _ => 0))), (a_2, .inl (k_2, 8, .inl (fun _ => 0))), (a_5, .inl (k_5, 2, .inl (fun _ => 0))), (a_6, .inl (k_6, 2, .inl (fun _ => 0))), (a_7, .inl (k_7, 2, .inl (fun _ => 0))), (a_8, .inl (k_8, 16, .inl (fun _ => 0)))] H := hP
  have hD : va_D A [(h, .inr (0, [.ref a_0, .ref a_1, .ref a_2, .int 0, .int 0, .ref a_5, .ref a_6, .ref a_7, .null, .null, .null, .null, .null, .null, .null, .null, .null])), (a_0, .inl (k_0, 8, .inl (fun _ => 0))), (a_1, .inl (k_1, 8, .inl (fun _ => 0))), (a_2, .inl (k_2, 8, .inl (fun _ => 0))), (a_5, .inl (k_5, 2, .inl (fun _ => 0))), (a_6, .inl (k_6, 2, .inl (fun _ => 0))), (a_7, .inl (k_7, 2, .inl (fun _ => 0))), (a_8, .inl (k_8, 16, .inl (fun _ => 0)))] := hD
  refine W.widen (k := 7) (n := 46) (Nat.le_of_ble_eq_true rfl) (Nat.le_of_ble_eq_true rfl) ?_
  refine va_putF (D := D) (cl := vwCl) (ci := 0) (v := .ref a_8) (ty := .array .boolean) (C := RX1) (T := TX1) (N := 17) hx hb hts in_X1 tyX1 tyX1_ok nmX1 hown hK hP hD hS 0 rfl rfl 8 (by decide) (hts _ q31) (fun _ h9 => h9) rfl hnm rfl (by decide +kernel) rfl rfl (Nat.le_of_ble_eq_true rfl) dX1_init_54 (fun H locs hP hD hS => ?_)
  have hP : va_P D vwCl [(h, .inr (0, [.ref a_0, .ref a_1, .ref a_2, .int 0, .int 0, .ref a_5, .ref a_6, .ref a_7, .ref a_8, .null, .null, .null, .null, .null, .null, .null, .null])), (a_0, .inl (k_0, 8, .inl (fun _ => 0))), (a_1, .inl (k_1, 8, .inl (fun _ => 0))), (a_2, .inl (k_2, 8, .inl (fun _ => 0))), (a_5, .inl (k_5, 2, .inl (fun _ => 0))), (a_6, .inl (k_6, 2, .inl (fun _ => 0))), (a_7, .inl (k_7, 2, .inl (fun _ => 0))), (a_8, .inl (k_8, 16, .inl (fun _ => 0)))] H := hP
  have hD : va_D A [(h, .inr (0, [.ref a_0, .ref a_1, .ref a_2, .int 0, .int 0, .ref a_5, .ref a_6, .ref a_7, .ref a_8, .null, .null, .null, .null, .null, .null, .null, .null])), (a_0, .inl (k_0, 8, .inl (fun _ => 0))), (a_1, .inl (k_1, 8, .inl (fun _ => 0))), (a_2, .inl (k_2, 8, .inl (fun _ => 0))), (a_5, .inl (k_5, 2, .inl (fun _ => 0))), (a_6, .inl (k_6, 2, .inl (fun _ => 0))), (a_7, .inl (k_7, 2, .inl (fun _ => 0))), (a_8, .inl (k_8, 16, .inl (fun _ => 0)))] := hD
  refine lv_aload_n hx hb dX1_init_57 rfl (lv_at hl 0 rfl) ?_
  refine lv_bipush (v := 16) hx hb dX1_init_58 (by decide) ?_
  refine va_newa (D := D) (cl := vwCl) (atype := .int) (ty := .int) (N' := 16) (a0 := (16, .inl (fun _ => 0))) hx hb (hts _ q76) rfl hK hP hD hS hA (fun _ => rfl) (by decide) (by decide) (by decide) (Nat.le_of_ble_eq_true rfl) (Nat.le_of_ble_eq_true rfl) dX1_init_60 (fun a_9 k_9 H hK hP hD hS => ?_)
  have hK : va_K D vwCl [(k_0, .boolean), (k_1, .int), (k_2, .int), (k_5, .int), (k_6, .boolean), (k_7, .int), (k_8, .boolean), (k_9, .int)] s := hK
  have hP : va_P D vwCl [(h, .inr (0, [.ref a_0, .ref a_1, .ref a_2, .int 0, .int 0, .ref a_5, .ref a_6, .ref a_7, .ref a_8, .null, .null, .null, .null, .null, .null, .null, .null])), (a_0, .inl (k_0, 8, .inl (fun _ => 0))), (a_1, .inl (k_1, 8, .inl (fun _ => 0))), (a_2, .inl (k_2, 8, .inl (fun _ => 0))), (a_5, .inl (k_5, 2, .inl (fun _ => 0))), (a_6, .inl (k_6, 2, .inl (fun _ => 0))), (a_7, .inl (k_7, 2, .inl (fun _ => 0))), (a_8, .inl (k_8, 16, .inl (fun _ => 0))), (a_9, .inl (k_9, 16, .inl (fun _ => 0)))] H := hP
  have hD : va_D A [(h, .inr (0, [.ref a_0, .ref a_1, .ref a_2, .int 0, .int 0, .ref a_5, .ref a_6, .ref a_7, .ref a_8, .null, .null, .null, .null, .null, .null, .null, .null])), (a_0, .inl (k_0, 8, .inl (fun _ => 0))), (a_1, .inl (k_1, 8, .inl (fun _ => 0))), (a_2, .inl (k_2, 8, .inl (fun _ => 0))), (a_5, .inl (k_5, 2, .inl (fun _ => 0))), (a_6, .inl (k_6, 2, .inl (fun _ => 0))), (a_7, .inl (k_7, 2, .inl (fun _ => 0))), (a_8, .inl (k_8, 16, .inl (fun _ => 0))), (a_9, .inl (k_9, 16, .inl (fun _ => 0)))] := hD
  refine W.widen (k := 8) (n := 62) (Nat.le_of_ble_eq_true rfl) (Nat.le_of_ble_eq_true rfl) ?_
  refine va_putF (D := D) (cl := vwCl) (ci := 0) (v := .ref a_9) (ty := .array .int) (C := RX1) (T := TX1) (N := 17) hx hb hts in_X1 tyX1 tyX1_ok nmX1 hown hK hP hD hS 0 rfl rfl 9 (by decide) (hts _ q32) (fun _ h9 => h9) rfl hnm rfl (by decide +kernel) rfl rfl (Nat.le_of_ble_eq_true rfl) dX1_init_62 (fun H locs hP hD hS => ?_)
  have hP : va_P D vwCl [(h, .inr (0, [.ref a_0, .ref a_1, .ref a_2, .int 0, .int 0, .ref a_5, .ref a_6, .ref a_7, .ref a_8, .ref a_9, .null, .null, .null, .null, .null, .null, .null])), (a_0, .inl (k_0, 8, .inl (fun _ => 0))), (a_1, .inl (k_1, 8, .inl (fun _ => 0))), (a_2, .inl (k_2, 8, .inl (fun _ => 0))), (a_5, .inl (k_5, 2, .inl (fun _ => 0))), (a_6, .inl (k_6, 2, .inl (fun _ => 0))), (a_7, .inl (k_7, 2, .inl (fun _ => 0))), (a_8, .inl (k_8, 16, .inl (fun _ => 0))), (a_9, .inl (k_9, 16, .inl (fun _ => 0)))] H := hP
  have hD : va_D A [(h, .inr (0, [.ref a_0, .ref a_1, .ref a_2, .int 0, .int 0, .ref a_5, .ref a_6, .ref a_7, .ref a_8, .ref a_9, .null, .null, .null, .null, .null, .null, .null])), (a_0, .inl (k_0, 8, .inl (fun _ => 0))), (a_1, .inl (k_1, 8, .inl (fun _ => 0))), (a_2, .inl (k_2, 8, .inl (fun _ => 0))), (a_5, .inl (k_5, 2, .inl (fun _ => 0))), (a_6, .inl (k_6, 2, .inl (fun _ => 0))), (a_7, .inl (k_7, 2, .inl (fun _ => 0))), (a_8, .inl (k_8, 16, .inl (fun _ => 0))), (a_9, .inl (k_9, 16, .inl (fun _ => 0)))] := hD
  refine lv_aload_n hx hb dX1_init_65 rfl (lv_at hl 0 rfl) ?_
  refine lv_bipush (v := 16) hx hb dX1_init_66 (by decide) ?_
  refine va_newa (D := D) (cl := vwCl) (atype := .int) (ty := .int) (N' := 16) (a0 := (16, .inl (fun _ => 0))) hx hb (hts _ q76) rfl hK hP hD hS hA (fun _ => rfl) (by decide) (by decide) (by decide) (Nat.le_of_ble_eq_true rfl) (Nat.le_of_ble_eq_true rfl) dX1_init_68 (fun a_10 k_10 H hK hP hD hS => ?_)
  have hK : va_K D vwCl [(k_0, .boolean), (k_1, .int), (k_2, .int), (k_5, .int), (k_6, .boolean), (k_7, .int), (k_8, .boolean), (k_9, .int), (k_10, .int)] s := hK
  have hP : va_P D vwCl [(h, .inr (0, [.ref a_0, .ref a_1, .ref a_2, .int 0, .int 0, .ref a_5, .ref a_6, .ref a_7, .ref a_8, .ref a_9, .null, .null, .null, .null, .null, .null, .null])), (a_0, .inl (k_0, 8, .inl (fun _ => 0))), (a_1, .inl (k_1, 8, .inl (fun _ => 0))), (a_2, .inl (k_2, 8, .inl (fun _ => 0))), (a_5, .inl (k_5, 2, .inl (fun _ => 0))), (a_6, .inl (k_6, 2, .inl (fun _ => 0))), (a_7, .inl (k_7, 2, .inl (fun _ => 0))), (a_8, .inl (k_8, 16, .inl (fun _ => 0))), (a_9, .inl (k_9, 16, .inl (fun _ => 0))), (a_10, .inl (k_10, 16, .inl (fun _ => 0)))] H := hP
  have hD : va_D A [(h, .inr (0, [.ref a_0, .ref a_1, .ref a_2, .int 0, .int 0, .ref a_5, .ref a_6, .ref a_7, .ref a_8, .ref a_9, .null, .null, .null, .null, .null, .null, .null])), (a_0, .inl (k_0, 8, .inl (fun _ => 0))), (a_1, .inl (k_1, 8, .inl (fun _ => 0))), (a_2, .inl (k_2, 8, .inl (fun _ => 0))), (a_5, .inl (k_5, 2, .inl (fun _ => 0))), (a_6, .inl (k_6, 2, .inl (fun _ => 0))), (a_7, .inl (k_7, 2, .inl (fun _ => 0))), (a_8, .inl (k_8, 16, .inl (fun _ => 0))), (a_9, .inl (k_9, 16, .inl (fun _ => 0))), (a_10, .inl (k_10, 16, .inl (fun _ => 0)))] := hD
  refine W.widen (k := 9) (n := 78) (Nat.le_of_ble_eq_true rfl) (Nat.le_of_ble_eq_true rfl) ?_
  refine va_putF (D := D) (cl := vwCl) (ci := 0) (v := .ref a_10) (ty := .array .int) (C := RX1) (T := TX1) (N := 17) hx hb hts in_X1 tyX1 tyX1_ok nmX1 hown hK hP hD hS 0 rfl rfl 10 (by decide) (hts _ q33) (fun _ h9 => h9) rfl hnm rfl (by decide +kernel) rfl rfl (Nat.le_of_ble_eq_true rfl) dX1_init_70 (fun H locs hP hD hS => ?_)
  have hP : va_P D vwCl [(h, .inr (0, [.ref a_0, .ref a_1, .ref a_2, .int 0, .int 0, .ref a_5, .ref a_6, .ref a_7, .ref a_8, .ref a_9, .ref a_10, .null, .null, .null, .null, .null, .null])), (a_0, .inl (k_0, 8, .inl (fun _ => 0))), (a_1, .inl (k_1, 8, .inl (fun _ => 0))), (a_2, .inl (k_2, 8, .inl (fun _ => 0))), (a_5, .inl (k_5, 2, .inl (fun _ => 0))), (a_6, .inl (k_6, 2, .inl (fun _ => 0))), (a_7, .inl (k_7, 2, .inl (fun _ => 0))), (a_8, .inl (k_8, 16, .inl (fun _ => 0))), (a_9, .inl (k_9, 16, .inl (fun _ => 0))), (a_10, .inl (k_10, 16, .inl (fun _ => 0)))] H := hP
  have hD : va_D A [(h, .inr (0, [.ref a_0, .ref a_1, .ref a_2, .int 0, .int 0, .ref a_5, .ref a_6, .ref a_7, .ref a_8, .ref a_9, .ref a_10, .null, .null, .null, .null, .null, .null])), (a_0, .inl (k_0, 8, .inl (fun _ => 0))), (a_1, .inl (k_1, 8, .inl (fun _ => 0))), (a_2, .inl (k_2, 8, .inl (fun _ => 0))), (a_5, .inl (k_5, 2, .inl (fun _ => 0))), (a_6, .inl (k_6, 2, .inl (fun _ => 0))), (a_7, .inl (k_7, 2, .inl (fun _ => 0))), (a_8, .inl (k_8, 16, .inl (fun _ => 0))), (a_9, .inl (k_9, 16, .inl (fun _ => 0))), (a_10, .inl (k_10, 16, .inl (fun _ => 0)))] := hD
  refine lv_aload_n hx hb dX1_init_73 rfl (lv_at hl 0 rfl) ?_
  refine lv_bipush (v := 16) hx hb dX1_init_74 (by decide) ?_
  refine va_newa (D := D) (cl := vwCl) (atype := .int) (ty := .int) (N' := 16) (a0 := (16, .inl (fun _ => 0))) hx hb (hts _ q76) rfl hK hP hD hS hA (fun _ => rfl) (by decide) (by decide) (by decide) (Nat.le_of_ble_eq_true rfl) (Nat.le_of_ble_eq_true rfl) dX1_init_76 (fun a_11 k_11 H hK hP hD hS => ?_)
  have hK : va_K D vwCl [(k_0, .boolean), (k_1, .int), (k_2, .int), (k_5, .int), (k_6, .boolean), (k_7, .int), (k_8, .boolean), (k_9, .int), (k_10, .int), (k_11, .int)] s := hK
  have hP : va_P D vwCl [(h, .inr (0, [.ref a_0, .ref a_1, .ref a_2, .int 0, .int 0, .ref a_5, .ref a_6, .ref a_7, .ref a_8, .ref a_9, .ref a_10, .null, .null, .null, .null, .null, .null])), (a_0, .inl (k_0, 8, .inl (fun _ => 0))), (a_1, .inl (k_1, 8, .inl (fun _ => 0))), (a_2, .inl (k_2, 8, .inl (fun _ => 0))), (a_5, .inl (k_5, 2, .inl (fun _ => 0))), (a_6, .inl (k_6, 2, .inl (fun _ => 0))), (a_7, .inl (k_7, 2, .inl (fun _ => 0))), (a_8, .inl (k_8, 16, .inl (fun _ => 0))), (a_9, .inl (k_9, 16, .inl (fun _ => 0))), (a_10, .inl (k_10, 16, .inl (fun _ => 0))), (a_11, .inl (k_11, 16, .inl (fun _ => 0)))] H := hP
  have hD : va_D A [(h, .inr (0, [.ref a_0, .ref a_1, .ref a_2, .int 0, .int 0, .ref a_5, .ref a_6, .ref a_7, .ref a_8, .ref a_9, .ref a_10, .null, .null, .null, .null, .null, .null])), (a_0, .inl (k_0, 8, .inl (fun _ => 0))), (a_1, .inl (k_1, 8, .inl (fun _ => 0))), (a_2, .inl (k_2, 8, .inl (fun _ => 0))), (a_5, .inl (k_5, 2, .inl (fun _ => 0))), (a_6, .inl (k_6, 2, .inl (fun _ => 0))), (a_7, .inl (k_7, 2, .inl (fun _ => 0))), (a_8, .inl (k_8, 16, .inl (fun _ => 0))), (a_9, .inl (k_9, 16, .inl (fun _ => 0))), (a_10, .inl (k_10, 16, .inl (fun _ => 0))), (a_11, .inl (k_11, 16, .inl (fun _ => 0)))] := hD
  refine W.widen (k := 10) (n := 94) (Nat.le_of_ble_eq_true rfl) (Nat.le_of_ble_eq_true rfl) ?_
  refine va_putF (D := D) (cl := vwCl) (ci := 0) (v := .ref a_11) (ty := .array .int) (C := RX1) (T := TX1) (N := 17) hx hb hts in_X1 tyX1 tyX1_ok nmX1 hown hK hP hD hS 0 rfl rfl 11 (by decide) (hts _ q34) (fun _ h9 => h9) rfl hnm rfl (by decide +kernel) rfl rfl (Nat.le_of_ble_eq_true rfl) dX1_init_78 (fun H locs hP hD hS => ?_)
  have hP : va_P D vwCl [(h, .inr (0, [.ref a_0, .ref a_1, .ref a_2, .int 0, .int 0, .ref a_5, .ref a_6, .ref a_7, .ref a_8, .ref a_9, .ref a_10, .ref a_11, .null, .null, .null, .null, .null])), (a_0, .inl (k_0, 8, .inl (fun _ => 0))), (a_1, .inl (k_1, 8, .inl (fun _ => 0))), (a_2, .inl (k_2, 8, .inl (fun _ => 0))), (a_5, .inl (k_5, 2, .inl (fun _ => 0))), (a_6, .inl (k_6, 2, .inl (fun _ => 0))), (a_7, .inl (k_7, 2, .inl (fun _ => 0))), (a_8, .inl (k_8, 16, .inl (fun _ => 0))), (a_9, .inl (k_9, 16, .inl (fun _ => 0))), (a_10, .inl (k_10, 16, .inl (fun _ => 0))), (a_11, .inl (k_11, 16, .inl (fun _ => 0)))] H := hP
  have hD : va_D A [(h, .inr (0, [.ref a_0, .ref a_1, .ref a_2, .int 0, .int 0, .ref a_5, .ref a_6, .ref a_7, .ref a_8, .ref a_9, .ref a_10, .ref a_11, .null, .null, .null, .null, .null])), (a_0, .inl (k_0, 8, .inl (fun _ => 0))), (a_1, .inl (k_1, 8, .inl (fun _ => 0))), (a_2, .inl (k_2, 8, .inl (fun _ => 0))), (a_5, .inl (k_5, 2, .inl (fun _ => 0))), (a_6, .inl (k_6, 2, .inl (fun _ => 0))), (a_7, .inl (k_7, 2, .inl (fun _ => 0))), (a_8, .inl (k_8, 16, .inl (fun _ => 0))), (a_9, .inl (k_9, 16, .inl (fun _ => 0))), (a_10, .inl (k_10, 16, .inl (fun _ => 0))), (a_11, .inl (k_11, 16, .inl (fun _ => 0)))] := hD
  refine lv_aload_n hx hb dX1_init_81 rfl (lv_at hl 0 rfl) ?_
  refine lv_iconst (v := 2) hx hb dX1_init_82 (by decide) ?_
  refine va_newa (D := D) (cl := vwCl) (atype := .int) (ty := .int) (N' := 2) (a0 := (2, .inl (fun _ => 0))) hx hb (hts _ q76) rfl hK hP hD hS hA (fun _ => rfl) (by decide) (by decide) (by decide) (Nat.le_of_ble_eq_true rfl) (Nat.le_of_ble_eq_true rfl) dX1_init_83 (fun a_12 k_12 H hK hP hD hS => ?_)
  have hK : va_K D vwCl [(k_0, .boolean), (k_1, .int), (k_2, .int), (k_5, .int), (k_6, .boolean), (k_7, .int), (k_8, .boolean), (k_9, .int), (k_10, .int), (k_11, .int), (k_12, .int)] s := hK
  have hP : va_P D vwCl [(h, .inr (0, [.ref a_0, .ref a_1, .ref a_2, .int 0, .int 0, .ref a_5, .ref a_6, .ref a_7, .ref a_8, .ref a_9, .ref a_10, .ref a_11, .null, .null, .null, .null, .null])), (a_0, .inl (k_0, 8, .inl (fun _ => 0))), (a_1, .inl (k_1, 8, .inl (fun _ => 0))), (a_2, .inl (k_2, 8, .inl (fun _ => 0))), (a_5, .inl (k_5, 2, .inl (fun _ => 0))), (a_6, .inl (k_6, 2, .inl (fun _ => 0))), (a_7, .inl (k_7, 2, .inl (fun _ => 0))), (a_8, .inl (k_8, 16, .inl (fun _ => 0))), (a_9, .inl (k_9, 16, .inl (fun _ => 0))), (a_10, .inl (k_10, 16, .inl (fun _ => 0))), (a_11, .inl (k_11, 16, .inl (fun _ => 0))), (a_12, .inl (k_12, 2, .inl (fun _ => 0)))] H := hP
  have hD : va_D A [(h, .inr (0, [.ref a_0, .ref a_1, .ref a_2, .int 0, .int 0, .ref a_5, .ref a_6, .ref a_7, .ref a_8, .ref a_9, .ref a_10, .ref a_11, .null, .null, .null, .null, .null])), (a_0, .inl (k_0, 8, .inl (fun _ => 0))), (a_1, .inl (k_1, 8, .inl (fun _ => 0))), (a_2, .inl (k_2, 8, .inl (fun _ => 0))), (a_5, .inl (k_5, 2, .inl (fun _ => 0))), (a_6, .inl (k_6, 2, .inl (fun _ => 0))), (a_7, .inl (k_7, 2, .inl (fun _ => 0))), (a_8, .inl (k_8, 16, .inl (fun _ => 0))), (a_9, .inl (k_9, 16, .inl (fun _ => 0))), (a_10, .inl (k_10, 16, .inl (fun _ => 0))), (a_11, .inl (k_11, 16, .inl (fun _ => 0))), (a_12, .inl (k_12, 2, .inl (fun _ => 0)))] := hD
  refine W.widen (k := 11) (n := 96) (Nat.le_of_ble_eq_true rfl) (Nat.le_of_ble_eq_true rfl) ?_
  refine va_putF (D := D) (cl := vwCl) (ci := 0) (v := .ref a_12) (ty := .array .int) (C := RX1) (T := TX1) (N := 17) hx hb hts in_X1 tyX1 tyX1_ok nmX1 hown hK hP hD hS 0 rfl rfl 12 (by decide) (hts _ q35) (fun _ h9 => h9) rfl hnm rfl (by decide +kernel) rfl rfl (Nat.le_of_ble_eq_true rfl) dX1_init_85 (fun H locs hP hD hS => ?_)
  have hP : va_P D vwCl [(h, .inr (0, [.ref a_0, .ref a_1, .ref a_2, .int 0, .int 0, .ref a_5, .ref a_6, .ref a_7, .ref a_8, .ref a_9, .ref a_10, .ref a_11, .ref a_12, .null, .null, .null, .null])), (a_0, .inl (k_0, 8, .inl (fun _ => 0))), (a_1, .inl (k_1, 8, .inl (fun _ => 0))), (a_2, .inl (k_2, 8, .inl (fun _ => 0))), (a_5, .inl (k_5, 2, .inl (fun _ => 0))), (a_6, .inl (k_6, 2, .inl (fun _ => 0))), (a_7, .inl (k_7, 2, .inl (fun _ => 0))), (a_8, .inl (k_8, 16, .inl (fun _ => 0))), (a_9, .inl (k_9, 16, .inl (fun _ => 0))), (a_10, .inl (k_10, 16, .inl (fun _ => 0))), (a_11, .inl (k_11, 16, .inl (fun _ => 0))), (a_12, .inl (k_12, 2, .inl (fun _ => 0)))] H := hP
  have hD : va_D A [(h, .inr (0, [.ref a_0, .ref a_1, .ref a_2, .int 0, .int 0, .ref a_5, .ref a_6, .ref a_7, .ref a_8, .ref a_9, .ref a_10, .ref a_11, .ref a_12, .null, .null, .null, .null])), (a_0, .inl (k_0, 8, .inl (fun _ => 0))), (a_1, .inl (k_1, 8, .inl (fun _ => 0))), (a_2, .inl (k_2, 8, .inl (fun _ => 0))), (a_5, .inl (k_5, 2, .inl (fun _ => 0))), (a_6, .inl (k_6, 2, .inl (fun _ => 0))), (a_7, .inl (k_7, 2, .inl (fun _ => 0))), (a_8, .inl (k_8, 16, .inl (fun _ => 0))), (a_9, .inl (k_9, 16, .inl (fun _ => 0))), (a_10, .inl (k_10, 16, .inl (fun _ => 0))), (a_11, .inl (k_11, 16, .inl (fun _ => 0))), (a_12, .inl (k_12, 2, .inl (fun _ => 0)))] := hD
  refine lv_aload_n hx hb dX1_init_88 rfl (lv_at hl 0 rfl) ?_
  refine lv_iconst (v := 2) hx hb dX1_init_89 (by decide) ?_
  refine va_newa (D := D) (cl := vwCl) (atype := .int) (ty := .int) (N' := 2) (a0 := (2, .inl (fun _ => 0))) hx hb (hts _ q76) rfl hK hP hD hS hA (fun _ => rfl) (by decide) (by decide) (by decide) (Nat.le_of_ble_eq_true rfl) (Nat.le_of_ble_eq_true rfl) dX1_init_90 (fun a_13 k_13 H hK hP hD hS => ?_)
  have hK : va_K D vwCl [(k_0, .boolean), (k_1, .int), (k_2, .int), (k_5, .int), (k_6, .boolean), (k_7, .int), (k_8, .boolean), (k_9, .int), (k_10, .int), (k_11, .int), (k_12, .int), (k_13, .int)] s := hK
  have hP : va_P D vwCl [(h, .inr (0, [.ref a_0, .ref a_1, .ref a_2, .int 0, .int 0, .ref a_5, .ref a_6, .ref a_7, .ref a_8, .ref a_9, .ref a_10, .ref a_11, .ref a_12, .null, .null, .null, .null])), (a_0, .inl (k_0, 8, .inl (fun _ => 0))), (a_1, .inl (k_1, 8, .inl (fun _ => 0))), (a_2, .inl (k_2, 8, .inl (fun _ => 0))), (a_5, .inl (k_5, 2, .inl (fun _ => 0))), (a_6, .inl (k_6, 2, .inl (fun _ => 0))), (a_7, .inl (k_7, 2, .inl (fun _ => 0))), (a_8, .inl (k_8, 16, .inl (fun _ => 0))), (a_9, .inl (k_9, 16, .inl (fun _ => 0))), (a_10, .inl (k_10, 16, .inl (fun _ => 0))), (a_11, .inl (k_11, 16, .inl (fun _ => 0))), (a_12, .inl (k_12, 2, .inl (fun _ => 0))), (a_13, .inl (k_13, 2, .inl (fun _ => 0)))] H := hP
  have hD : va_D A [(h, .inr (0, [.ref a_0, .ref a_1, .ref a_2, .int 0, .int 0, .ref a_5, .ref a_6, .ref a_7, .ref a_8, .ref a_9, .ref a_10, .ref a_11, .ref a_12, .null, .null, .null, .null])), (a_0, .inl (k_0, 8, .inl (fun _ => 0))), (a_1, .inl (k_1, 8, .inl (fun _ => 0))), (a_2, .inl (k_2, 8, .inl (fun _ => 0))), (a_5, .inl (k_5, 2, .inl (fun _ => 0))), (a_6, .inl (k_6, 2, .inl (fun _ => 0))), (a_7, .inl (k_7, 2, .inl (fun _ => 0))), (a_8, .inl (k_8, 16, .inl (fun _ => 0))), (a_9, .inl (k_9, 16, .inl (fun _ => 0))), (a_10, .inl (k_10, 16, .inl (fun _ => 0))), (a_11, .inl (k_11, 16, .inl (fun _ => 0))), (a_12, .inl (k_12, 2, .inl (fun _ => 0))), (a_13, .inl (k_13, 2, .inl (fun _ => 0)))] := hD
  refine W.widen (k := 12) (n := 98) (Nat.le_of_ble_eq_true rfl) (Nat.le_of_ble_eq_true rfl) ?_
  refine va_putF (D := D) (cl := vwCl) (ci := 0) (v := .ref a_13) (ty := .array .int) (C := RX1) (T := TX1) (N := 17) hx hb hts in_X1 tyX1 tyX1_ok nmX1 hown hK hP hD hS 0 rfl rfl 13 (by decide) (hts _ q36) (fun _ h9 => h9) rfl hnm rfl (by decide +kernel) rfl rfl (Nat.le_of_ble_eq_true rfl) dX1_init_92 (fun H locs hP hD hS => ?_)
  have hP : va_P D vwCl [(h, .inr (0, [.ref a_0, .ref a_1, .ref a_2, .int 0, .int 0, .ref a_5, .ref a_6, .ref a_7, .ref a_8, .ref a_9, .ref a_10, .ref a_11, .ref a_12, .ref a_13, .null, .null, .null])), (a_0, .inl (k_0, 8, .inl (fun _ => 0))), (a_1, .inl (k_1, 8, .inl (fun _ => 0))), (a_2, .inl (k_2, 8, .inl (fun _ => 0))), (a_5, .inl (k_5, 2, .inl (fun _ => 0))), (a_6, .inl (k_6, 2, .inl (fun _ => 0))), (a_7, .inl (k_7, 2, .inl (fun _ => 0))), (a_8, .inl (k_8, 16, .inl (fun _ => 0))), (a_9, .inl (k_9, 16, .inl (fun _ => 0))), (a_10, .inl (k_10, 16, .inl (fun _ => 0))), (a_11, .inl (k_11, 16, .inl (fun _ => 0))), (a_12, .inl (k_12, 2, .inl (fun _ => 0))), (a_13, .inl (k_13, 2, .inl (fun _ => 0)))] H := hP
  have hD : va_D A [(h, .inr (0, [.ref a_0, .ref a_1, .ref a_2, .int 0, .int 0, .ref a_5, .ref a_6, .ref a_7, .ref a_8, .ref a_9, .ref a_10, .ref a_11, .ref a_12, .ref a_13, .null, .null, .null])), (a_0, .inl (k_0, 8, .inl (fun _ => 0))), (a_1, .inl (k_1, 8, .inl (fun _ => 0))), (a_2, .inl (k_2, 8, .inl (fun _ => 0))), (a_5, .inl (k_5, 2, .inl (fun _ => 0))), (a_6, .inl (k_6, 2, .inl (fun _ => 0))), (a_7, .inl (k_7, 2, .inl (fun _ => 0))), (a_8, .inl (k_8, 16, .inl (fun _ => 0))), (a_9, .inl (k_9, 16, .inl (fun _ => 0))), (a_10, .inl (k_10, 16, .inl (fun _ => 0))), (a_11, .inl (k_11, 16, .inl (fun _ => 0))), (a_12, .inl (k_12, 2, .inl (fun _ => 0))), (a_13, .inl (k_13, 2, .inl (fun _ => 0)))] := hD
  refine lv_aload_n hx hb dX1_init_95 rfl (lv_at hl 0 rfl) ?_
  refine lv_iconst (v := 2) hx hb dX1_init_96 (by decide) ?_
  refine va_newa (D := D) (cl := vwCl) (atype := .int) (ty := .int) (N' := 2) (a0 := (2, .inl (fun _ => 0))) hx hb (hts _ q76) rfl hK hP hD hS hA (fun _ => rfl) (by decide) (by decide) (by decide) (Nat.le_of_ble_eq_true rfl) (Nat.le_of_ble_eq_true rfl) dX1_init_97 (fun a_14 k_14 H hK hP hD hS => ?_)
  have hK : va_K D vwCl [(k_0, .boolean), (k_1, .int), (k_2, .int), (k_5, .int), (k_6, .boolean), (k_7, .int), (k_8, .boolean), (k_9, .int), (k_10, .int), (k_11, .int), (k_12, .int), (k_13, .int), (k_14, .int)] s := hK
  have hP : va_P D vwCl [(h, .inr (0, [.ref a_0, .ref a_1, .ref a_2, .int 0, .int 0, .ref a_5, .ref a_6, .ref a_7, .ref a_8, .ref a_9, .ref a_10, .ref a_11, .ref a_12, .ref a_13, .null, .null, .null])), (a_0, .inl (k_0, 8, .inl (fun _ => 0))), (a_1, .inl (k_1, 8, .inl (fun _ => 0))), (a_2, .inl (k_2, 8, .inl (fun _ => 0))), (a_5, .inl (k_5, 2, .inl (fun _ => 0))), (a_6, .inl (k_6, 2, .inl (fun _ => 0))), (a_7, .inl (k_7, 2, .inl (fun _ => 0))), (a_8, .inl (k_8, 16, .inl (fun _ => 0))), (a_9, .inl (k_9, 16, .inl (fun _ => 0))), (a_10, .inl (k_10, 16, .inl (fun _ => 0))), (a_11, .inl (k_11, 16, .inl (fun _ => 0))), (a_12, .inl (k_12, 2, .inl (fun _ => 0))), (a_13, .inl (k_13, 2, .inl (fun _ => 0))), (a_14, .inl (k_14, 2, .inl (fun _ => 0)))] H := hP
  have hD : va_D A [(h, .inr (0, [.ref a_0, .ref a_1, .ref a_2, .int 0, .int 0, .ref a_5, .ref a_6, .ref a_7, .ref a_8, .ref a_9, .ref a_10, .ref a_11, .ref a_12, .ref a_13, .null, .null, .null])), (a_0, .inl (k_0, 8, .inl (fun _ => 0))), (a_1, .inl (k_1, 8, .inl (fun _ => 0))), (a_2, .inl (k_2, 8, .inl (fun _ => 0))), (a_5, .inl (k_5, 2, .inl (fun _ => 0))), (a_6, .inl (k_6, 2, .inl (fun _ => 0))), (a_7, .inl (k_7, 2, .inl (fun _ => 0))), (a_8, .inl (k_8, 16, .inl (fun _ => 0))), (a_9, .inl (k_9, 16, .inl (fun _ => 0))), (a_10, .inl (k_10, 16, .inl (fun _ => 0))), (a_11, .inl (k_11, 16, .inl (fun _ => 0))), (a_12, .inl (k_12, 2, .inl (fun _ => 0))), (a_13, .inl (k_13, 2, .inl (fun _ => 0))), (a_14, .inl (k_14, 2, .inl (fun _ => 0)))] := hD
  refine W.widen (k := 13) (n := 100) (Nat.le_of_ble_eq_true rfl) (Nat.le_of_ble_eq_true rfl) ?_
  refine va_putF (D := D) (cl := vwCl) (ci := 0) (v := .ref a_14) (ty := .array .int) (C := RX1) (T := TX1) (N := 17) hx hb hts in_X1 tyX1 tyX1_ok nmX1 hown hK hP hD hS 0 rfl rfl 14 (by decide) (hts _ q37) (fun _ h9 => h9) rfl hnm rfl (by decide +kernel) rfl rfl (Nat.le_of_ble_eq_true rfl) dX1_init_99 (fun H locs hP hD hS => ?_)
  have hP : va_P D vwCl [(h, .inr (0, [.ref a_0, .ref a_1, .ref a_2, .int 0, .int 0, .ref a_5, .ref a_6, .ref a_7, .ref a_8, .ref a_9, .ref a_10, .ref a_11, .ref a_12, .ref a_13, .ref a_14, .null, .null])), (a_0, .inl (k_0, 8, .inl (fun _ => 0))), (a_1, .inl (k_1, 8, .inl (fun _ => 0))), (a_2, .inl (k_2, 8, .inl (fun _ => 0))), (a_5, .inl (k_5, 2, .inl (fun _ => 0))), (a_6, .inl (k_6, 2, .inl (fun _ => 0))), (a_7, .inl (k_7, 2, .inl (fun _ => 0))), (a_8, .inl (k_8, 16, .inl (fun _ => 0))), (a_9, .inl (k_9, 16, .inl (fun _ => 0))), (a_10, .inl (k_10, 16, .inl (fun _ => 0))), (a_11, .inl (k_11, 16, .inl (fun _ => 0))), (a_12, .inl (k_12, 2, .inl (fun _ => 0))), (a_13, .inl (k_13, 2, .inl (fun _ => 0))), (a_14, .inl (k_14, 2, .inl (fun _ => 0)))] H := hP
  have hD : va_D A [(h, .inr (0, [.ref a_0, .ref a_1, .ref a_2, .int 0, .int 0, .ref a_5, .ref a_6, .ref a_7, .ref a_8, .ref a_9, .ref a_10, .ref a_11, .ref a_12, .ref a_13, .ref a_14, .null, .null])), (a_0, .inl (k_0, 8, .inl (fun _ => 0))), (a_1, .inl (k_1, 8, .inl (fun _ => 0))), (a_2, .inl (k_2, 8, .inl (fun _ => 0))), (a_5, .inl (k_5, 2, .inl (fun _ => 0))), (a_6, .inl (k_6, 2, .inl (fun _ => 0))), (a_7, .inl (k_7, 2, .inl (fun _ => 0))), (a_8, .inl (k_8, 16, .inl (fun _ => 0))), (a_9, .inl (k_9, 16, .inl (fun _ => 0))), (a_10, .inl (k_10, 16, .inl (fun _ => 0))), (a_11, .inl (k_11, 16, .inl (fun _ => 0))), (a_12, .inl (k_12, 2, .inl (fun _ => 0))), (a_13, .inl (k_13, 2, .inl (fun _ => 0))), (a_14, .inl (k_14, 2, .inl (fun _ => 0)))] := hD
  refine lv_aload_n hx hb dX1_init_102 rfl (lv_at hl 0 rfl) ?_
  refine lv_iconst (v := 2) hx hb dX1_init_103 (by decide) ?_
  refine va_newa (D := D) (cl := vwCl) (atype := .int) (ty := .int) (N' := 2) (a0 := (2, .inl (fun _ => 0))) hx hb (hts _ q76) rfl hK hP hD hS hA (fun _ => rfl) (by decide) (by decide) (by decide) (Nat.le_of_ble_eq_true rfl) (Nat.le_of_ble_eq_true rfl) dX1_init_104 (fun a_15 k_15 H hK hP hD hS => ?_)
  have hK : va_K D vwCl [(k_0, .boolean), (k_1, .int), (k_2, .int), (k_5, .int), (k_6, .boolean), (k_7, .int), (k_8, .boolean), (k_9, .int), (k_10, .int), (k_11, .int), (k_12, .int), (k_13, .int), (k_14, .int), (k_15, .int)] s := hK
  have hP : va_P D vwCl [(h, .inr (0, [.ref a_0, .ref a_1, .ref a_2, .int 0, .int 0, .ref a_5, .ref a_6, .ref a_7, .ref a_8, .ref a_9, .ref a_10, .ref a_11, .ref a_12, .ref a_13, .ref a_14, .null, .null])), (a_0, .inl (k_0, 8, .inl (fun _ => 0))), (a_1, .inl (k_1, 8, .inl (fun _ => 0))), (a_2, .inl (k_2, 8, .inl (fun _ => 0))), (a_5, .inl (k_5, 2, .inl (fun _ => 0))), (a_6, .inl (k_6, 2, .inl (fun _ => 0))), (a_7, .inl (k_7, 2, .inl (fun _ => 0))), (a_8, .inl (k_8, 16, .inl (fun _ => 0))), (a_9, .inl (k_9, 16, .inl (fun _ => 0))), (a_10, .inl (k_10, 16, .inl (fun _ => 0))), (a_11, .inl (k_11, 16, .inl (fun _ => 0))), (a_12, .inl (k_12, 2, .inl (fun _ => 0))), (a_13, .inl (k_13, 2, .inl (fun _ => 0))), (a_14, .inl (k_14, 2, .inl (fun _ => 0))), (a_15, .inl (k_15, 2, .inl (fun _ => 0)))] H := hP
  have hD : va_D A [(h, .inr (0, [.ref a_0, .ref a_1, .ref a_2, .int 0, .int 0, .ref a_5, .ref a_6, .ref a_7, .ref a_8, .ref a_9, .ref a_10, .ref a_11, .ref a_12, .ref a_13, .ref a_14, .null, .null])), (a_0, .inl (k_0, 8, .inl (fun _ => 0))), (a_1, .inl (k_1, 8, .inl (fun _ => 0))), (a_2, .inl (k_2, 8, .inl (fun _ => 0))), (a_5, .inl (k_5, 2, .inl (fun _ => 0))), (a_6, .inl (k_6, 2, .inl (fun _ => 0))), (a_7, .inl (k_7, 2, .inl (fun _ => 0))), (a_8, .inl (k_8, 16, .inl (fun _ => 0))), (a_9, .inl (k_9, 16, .inl (fun _ => 0))), (a_10, .inl (k_10, 16, .inl (fun _ => 0))), (a_11, .inl (k_11, 16, .inl (fun _ => 0))), (a_12, .inl (k_12, 2, .inl (fun _ => 0))), (a_13, .inl (k_13, 2, .inl (fun _ => 0))), (a_14, .inl (k_14, 2, .inl (fun _ => 0))), (a_15, .inl (k_15, 2, .inl (fun _ => 0)))] := hD
  refine W.widen (k := 14) (n := 102) (Nat.le_of_ble_eq_true rfl) (Nat.le_of_ble_eq_true rfl) ?_
  refine va_putF (D := D) (cl := vwCl) (ci := 0) (v := .ref a_15) (ty := .array .int) (C := RX1) (T := TX1) (N := 17) hx hb hts in_X1 tyX1 tyX1_ok nmX1 hown hK hP hD hS 0 rfl rfl 15 (by decide) (hts _ q38) (fun _ h9 => h9) rfl hnm rfl (by decide +kernel) rfl rfl (Nat.le_of_ble_eq_true rfl) dX1_init_106 (fun H locs hP hD hS => ?_)
  have hP : va_P D vwCl [(h, .inr (0, [.ref a_0, .ref a_1, .ref a_2, .int 0, .int 0, .ref a_5, .ref a_6, .ref a_7, .ref a_8, .ref a_9, .ref a_10, .ref a_11, .ref a_12, .ref a_13, .ref a_14, .ref a_15, .null])), (a_0, .inl (k_0, 8, .inl (fun _ => 0))), (a_1, .inl (k_1, 8, .inl (fun _ => 0))), (a_2, .inl (k_2, 8, .inl (fun _ => 0))), (a_5, .inl (k_5, 2, .inl (fun _ => 0))), (a_6, .inl (k_6, 2, .inl (fun _ => 0))), (a_7, .inl (k_7, 2, .inl (fun _ => 0))), (a_8, .inl (k_8, 16, .inl (fun _ => 0))), (a_9, .inl (k_9, 16, .inl (fun _ => 0))), (a_10, .inl (k_10, 16, .inl (fun _ => 0))), (a_11, .inl (k_11, 16, .inl (fun _ => 0))), (a_12, .inl (k_12, 2, .inl (fun _ => 0))), (a_13, .inl (k_13, 2, .inl (fun _ => 0))), (a_14, .inl (k_14, 2, .inl (fun _ => 0))), (a_15, .inl (k_15, 2, .inl (fun _ => 0)))] H := hP
  have hD : va_D A [(h, .inr (0, [.ref a_0, .ref a_1, .ref a_2, .int 0, .int 0, .ref a_5, .ref a_6, .ref a_7, .ref a_8, .ref a_9, .ref a_10, .ref a_11, .ref a_12, .ref a_13, .ref a_14, .ref a_15, .null])), (a_0, .inl (k_0, 8, .inl (fun _ => 0))), (a_1, .inl (k_1, 8, .inl (fun _ => 0))), (a_2, .inl (k_2, 8, .inl (fun _ => 0))), (a_5, .inl (k_5, 2, .inl (fun _ => 0))), (a_6, .inl (k_6, 2, .inl (fun _ => 0))), (a_7, .inl (k_7, 2, .inl (fun _ => 0))), (a_8, .inl (k_8, 16, .inl (fun _ => 0))), (a_9, .inl (k_9, 16, .inl (fun _ => 0))), (a_10, .inl (k_10, 16, .inl (fun _ => 0))), (a_11, .inl (k_11, 16, .inl (fun _ => 0))), (a_12, .inl (k_12, 2, .inl (fun _ => 0))), (a_13, .inl (k_13, 2, .inl (fun _ => 0))), (a_14, .inl (k_14, 2, .inl (fun _ => 0))), (a_15, .inl (k_15, 2, .inl (fun _ => 0)))] := hD
  refine lv_aload_n hx hb dX1_init_109 rfl (lv_at hl 0 rfl) ?_
  refine lv_iconst (v := 2) hx hb dX1_init_110 (by decide) ?_
  refine va_newa (D := D) (cl := vwCl) (atype := .int) (ty := .int) (N' := 2) (a0 := (2, .inl (fun _ => 0))) hx hb (hts _ q76) rfl hK hP hD hS hA (fun _ => rfl) (by decide) (by decide) (by decide) (Nat.le_of_ble_eq_true rfl) (Nat.le_of_ble_eq_true rfl) dX1_init_111 (fun a_16 k_16 H hK hP hD hS => ?_)
  have hK : va_K D vwCl [(k_0, .boolean), (k_1, .int), (k_2, .int), (k_5, .int), (k_6, .boolean), (k_7, .int), (k_8, .boolean), (k_9, .int), (k_10, .int), (k_11, .int), (k_12, .int), (k_13, .int), (k_14, .int), (k_15, .int), (k_16, .int)] s := hK
  have hP : va_P D vwCl [(h, .inr (0, [.ref a_0, .ref a_1, .ref a_2, .int 0, .int 0, .ref a_5, .ref a_6, .ref a_7, .ref a_8, .ref a_9, .ref a_10, .ref a_11, .ref a_12, .ref a_13, .ref a_14, .ref a_15, .null])), (a_0, .inl (k_0, 8, .inl (fun _ => 0))), (a_1, .inl (k_1, 8, .inl (fun _ => 0))), (a_2, .inl (k_2, 8, .inl (fun _ => 0))), (a_5, .inl (k_5, 2, .inl (fun _ => 0))), (a_6, .inl (k_6, 2, .inl (fun _ => 0))), (a_7, .inl (k_7, 2, .inl (fun _ => 0))), (a_8, .inl (k_8, 16, .inl (fun _ => 0))), (a_9, .inl (k_9, 16, .inl (fun _ => 0))), (a_10, .inl (k_10, 16, .inl (fun _ => 0))), (a_11, .inl (k_11, 16, .inl (fun _ => 0))), (a_12, .inl (k_12, 2, .inl (fun _ => 0))), (a_13, .inl (k_13, 2, .inl (fun _ => 0))), (a_14, .inl (k_14, 2, .inl (fun _ => 0))), (a_15, .inl (k_15, 2, .inl (fun _ => 0))), (a_16, .inl (k_16, 2, .inl (fun _ => 0)))] H := hP
  have hD : va_D A [(h, .inr (0, [.ref a_0, .ref a_1, .ref a_2, .int 0, .int 0, .ref a_5, .ref a_6, .ref a_7, .ref a_8, .ref a_9, .ref a_10, .ref a_11, .ref a_12, .ref a_13, .ref a_14, .ref a_15, .null])), (a_0, .inl (k_0, 8, .inl (fun _ => 0))), (a_1, .inl (k_1, 8, .inl (fun _ => 0))), (a_2, .inl (k_2, 8, .inl (fun _ => 0))), (a_5, .inl (k_5, 2, .inl (fun _ => 0))), (a_6, .inl (k_6, 2, .inl (fun _ => 0))), (a_7, .inl (k_7, 2, .inl (fun _ => 0))), (a_8, .inl (k_8, 16, .inl (fun _ => 0))), (a_9, .inl (k_9, 16, .inl (fun _ => 0))), (a_10, .inl (k_10, 16, .inl (fun _ => 0))), (a_11, .inl (k_11, 16, .inl (fun _ => 0))), (a_12, .inl (k_12, 2, .inl (fun _ => 0))), (a_13, .inl (k_13, 2, .inl (fun _ => 0))), (a_14, .inl (k_14, 2, .inl (fun _ => 0))), (a_15, .inl (k_15, 2, .inl (fun _ => 0))), (a_16, .inl (k_16, 2, .inl (fun _ => 0)))] := hD
  refine W.widen (k := 15) (n := 104) (Nat.le_of_ble_eq_true rfl) (Nat.le_of_ble_eq_true rfl) ?_
  refine va_putF (D := D) (cl := vwCl) (ci := 0) (v := .ref a_16) (ty := .array .int) (C := RX1) (T := TX1) (N := 17) hx hb hts in_X1 tyX1 tyX1_ok nmX1 hown hK hP hD hS 0 rfl rfl 16 (by decide) (hts _ q39) (fun _ h9 => h9) rfl hnm rfl (by decide +kernel) rfl rfl (Nat.le_of_ble_eq_true rfl) dX1_init_113 (fun H locs hP hD hS => ?_)
  have hP : va_P D vwCl [(h, .inr (0, [.ref a_0, .ref a_1, .ref a_2, .int 0, .int 0, .ref a_5, .ref a_6, .ref a_7, .ref a_8, .ref a_9, .ref a_10, .ref a_11, .ref a_12, .ref a_13, .ref a_14, .ref a_15, .ref a_16])), (a_0, .inl (k_0, 8, .inl (fun _ => 0))), (a_1, .inl (k_1, 8, .inl (fun _ => 0))), (a_2, .inl (k_2, 8, .inl (fun _ => 0))), (a_5, .inl (k_5, 2, .inl (fun _ => 0))), (a_6, .inl (k_6, 2, .inl (fun _ => 0))), (a_7, .inl (k_7, 2, .inl (fun _ => 0))), (a_8, .inl (k_8, 16, .inl (fun _ => 0))), (a_9, .inl (k_9, 16, .inl (fun _ => 0))), (a_10, .inl (k_10, 16, .inl (fun _ => 0))), (a_11, .inl (k_11, 16, .inl (fun _ => 0))), (a_12, .inl (k_12, 2, .inl (fun _ => 0))), (a_13, .inl (k_13, 2, .inl (fun _ => 0))), (a_14, .inl (k_14, 2, .inl (fun _ => 0))), (a_15, .inl (k_15, 2, .inl (fun _ => 0))), (a_16, .inl (k_16, 2, .inl (fun _ => 0)))] H := hP
  have hD : va_D A [(h, .inr (0, [.ref a_0, .ref a_1, .ref a_2, .int 0, .int 0, .ref a_5, .ref a_6, .ref a_7, .ref a_8, .ref a_9, .ref a_10, .ref a_11, .ref a_12, .ref a_13, .ref a_14, .ref a_15, .ref a_16])), (a_0, .inl (k_0, 8, .inl (fun _ => 0))), (a_1, .inl (k_1, 8, .inl (fun _ => 0))), (a_2, .inl (k_2, 8, .inl (fun _ => 0))), (a_5, .inl (k_5, 2, .inl (fun _ => 0))), (a_6, .inl (k_6, 2, .inl (fun _ => 0))), (a_7, .inl (k_7, 2, .inl (fun _ => 0))), (a_8, .inl (k_8, 16, .inl (fun _ => 0))), (a_9, .inl (k_9, 16, .inl (fun _ => 0))), (a_10, .inl (k_10, 16, .inl (fun _ => 0))), (a_11, .inl (k_11, 16, .inl (fun _ => 0))), (a_12, .inl (k_12, 2, .inl (fun _ => 0))), (a_13, .inl (k_13, 2, .inl (fun _ => 0))), (a_14, .inl (k_14, 2, .inl (fun _ => 0))), (a_15, .inl (k_15, 2, .inl (fun _ => 0))), (a_16, .inl (k_16, 2, .inl (fun _ => 0)))] := hD
  refine lv_aload_n hx hb dX1_init_116 rfl (lv_at hl 0 rfl) ?_
  refine lv_iload_n hx hb dX1_init_117 rfl (lv_at hl 1 rfl) ?_
  refine va_putF (D := D) (cl := vwCl) (ci := 0) (v := .int seed) (ty := .int) (C := RX1) (T := TX1) (N := 17) hx hb hts in_X1 tyX1 tyX1_ok nmX1 hown hK hP hD hS 0 rfl rfl 4 (by decide) (hts _ q27) (fun _ h9 => h9) rfl hnm rfl (by decide +kernel) rfl rfl (Nat.le_of_ble_eq_true rfl) dX1_init_118 (fun H locs hP hD hS => ?_)
  have hP : va_P D vwCl [(h, .inr (0, [.ref a_0, .ref a_1, .ref a_2, .int 0, .int seed, .ref a_5, .ref a_6, .ref a_7, .ref a_8, .ref a_9, .ref a_10, .ref a_11, .ref a_12, .ref a_13, .ref a_14, .ref a_15, .ref a_16])), (a_0, .inl (k_0, 8, .inl (fun _ => 0))), (a_1, .inl (k_1, 8, .inl (fun _ => 0))), (a_2, .inl (k_2, 8, .inl (fun _ => 0))), (a_5, .inl (k_5, 2, .inl (fun _ => 0))), (a_6, .inl (k_6, 2, .inl (fun _ => 0))), (a_7, .inl (k_7, 2, .inl (fun _ => 0))), (a_8, .inl (k_8, 16, .inl (fun _ => 0))), (a_9, .inl (k_9, 16, .inl (fun _ => 0))), (a_10, .inl (k_10, 16, .inl (fun _ => 0))), (a_11, .inl (k_11, 16, .inl (fun _ => 0))), (a_12, .inl (k_12, 2, .inl (fun _ => 0))), (a_13, .inl (k_13, 2, .inl (fun _ => 0))), (a_14, .inl (k_14, 2, .inl (fun _ => 0))), (a_15, .inl (k_15, 2, .inl (fun _ => 0))), (a_16, .inl (k_16, 2, .inl (fun _ => 0)))] H := hP
  have hD : va_D A [(h, .inr (0, [.ref a_0, .ref a_1, .ref a_2, .int 0, .int seed, .ref a_5, .ref a_6, .ref a_7, .ref a_8, .ref a_9, .ref a_10, .ref a_11, .ref a_12, .ref a_13, .ref a_14, .ref a_15, .ref a_16])), (a_0, .inl (k_0, 8, .inl (fun _ => 0))), (a_1, .inl (k_1, 8, .inl (fun _ => 0))), (a_2, .inl (k_2, 8, .inl (fun _ => 0))), (a_5, .inl (k_5, 2, .inl (fun _ => 0))), (a_6, .inl (k_6, 2, .inl (fun _ => 0))), (a_7, .inl (k_7, 2, .inl (fun _ => 0))), (a_8, .inl (k_8, 16, .inl (fun _ => 0))), (a_9, .inl (k_9, 16, .inl (fun _ => 0))), (a_10, .inl (k_10, 16, .inl (fun _ => 0))), (a_11, .inl (k_11, 16, .inl (fun _ => 0))), (a_12, .inl (k_12, 2, .inl (fun _ => 0))), (a_13, .inl (k_13, 2, .inl (fun _ => 0))), (a_14, .inl (k_14, 2, .inl (fun _ => 0))), (a_15, .inl (k_15, 2, .inl (fun _ => 0))), (a_16, .inl (k_16, 2, .inl (fun _ => 0)))] := hD
  refine W.vret hx hb hr (fun t ht hWm => ⟨⟨(fun k => ([a_0, a_1, a_2, 0, 0, a_5, a_6, a_7, a_8, a_9, a_10, a_11, a_12, a_13, a_14, a_15, a_16] : List Nat).getD k 0, fun k => ([k_0, k_1, k_2, 0, 0, k_5, k_6, k_7, k_8, k_9, k_10, k_11, k_12, k_13, k_14, k_15, k_16] : List ClassId).getD k 0), rfl, trivial, ?_, ?_, ?_⟩, hS.F ht⟩) hS.2.2 dX1_init_121 hlocks
  · rw [ht]; exact hP
  · exact va_K.moved hWm.alike hK
  · exact hD
def x2_f0 : List Value := [.null, .null, .null, .null, .null, .null, .null, .null, .null, .null, .null]
/-- the constructor made the arrays u.1 of the classes u.2; the state is S -/
def ks_Q2 (D : va_G) (h : Nat) (S : ks_St) (A : Nat → Prop) : Array Value → State → Outcome → State → Prop := va_Qv (fun (_ : (Nat → Nat) × (Nat → ClassId)) => True) (fun u t => va_P D vwCl (w2_ h u.1 u.2 S) t.heap ∧ va_K D vwCl (t2_ u.2) t ∧ va_D A (w2_ h u.1 u.2 S)) A
set_option maxHeartbeats 8000000 in
set_option maxRecDepth 100000 in
theorem m2_init (l : Launch) (D : va_G) (h : Nat) (sz : Nat) (seed : Int32) : Met l yX2_init (ws_ yX2_init cX2_init 2 none) ({ frames := 1, cells := 11, slots := 124, locals := 12 }) (ks_P D [(h, .inr (1, x2_f0))] [] sz [.ref h, .int seed]) (ks_Q2 D h mo_init (va_A [(h, .inr (1, x2_f0))] sz)) 11 124 (va_A [(h, .inr (1, x2_f0))] sz) := by
  refine ks_enter (Qc := ks_Q2 D h mo_init) RX2 (by decide) rfl (Nat.le_of_ble_eq_true rfl) ?_
  intro p e s m below meth c A ls hb hml hr hlocks hnm C hA hW hl
  obtain ⟨hx, hown, hts, hK⟩ := id C
  obtain ⟨hP, hD, hS⟩ := hW
  have hl : lv_has ls 2 [(0, .ref h), (1, .int seed)] := hl
  refine lv_aload_n hx hb dX2_init_0 rfl (lv_at hl 0 rfl) ?_
  refine W.objInit hx hb hown (hts _ q189) (hts _ q21) (hts _ q22) rfl (by rw [hml]; exact hl.1) rfl dX2_init_1 (Nat.le_of_ble_eq_true rfl) (Nat.le_of_ble_eq_true rfl) ?_
  refine W.eq (g2 := F0 m 4 ls []) rfl ?_
  refine lv_aload_n hx hb dX2_init_4 rfl (lv_at hl 0 rfl) ?_
  refine lv_bipush (v := 8) hx hb dX2_init_5 (by decide) ?_
  refine va_newa (D := D) (cl := vwCl) (atype := .boolean) (ty := .boolean) (N' := 8) (a0 := (8, .inl (fun _ => 0))) hx hb (hts _ q75) rfl hK hP hD hS hA (fun _ => rfl) (by decide) (by decide) (by decide) (Nat.le_of_ble_eq_true rfl) (Nat.le_of_ble_eq_true rfl) dX2_init_7 (fun a_0 k_0 H hK hP hD hS => ?_)
  have hK : va_K D vwCl [(k_0, .boolean)] s := hK
  have hP : va_P D vwCl [(h, .inr (1, [.null, .null, .null, .null, .null, .null, .null, .null, .null, .null, .null])), (a_0, .inl (k_0, 8, .inl (fun _ => 0)))] H := hP
  have hD : va_D A [(h, .inr (1, [.null, .null, .null, .null, .null, .null, .null, .null, .null, .null, .null])), (a_0, .inl (k_0, 8, .inl (fun _ => 0)))] := hD
  refine W.widen (k := 1) (n := 8) (Nat.le_of_ble_eq_true rfl) (Nat.le_of_ble_eq_true rfl) ?_
  refine va_putF (D := D) (cl := vwCl) (ci := 1) (v := .ref a_0) (ty := .array .boolean) (C := RX2) (T := TX2) (N := 11) hx hb hts in_X2 tyX2 tyX2_ok nmX2 hown hK hP hD hS 0 rfl rfl 0 (by decide) (hts _ q190) (fun _ h9 => h9) rfl hnm rfl (by decide +kernel) rfl rfl (Nat.le_of_ble_eq_true rfl) dX2_init_9 (fun H locs hP hD hS => ?_)
  have hP : va_P D vwCl [(h, .inr (1, [.ref a_0, .null, .null, .null, .null, .null, .null, .null, .null, .null, .null])), (a_0, .inl (k_0, 8, .inl (fun _ => 0)))] H := hP
  have hD : va_D A [(h, .inr (1, [.ref a_0, .null, .null, .null, .null, .null, .null, .null, .null, .null, .null])), (a_0, .inl (k_0, 8, .inl (fun _ => 0)))] := hD
  refine lv_aload_n hx hb dX2_init_12 rfl (lv_at hl 0 rfl) ?_
  refine lv_bipush (v := 8) hx hb dX2_init_13 (by decide) ?_
  refine va_newa (D := D) (cl := vwCl) (atype := .int) (ty := .int) (N' := 8) (a0 := (8, .inl (fun _ => 0))) hx hb (hts _ q76) rfl hK hP hD hS hA (fun _ => rfl) (by decide) (by decide) (by decide) (Nat.le_of_ble_eq_true rfl) (Nat.le_of_ble_eq_true rfl) dX2_init_15 (fun a_1 k_1 H hK hP hD hS => ?_)
  have hK : va_K D vwCl [(k_0, .boolean), (k_1, .int)] s := hK
  have hP : va_P D vwCl [(h, .inr (1, [.ref a_0, .null, .null, .null, .null, .null, .null, .null, .null, .null, .null])), (a_0, .inl (k_0, 8, .inl (fun _ => 0))), (a_1, .inl (k_1, 8, .inl (fun _ => 0)))] H := hP
  have hD : va_D A [(h, .inr (1, [.ref a_0, .null, .null, .null, .null, .null, .null, .null, .null, .null, .null])), (a_0, .inl (k_0, 8, .inl (fun _ => 0))), (a_1, .inl (k_1, 8, .inl (fun _ => 0)))] := hD
  refine W.widen (k := 2) (n := 16) (Nat.le_of_ble_eq_true rfl) (Nat.le_of_ble_eq_true rfl) ?_
  refine va_putF (D := D) (cl := vwCl) (ci := 1) (v := .ref a_1) (ty := .array .int) (C := RX2) (T := TX2) (N := 11) hx hb hts in_X2 tyX2 tyX2_ok nmX2 hown hK hP hD hS 0 rfl rfl 1 (by decide) (hts _ q191) (fun _ h9 => h9) rfl hnm rfl (by decide +kernel) rfl rfl (Nat.le_of_ble_eq_true rfl) dX2_init_17 (fun H locs hP hD hS => ?_)
  have hP : va_P D vwCl [(h, .inr (1, [.ref a_0, .ref a_1, .null, .null, .null, .null, .null, .null, .null, .null, .null])), (a_0, .inl (k_0, 8, .inl (fun _ => 0))), (a_1, .inl (k_1, 8, .inl (fun _ => 0)))] H := hP
  have hD : va_D A [(h, .inr (1, [.ref a_0, .ref a_1, .null, .null, .null, .null, .null, .null, .null, .null, .null])), (a_0, .inl (k_0, 8, .inl (fun _ => 0))), (a_1, .inl (k_1, 8, .inl (fun _ => 0)))] := hD
  refine lv_aload_n hx hb dX2_init_20 rfl (lv_at hl 0 rfl) ?_
  refine lv_bipush (v := 8) hx hb dX2_init_21 (by decide) ?_
  refine va_newa (D := D) (cl := vwCl) (atype := .int) (ty := .int) (N' := 8) (a0 := (8, .inl (fun _ => 0))) hx hb (hts _ q76) rfl hK hP hD hS hA (fun _ => rfl) (by decide) (by decide) (by decide) (Nat.le_of_ble_eq_true rfl) (Nat.le_of_ble_eq_true rfl) dX2_init_23 (fun a_2 k_2 H hK hP hD hS => ?_)
  have hK : va_K D vwCl [(k_0, .boolean), (k_1, .int), (k_2, .int)] s := hK
  have hP : va_P D vwCl [(h, .inr (1, [.ref a_0, .ref a_1, .null, .null, .null, .null, .null, .null, .null, .null, .null])), (a_0, .inl (k_0, 8, .inl (fun _ => 0))), (a_1, .inl (k_1, 8, .inl (fun _ => 0))), (a_2, .inl (k_2, 8, .inl (fun _ => 0)))] H := hP
  have hD : va_D A [(h, .inr (1, [.ref a_0, .ref a_1, .null, .null, .null, .null, .null, .null, .null, .null, .null])), (a_0, .inl (k_0, 8, .inl (fun _ => 0))), (a_1, .inl (k_1, 8, .inl (fun _ => 0))), (a_2, .inl (k_2, 8, .inl (fun _ => 0)))] := hD
  refine W.widen (k := 3) (n := 24) (Nat.le_of_ble_eq_true rfl) (Nat.le_of_ble_eq_true rfl) ?_
  refine va_putF (D := D) (cl := vwCl) (ci := 1) (v := .ref a_2) (ty := .array .int) (C := RX2) (T := TX2) (N := 11) hx hb hts in_X2 tyX2 tyX2_ok nmX2 hown hK hP hD hS 0 rfl rfl 2 (by decide) (hts _ q192) (fun _ h9 => h9) rfl hnm rfl (by decide +kernel) rfl rfl (Nat.le_of_ble_eq_true rfl) dX2_init_25 (fun H locs hP hD hS => ?_)
  have hP : va_P D vwCl [(h, .inr (1, [.ref a_0, .ref a_1, .ref a_2, .null, .null, .null, .null, .null, .null, .null, .null])), (a_0, .inl (k_0, 8, .inl (fun _ => 0))), (a_1, .inl (k_1, 8, .inl (fun _ => 0))), (a_2, .inl (k_2, 8, .inl (fun _ => 0)))] H := hP
  have hD : va_D A [(h, .inr (1, [.ref a_0, .ref a_1, .ref a_2, .null, .null, .null, .null, .null, .null, .null, .null])), (a_0, .inl (k_0, 8, .inl (fun _ => 0))), (a_1, .inl (k_1, 8, .inl (fun _ => 0))), (a_2, .inl (k_2, 8, .inl (fun _ => 0)))] := hD
  refine lv_aload_n hx hb dX2_init_28 rfl (lv_at hl 0 rfl) ?_
  refine lv_bipush (v := 16) hx hb dX2_init_29 (by decide) ?_
  refine va_newa (D := D) (cl := vwCl) (atype := .boolean) (ty := .boolean) (N' := 16) (a0 := (16, .inl (fun _ => 0))) hx hb (hts _ q75) rfl hK hP hD hS hA (fun _ => rfl) (by decide) (by decide) (by decide) (Nat.le_of_ble_eq_true rfl) (Nat.le_of_ble_eq_true rfl) dX2_init_31 (fun a_3 k_3 H hK hP hD hS => ?_)
  have hK : va_K D vwCl [(k_0, .boolean), (k_1, .int), (k_2, .int), (k_3, .boolean)] s := hK
  have hP : va_P D vwCl [(h, .inr (1, [.ref a_0, .ref a_1, .ref a_2, .null, .null, .null, .null, .null, .null, .null, .null])), (a_0, .inl (k_0, 8, .inl (fun _ => 0))), (a_1, .inl (k_1, 8, .inl (fun _ => 0))), (a_2, .inl (k_2, 8, .inl (fun _ => 0))), (a_3, .inl (k_3, 16, .inl (fun _ => 0)))] H := hP
  have hD : va_D A [(h, .inr (1, [.ref a_0, .ref a_1, .ref a_2, .null, .null, .null, .null, .null, .null, .null, .null])), (a_0, .inl (k_0, 8, .inl (fun _ => 0))), (a_1, .inl (k_1, 8, .inl (fun _ => 0))), (a_2, .inl (k_2, 8, .inl (fun _ => 0))), (a_3, .inl (k_3, 16, .inl (fun _ => 0)))] := hD
  refine W.widen (k := 4) (n := 40) (Nat.le_of_ble_eq_true rfl) (Nat.le_of_ble_eq_true rfl) ?_
  refine va_putF (D := D) (cl := vwCl) (ci := 1) (v := .ref a_3) (ty := .array .boolean) (C := RX2) (T := TX2) (N := 11) hx hb hts in_X2 tyX2 tyX2_ok nmX2 hown hK hP hD hS 0 rfl rfl 3 (by decide) (hts _ q193) (fun _ h9 => h9) rfl hnm rfl (by decide +kernel) rfl rfl (Nat.le_of_ble_eq_true rfl) dX2_init_33 (fun H locs hP hD hS => ?_)
  have hP : va_P D vwCl [(h, .inr (1, [.ref a_0, .ref a_1, .ref a_2, .ref a_3, .null, .null, .null, .null, .null, .null, .null])), (a_0, .inl (k_0, 8, .inl (fun _ => 0))), (a_1, .inl (k_1, 8, .inl (fun _ => 0))), (a_2, .inl (k_2, 8, .inl (fun _ => 0))), (a_3, .inl (k_3, 16, .inl (fun _ => 0)))] H := hP
  have hD : va_D A [(h, .inr (1, [.ref a_0, .ref a_1, .ref a_2, .ref a_3, .null, .null, .null, .null, .null, .null, .null])), (a_0, .inl (k_0, 8, .inl (fun _ => 0))), (a_1, .inl (k_1, 8, .inl (fun _ => 0))), (a_2, .inl (k_2, 8, .inl (fun _ => 0))), (a_3, .inl (k_3, 16, .inl (fun _ => 0)))] := hD
  refine lv_aload_n hx hb dX2_init_36 rfl (lv_at hl 0 rfl) ?_
  refine lv_bipush (v := 16) hx hb dX2_init_37 (by decide) ?_
  refine va_newa (D := D) (cl := vwCl) (atype := .int) (ty := .int) (N' := 16) (a0 := (16, .inl (fun _ => 0))) hx hb (hts _ q76) rfl hK hP hD hS hA (fun _ => rfl) (by decide) (by decide) (by decide) (Nat.le_of_ble_eq_true rfl) (Nat.le_of_ble_eq_true rfl) dX2_init_39 (fun a_4 k_4 H hK hP hD hS => ?_)
  have hK : va_K D vwCl [(k_0, .boolean), (k_1, .int), (k_2, .int), (k_3, .boolean), (k_4, .int)] s := hK
  have hP : va_P D vwCl [(h, .inr (1, [.ref a_0, .ref a_1, .ref a_2, .ref a_3, .null, .null, .null, .null, .null, .null, .null])), (a_0, .inl (k_0, 8, .inl (fun _ => 0))), (a_1, .inl (k_1, 8, .inl (fun _ => 0))), (a_2, .inl (k_2, 8, .inl (fun _ => 0))), (a_3, .inl (k_3, 16, .inl (fun _ => 0))), (a_4, .inl (k_4, 16, .inl (fun _ => 0)))] H := hP
  have hD : va_D A [(h, .inr (1, [.ref a_0, .ref a_1, .ref a_2, .ref a_3, .null, .null, .null, .null, .null, .null, .null])), (a_0, .inl (k_0, 8, .inl (fun _ => 0))), (a_1, .inl (k_1, 8, .inl (fun _ => 0))), (a_2, .inl (k_2, 8, .inl (fun _ => 0))), (a_3, .inl (k_3, 16, .inl (fun _ => 0))), (a_4, .inl (k_4, 16, .inl (fun _ => 0)))] := hD
  refine W.widen (k := 5) (n := 56) (Nat.le_of_ble_eq_true rfl) (Nat.le_of_ble_eq_true rfl) ?_
  refine va_putF (D := D) (cl := vwCl) (ci := 1) (v := .ref a_4) (ty := .array .int) (C := RX2) (T := TX2) (N := 11) hx hb hts in_X2 tyX2 tyX2_ok nmX2 hown hK hP hD hS 0 rfl rfl 4 (by decide) (hts _ q194) (fun _ h9 => h9) rfl hnm rfl (by decide +kernel) rfl rfl (Nat.le_of_ble_eq_true rfl) dX2_init_41 (fun H locs hP hD hS => ?_)
  have hP : va_P D vwCl [(h, .inr (1, [.ref a_0, .ref a_1, .ref a_2, .ref a_3, .ref a_4, .null, .null, .null, .null, .null, .null])), (a_0, .inl (k_0, 8, .inl (fun _ => 0))), (a_1, .inl (k_1, 8, .inl (fun _ => 0))), (a_2, .inl (k_2, 8, .inl (fun _ => 0))), (a_3, .inl (k_3, 16, .inl (fun _ => 0))), (a_4, .inl (k_4, 16, .inl (fun _ => 0)))] H := hP
  have hD : va_D A [(h, .inr (1, [.ref a_0, .ref a_1, .ref a_2, .ref a_3, .ref a_4, .null, .null, .null, .null, .null, .null])), (a_0, .inl (k_0, 8, .inl (fun _ => 0))), (a_1, .inl (k_1, 8, .inl (fun _ => 0))), (a_2, .inl (k_2, 8, .inl (fun _ => 0))), (a_3, .inl (k_3, 16, .inl (fun _ => 0))), (a_4, .inl (k_4, 16, .inl (fun _ => 0)))] := hD
  refine lv_aload_n hx hb dX2_init_44 rfl (lv_at hl 0 rfl) ?_
  refine lv_bipush (v := 16) hx hb dX2_init_45 (by decide) ?_
  refine va_newa (D := D) (cl := vwCl) (atype := .int) (ty := .int) (N' := 16) (a0 := (16, .inl (fun _ => 0))) hx hb (hts _ q76) rfl hK hP hD hS hA (fun _ => rfl) (by decide) (by decide) (by decide) (Nat.le_of_ble_eq_true rfl) (Nat.le_of_ble_eq_true rfl) dX2_init_47 (fun a_5 k_5 H hK hP hD hS => ?_)
  have hK : va_K D vwCl [(k_0, .boolean), (k_1, .int), (k_2, .int), (k_3, .boolean), (k_4, .int), (k_5, .int)] s := hK
  have hP : va_P D vwCl [(h, .inr (1, [.ref a_0, .ref a_1, .ref a_2, .ref a_3, .ref a_4, .null, .null, .null, .null, .null, .null])), (a_0, .inl (k_0, 8, .inl (fun _ => 0))), (a_1, .inl (k_1, 8, .inl (fun _ => 0))), (a_2, .inl (k_2, 8, .inl (fun _ => 0))), (a_3, .inl (k_3, 16, .inl (fun _ => 0))), (a_4, .inl (k_4, 16, .inl (fun _ => 0))), (a_5, .inl (k_5, 16, .inl (fun _ => 0)))] H := hP
  have hD : va_D A [(h, .inr (1, [.ref a_0, .ref a_1, .ref a_2, .ref a_3, .ref a_4, .null, .null, .null, .null, .null, .null])), (a_0, .inl (k_0, 8, .inl (fun _ => 0))), (a_1, .inl (k_1, 8, .inl (fun _ => 0))), (a_2, .inl (k_2, 8, .inl (fun _ => 0))), (a_3, .inl (k_3, 16, .inl (fun _ => 0))), (a_4, .inl (k_4, 16, .inl (fun _ => 0))), (a_5, .inl (k_5, 16, .inl (fun _ => 0)))] := hD
  refine W.widen (k := 6) (n := 72) (Nat.le_of_ble_eq_true rfl) (Nat.le_of_ble_eq_true rfl) ?_
  refine va_putF (D := D) (cl := vwCl) (ci := 1) (v := .ref a_5) (ty := .array .int) (C := RX2) (T := TX2) (N := 11) hx hb hts in_X2 tyX2 tyX2_ok nmX2 hown hK hP hD hS 0 rfl rfl 5 (by decide) (hts _ q195) (fun _ h9 => h9) rfl hnm rfl (by decide +kernel) rfl rfl (Nat.le_of_ble_eq_true rfl) dX2_init_49 (fun H locs hP hD hS => ?_)
  have hP : va_P D vwCl [(h, .inr (1, [.ref a_0, .ref a_1, .ref a_2, .ref a_3, .ref a_4, .ref a_5, .null, .null, .null, .null, .null])), (a_0, .inl (k_0, 8, .inl (fun _ => 0))), (a_1, .inl (k_1, 8, .inl (fun _ => 0))), (a_2, .inl (k_2, 8, .inl (fun _ => 0))), (a_3, .inl (k_3, 16, .inl (fun _ => 0))), (a_4, .inl (k_4, 16, .inl (fun _ => 0))), (a_5, .inl (k_5, 16, .inl (fun _ => 0)))] H := hP
  have hD : va_D A [(h, .inr (1, [.ref a_0, .ref a_1, .ref a_2, .ref a_3, .ref a_4, .ref a_5, .null, .null, .null, .null, .null])), (a_0, .inl (k_0, 8, .inl (fun _ => 0))), (a_1, .inl (k_1, 8, .inl (fun _ => 0))), (a_2, .inl (k_2, 8, .inl (fun _ => 0))), (a_3, .inl (k_3, 16, .inl (fun _ => 0))), (a_4, .inl (k_4, 16, .inl (fun _ => 0))), (a_5, .inl (k_5, 16, .inl (fun _ => 0)))] := hD
  refine lv_aload_n hx hb dX2_init_52 rfl (lv_at hl 0 rfl) ?_
  refine lv_bipush (v := 16) hx hb dX2_init_53 (by decide) ?_
  refine va_newa (D := D) (cl := vwCl) (atype := .int) (ty := .int) (N' := 16) (a0 := (16, .inl (fun _ => 0))) hx hb (hts _ q76) rfl hK hP hD hS hA (fun _ => rfl) (by decide) (by decide) (by decide) (Nat.le_of_ble_eq_true rfl) (Nat.le_of_ble_eq_true rfl) dX2_init_55 (fun a_6 k_6 H hK hP hD hS => ?_)
  have hK : va_K D vwCl [(k_0, .boolean), (k_1, .int), (k_2, .int), (k_3, .boolean), (k_4, .int), (k_5, .int), (k_6, .int)] s := hK
  have hP : va_P D vwCl [(h, .inr (1, [.ref a_0, .ref a_1, .ref a_2, .ref a_3, .ref a_4, .ref a_5, .null, .null, .null, .null, .null])), (a_0, .inl (k_0, 8, .inl (fun _ => 0))), (a_1, .inl (k_1, 8, .inl (fun _ => 0))), (a_2, .inl (k_2, 8, .inl (fun _ => 0))), (a_3, .inl (k_3, 16, .inl (fun _ => 0))), (a_4, .inl (k_4, 16, .inl (fun _ => 0))), (a_5, .inl (k_5, 16, .inl (fun _ => 0))), (a_6, .inl (k_6, 16, .inl (fun _ => 0)))] H := hP
  have hD : va_D A [(h, .inr (1, [.ref a_0, .ref a_1, .ref a_2, .ref a_3, .ref a_4, .ref a_5, .null, .null, .null, .null, .null])), (a_0, .inl (k_0, 8, .inl (fun _ => 0))), (a_1, .inl (k_1, 8, .inl (fun _ => 0))), (a_2, .inl (k_2, 8, .inl (fun _ => 0))), (a_3, .inl (k_3, 16, .inl (fun _ => 0))), (a_4, .inl (k_4, 16, .inl (fun _ => 0))), (a_5, .inl (k_5, 16, .inl (fun _ => 0))), (a_6, .inl (k_6, 16, .inl (fun _ => 0)))] := hD
  refine W.widen (k := 7) (n := 88) (Nat.le_of_ble_eq_true rfl) (Nat.le_of_ble_eq_true rfl) ?_
  refine va_putF (D := D) (cl := vwCl) (ci := 1) (v := .ref a_6) (ty := .array .int) (C := RX2) (T := TX2) (N := 11) hx hb hts in_X2 tyX2 tyX2_ok nmX2 hown hK hP hD hS 0 rfl rfl 6 (by decide) (hts _ q196) (fun _ h9 => h9) rfl hnm rfl (by decide +kernel) rfl rfl (Nat.le_of_ble_eq_true rfl) dX2_init_57 (fun H locs hP hD hS => ?_)
  have hP : va_P D vwCl [(h, .inr (1, [.ref a_0, .ref a_1, .ref a_2, .ref a_3, .ref a_4, .ref a_5, .ref a_6, .null, .null, .null, .null])), (a_0, .inl (k_0, 8, .inl (fun _ => 0))), (a_1, .inl (k_1, 8, .inl (fun _ => 0))), (a_2, .inl (k_2, 8, .inl (fun _ => 0))), (a_3, .inl (k_3, 16, .inl (fun _ => 0))), (a_4, .inl (k_4, 16, .inl (fun _ => 0))), (a_5, .inl (k_5, 16, .inl (fun _ => 0))), (a_6, .inl (k_6, 16, .inl (fun _ => 0)))] H := hP
  have hD : va_D A [(h, .inr (1, [.ref a_0, .ref a_1, .ref a_2, .ref a_3, .ref a_4, .ref a_5, .ref a_6, .null, .null, .null, .null])), (a_0, .inl (k_0, 8, .inl (fun _ => 0))), (a_1, .inl (k_1, 8, .inl (fun _ => 0))), (a_2, .inl (k_2, 8, .inl (fun _ => 0))), (a_3, .inl (k_3, 16, .inl (fun _ => 0))), (a_4, .inl (k_4, 16, .inl (fun _ => 0))), (a_5, .inl (k_5, 16, .inl (fun _ => 0))), (a_6, .inl (k_6, 16, .inl (fun _ => 0)))] := hD
  refine lv_aload_n hx hb dX2_init_60 rfl (lv_at hl 0 rfl) ?_
  refine lv_bipush (v := 16) hx hb dX2_init_61 (by decide) ?_
  refine va_newa (D := D) (cl := vwCl) (atype := .int) (ty := .int) (N' := 16) (a0 := (16, .inl (fun _ => 0))) hx hb (hts _ q76) rfl hK hP hD hS hA (fun _ => rfl) (by decide) (by decide) (by decide) (Nat.le_of_ble_eq_true rfl) (Nat.le_of_ble_eq_true rfl) dX2_init_63 (fun a_7 k_7 H hK hP hD hS => ?_)
  have hK : va_K D vwCl [(k_0, .boolean), (k_1, .int), (k_2, .int), (k_3, .boolean), (k_4, .int), (k_5, .int), (k_6, .int), (k_7, .int)] s := hK
  have hP : va_P D vwCl [(h, .inr (1, [.ref a_0, .ref a_1, .ref a_2, .ref a_3, .ref a_4, .ref a_5, .ref a_6, .null, .null, .null, .null])), (a_0, .inl (k_0, 8, .inl (fun _ => 0))), (a_1, .inl (k_1, 8, .inl (fun _ => 0))), (a_2, .inl (k_2, 8, .inl (fun _ => 0))), (a_3, .inl (k_3, 16, .inl (fun _ => 0))), (a_4, .inl (k_4, 16, .inl (fun _ => 0))), (a_5, .inl (k_5, 16, .inl (fun _ => 0))), (a_6, .inl (k_6, 16, .inl (fun _ => 0))), (a_7, .inl (k_7, 16, .inl (fun _ => 0)))] H := hP
  have hD : va_D A [(h, .inr (1, [.ref a_0, .ref a_1, .ref a_2, .ref a_3, .ref a_4, .ref a_5, .ref a_6, .null, .null, .null, .null])), (a_0, .inl (k_0, 8, .inl (fun _ => 0))), (a_1, .inl (k_1, 8, .inl (fun _ => 0))), (a_2, .inl (k_2, 8, .inl (fun _ => 0))), (a_3, .inl (k_3, 16, .inl (fun _ => 0))), (a_4, .inl (k_4, 16, .inl (fun _ => 0))), (a_5, .inl (k_5, 16, .inl (fun _ => 0))), (a_6, .inl (k_6, 16, .inl (fun _ => 0))), (a_7, .inl (k_7, 16, .inl (fun _ => 0)))] := hD
  refine W.widen (k := 8) (n := 104) (Nat.le_of_ble_eq_true rfl) (Nat.le_of_ble_eq_true rfl) ?_
  refine va_putF (D := D) (cl := vwCl) (ci := 1) (v := .ref a_7) (ty := .array .int) (C := RX2) (T := TX2) (N := 11) hx hb hts in_X2 tyX2 tyX2_ok nmX2 hown hK hP hD hS 0 rfl rfl 7 (by decide) (hts _ q197) (fun _ h9 => h9) rfl hnm rfl (by decide +kernel) rfl rfl (Nat.le_of_ble_eq_true rfl) dX2_init_65 (fun H locs hP hD hS => ?_)
  have hP : va_P D vwCl [(h, .inr (1, [.ref a_0, .ref a_1, .ref a_2, .ref a_3, .ref a_4, .ref a_5, .ref a_6, .ref a_7, .null, .null, .null])), (a_0, .inl (k_0, 8, .inl (fun _ => 0))), (a_1, .inl (k_1, 8, .inl (fun _ => 0))), (a_2, .inl (k_2, 8, .inl (fun _ => 0))), (a_3, .inl (k_3, 16, .inl (fun _ => 0))), (a_4, .inl (k_4, 16, .inl (fun _ => 0))), (a_5, .inl (k_5, 16, .inl (fun _ => 0))), (a_6, .inl (k_6, 16, .inl (fun _ => 0))), (a_7, .inl (k_7, 16, .inl (fun _ => 0)))] H := hP
  have hD : va_D A [(h, .inr (1, [.ref a_0, .ref a_1, .ref a_2, .ref a_3, .ref a_4, .ref a_5, .ref a_6, .ref a_7, .null, .null, .null])), (a_0, .inl (k_0, 8, .inl (fun _ => 0))), (a_1, .inl (k_1, 8, .inl (fun _ => 0))), (a_2, .inl (k_2, 8, .inl (fun _ => 0))), (a_3, .inl (k_3, 16, .inl (fun _ => 0))), (a_4, .inl (k_4, 16, .inl (fun _ => 0))), (a_5, .inl (k_5, 16, .inl (fun _ => 0))), (a_6, .inl (k_6, 16, .inl (fun _ => 0))), (a_7, .inl (k_7, 16, .inl (fun _ => 0)))] := hD
  refine lv_aload_n hx hb dX2_init_68 rfl (lv_at hl 0 rfl) ?_
  refine lv_bipush (v := 16) hx hb dX2_init_69 (by decide) ?_
  refine va_newa (D := D) (cl := vwCl) (atype := .int) (ty := .int) (N' := 16) (a0 := (16, .inl (fun _ => 0))) hx hb (hts _ q76) rfl hK hP hD hS hA (fun _ => rfl) (by decide) (by decide) (by decide) (Nat.le_of_ble_eq_true rfl) (Nat.le_of_ble_eq_true rfl) dX2_init_71 (fun a_8 k_8 H hK hP hD hS => ?_)
  have hK : va_K D vwCl [(k_0, .boolean), (k_1, .int), (k_2, .int), (k_3, .boolean), (k_4, .int), (k_5, .int), (k_6, .int), (k_7, .int), (k_8, .int)] s := hK
  have hP : va_P D vwCl [(h, .inr (1, [.ref a_0, .ref a_1, .ref a_2, .ref a_3, .ref a_4, .ref a_5, .ref a_6, .ref a_7, .null, .null, .null])), (a_0, .inl (k_0, 8, .inl (fun _ => 0))), (a_1, .inl (k_1, 8, .inl (fun _ => 0))), (a_2, .inl (k_2, 8, .inl (fun _ => 0))), (a_3, .inl (k_3, 16, .inl (fun _ => 0))), (a_4, .inl (k_4, 16, .inl (fun _ => 0))), (a_5, .inl (k_5, 16, .inl (fun _ => 0))), (a_6, .inl (k_6, 16, .inl (fun _ => 0))), (a_7, .inl (k_7, 16, .inl (fun _ => 0))), (a_8, .inl (k_8, 16, .inl (fun _ => 0)))] H := hP
  have hD : va_D A [(h, .inr (1, [.ref a_0, .ref a_1, .ref a_2, .ref a_3, .ref a_4, .ref a_5, .ref a_6, .ref a_7, .null, .null, .null])), (a_0, .inl (k_0, 8, .inl (fun _ => 0))), (a_1, .inl (k_1, 8, .inl (fun _ => 0))), (a_2, .inl (k_2, 8, .inl (fun _ => 0))), (a_3, .inl (k_3, 16, .inl (fun _ => 0))), (a_4, .inl (k_4, 16, .inl (fun _ => 0))), (a_5, .inl (k_5, 16, .inl (fun _ => 0))), (a_6, .inl (k_6, 16, .inl (fun _ => 0))), (a_7, .inl (k_7, 16, .inl (fun _ => 0))), (a_8, .inl (k_8, 16, .inl (fun _ => 0)))] := hD
  refine W.widen (k := 9) (n := 120) (Nat.le_of_ble_eq_true rfl) (Nat.le_of_ble_eq_true rfl) ?_
  refine va_putF (D := D) (cl := vwCl) (ci := 1) (v := .ref a_8) (ty := .array .int) (C := RX2) (T := TX2) (N := 11) hx hb hts in_X2 tyX2 tyX2_ok nmX2 hown hK hP hD hS 0 rfl rfl 8 (by decide) (hts _ q198) (fun _ h9 => h9) rfl hnm rfl (by decide +kernel) rfl rfl (Nat.le_of_ble_eq_true rfl) dX2_init_73 (fun H locs hP hD hS => ?_)
  have hP : va_P D vwCl [(h, .inr (1, [.ref a_0, .ref a_1, .ref a_2, .ref a_3, .ref a_4, .ref a_5, .ref a_6, .ref a_7, .ref a_8, .null, .null])), (a_0, .inl (k_0, 8, .inl (fun _ => 0))), (a_1, .inl (k_1, 8, .inl (fun _ => 0))), (a_2, .inl (k_2, 8, .inl (fun _ => 0))), (a_3, .inl (k_3, 16, .inl (fun _ => 0))), (a_4, .inl (k_4, 16, .inl (fun _ => 0))), (a_5, .inl (k_5, 16, .inl (fun _ => 0))), (a_6, .inl (k_6, 16, .inl (fun _ => 0))), (a_7, .inl (k_7, 16, .inl (fun _ => 0))), (a_8, .inl (k_8, 16, .inl (fun _ => 0)))] H := hP
  have hD : va_D A [(h, .inr (1, [.ref a_0, .ref a_1, .ref a_2, .ref a_3, .ref a_4, .ref a_5, .ref a_6, .ref a_7, .ref a_8, .null, .null])), (a_0, .inl (k_0, 8, .inl (fun _ => 0))), (a_1, .inl (k_1, 8, .inl (fun _ => 0))), (a_2, .inl (k_2, 8, .inl (fun _ => 0))), (a_3, .inl (k_3, 16, .inl (fun _ => 0))), (a_4, .inl (k_4, 16, .inl (fun _ => 0))), (a_5, .inl (k_5, 16, .inl (fun _ => 0))), (a_6, .inl (k_6, 16, .inl (fun _ => 0))), (a_7, .inl (k_7, 16, .inl (fun _ => 0))), (a_8, .inl (k_8, 16, .inl (fun _ => 0)))] := hD
  refine lv_aload_n hx hb dX2_init_76 rfl (lv_at hl 0 rfl) ?_
  refine lv_iconst (v := 2) hx hb dX2_init_77 (by decide) ?_
  refine va_newa (D := D) (cl := vwCl) (atype := .boolean) (ty := .boolean) (N' := 2) (a0 := (2, .inl (fun _ => 0))) hx hb (hts _ q75) rfl hK hP hD hS hA (fun _ => rfl) (by decide) (by decide) (by decide) (Nat.le_of_ble_eq_true rfl) (Nat.le_of_ble_eq_true rfl) dX2_init_78 (fun a_9 k_9 H hK hP hD hS => ?_)
  have hK : va_K D vwCl [(k_0, .boolean), (k_1, .int), (k_2, .int), (k_3, .boolean), (k_4, .int), (k_5, .int), (k_6, .int), (k_7, .int), (k_8, .int), (k_9, .boolean)] s := hK
  have hP : va_P D vwCl [(h, .inr (1, [.ref a_0, .ref a_1, .ref a_2, .ref a_3, .ref a_4, .ref a_5, .ref a_6, .ref a_7, .ref a_8, .null, .null])), (a_0, .inl (k_0, 8, .inl (fun _ => 0))), (a_1, .inl (k_1, 8, .inl (fun _ => 0))), (a_2, .inl (k_2, 8, .inl (fun _ => 0))), (a_3, .inl (k_3, 16, .inl (fun _ => 0))), (a_4, .inl (k_4, 16, .inl (fun _ => 0))), (a_5, .inl (k_5, 16, .inl (fun _ => 0))), (a_6, .inl (k_6, 16, .inl (fun _ => 0))), (a_7, .inl (k_7, 16, .inl (fun _ => 0))), (a_8, .inl (k_8, 16, .inl (fun _ => 0))), (a_9, .inl (k_9, 2, .inl (fun _ => 0)))] H := hP
  have hD : va_D A [(h, .inr (1, [.ref a_0, .ref a_1, .ref a_2, .ref a_3, .ref a_4, .ref a_5, .ref a_6, .ref a_7, .ref a_8, .null, .null])), (a_0, .inl (k_0, 8, .inl (fun _ => 0))), (a_1, .inl (k_1, 8, .inl (fun _ => 0))), (a_2, .inl (k_2, 8, .inl (fun _ => 0))), (a_3, .inl (k_3, 16, .inl (fun _ => 0))), (a_4, .inl (k_4, 16, .inl (fun _ => 0))), (a_5, .inl (k_5, 16, .inl (fun _ => 0))), (a_6, .inl (k_6, 16, .inl (fun _ => 0))), (a_7, .inl (k_7, 16, .inl (fun _ => 0))), (a_8, .inl (k_8, 16, .inl (fun _ => 0))), (a_9, .inl (k_9, 2, .inl (fun _ => 0)))] := hD
  refine W.widen (k := 10) (n := 122) (Nat.le_of_ble_eq_true rfl) (Nat.le_of_ble_eq_true rfl) ?_
  refine va_putF (D := D) (cl := vwCl) (ci := 1) (v := .ref a_9) (ty := .array .boolean) (C := RX2) (T := TX2) (N := 11) hx hb hts in_X2 tyX2 tyX2_ok nmX2 hown hK hP hD hS 0 rfl rfl 9 (by decide) (hts _ q199) (fun _ h9 => h9) rfl hnm rfl (by decide +kernel) rfl rfl (Nat.le_of_ble_eq_true rfl) dX2_init_80 (fun H locs hP hD hS => ?_)
  have hP : va_P D vwCl [(h, .inr (1, [.ref a_0, .ref a_1, .ref a_2, .ref a_3, .ref a_4, .ref a_5, .ref a_6, .ref a_7, .ref a_8, .ref a_9, .null])), (a_0, .inl (k_0, 8, .inl (fun _ => 0))), (a_1, .inl (k_1, 8, .inl (fun _ => 0))), (a_2, .inl (k_2, 8, .inl (fun _ => 0))), (a_3, .inl (k_3, 16, .inl (fun _ => 0))), (a_4, .inl (k_4, 16, .inl (fun _ => 0))), (a_5, .inl (k_5, 16, .inl (fun _ => 0))), (a_6, .inl (k_6, 16, .inl (fun _ => 0))), (a_7, .inl (k_7, 16, .inl (fun _ => 0))), (a_8, .inl (k_8, 16, .inl (fun _ => 0))), (a_9, .inl (k_9, 2, .inl (fun _ => 0)))] H := hP
  have hD : va_D A [(h, .inr (1, [.ref a_0, .ref a_1, .ref a_2, .ref a_3, .ref a_4, .ref a_5, .ref a_6, .ref a_7, .ref a_8, .ref a_9, .null])), (a_0, .inl (k_0, 8, .inl (fun _ => 0))), (a_1, .inl (k_1, 8, .inl (fun _ => 0))), (a_2, .inl (k_2, 8, .inl (fun _ => 0))), (a_3, .inl (k_3, 16, .inl (fun _ => 0))), (a_4, .inl (k_4, 16, .inl (fun _ => 0))), (a_5, .inl (k_5, 16, .inl (fun _ => 0))), (a_6, .inl (k_6, 16, .inl (fun _ => 0))), (a_7, .inl (k_7, 16, .inl (fun _ => 0))), (a_8, .inl (k_8, 16, .inl (fun _ => 0))), (a_9, .inl (k_9, 2, .inl (fun _ => 0)))] := hD
  refine lv_aload_n hx hb dX2_init_83 rfl (lv_at hl 0 rfl) ?_
  refine lv_iconst (v := 2) hx hb dX2_init_84 (by decide) ?_
  refine va_newa (D := D) (cl := vwCl) (atype := .int) (ty := .int) (N' := 2) (a0 := (2, .inl (fun _ => 0))) hx hb (hts _ q76) rfl hK hP hD hS hA (fun _ => rfl) (by decide) (by decide) (by decide) (Nat.le_of_ble_eq_true rfl) (Nat.le_of_ble_eq_true rfl) dX2_init_85 (fun a_10 k_10 H hK hP hD hS => ?_)
  have hK : va_K D vwCl [(k_0, .boolean), (k_1, .int), (k_2, .int), (k_3, .boolean), (k_4, .int), (k_5, .int), (k_6, .int), (k_7, .int), (k_8, .int), (k_9, .boolean), (k_10, .int)] s := hK
  have hP : va_P D vwCl [(h, .inr (1, [.ref a_0, .ref a_1, .ref a_2, .ref a_3, .ref a_4, .ref a_5, .ref a_6, .ref a_7, .ref a_8, .ref a_9, .null])), (a_0, .inl (k_0, 8, .inl (fun _ => 0))), (a_1, .inl (k_1, 8, .inl (fun _ => 0))), (a_2, .inl (k_2, 8, .inl (fun _ => 0))), (a_3, .inl (k_3, 16, .inl (fun _ => 0))), (a_4, .inl (k_4, 16, .inl (fun _ => 0))), (a_5, .inl (k_5, 16, .inl (fun _ => 0))), (a_6, .inl (k_6, 16, .inl (fun _ => 0))), (a_7, .inl (k_7, 16, .inl (fun _ => 0))), (a_8, .inl (k_8, 16, .inl (fun _ => 0))), (a_9, .inl (k_9, 2, .inl (fun _ => 0))), (a_10, .inl (k_10, 2, .inl (fun _ => 0)))] H := hP
  have hD : va_D A [(h, .inr (1, [.ref a_0, .ref a_1, .ref a_2, .ref a_3, .ref a_4, .ref a_5, .ref a_6, .ref a_7, .ref a_8, .ref a_9, .null])), (a_0, .inl (k_0, 8, .inl (fun _ => 0))), (a_1, .inl (k_1, 8, .inl (fun _ => 0))), (a_2, .inl (k_2, 8, .inl (fun _ => 0))), (a_3, .inl (k_3, 16, .inl (fun _ => 0))), (a_4, .inl (k_4, 16, .inl (fun _ => 0))), (a_5, .inl (k_5, 16, .inl (fun _ => 0))), (a_6, .inl (k_6, 16, .inl (fun _ => 0))), (a_7, .inl (k_7, 16, .inl (fun _ => 0))), (a_8, .inl (k_8, 16, .inl (fun _ => 0))), (a_9, .inl (k_9, 2, .inl (fun _ => 0))), (a_10, .inl (k_10, 2, .inl (fun _ => 0)))] := hD
  refine W.widen (k := 11) (n := 124) (Nat.le_of_ble_eq_true rfl) (Nat.le_of_ble_eq_true rfl) ?_
  refine va_putF (D := D) (cl := vwCl) (ci := 1) (v := .ref a_10) (ty := .array .int) (C := RX2) (T := TX2) (N := 11) hx hb hts in_X2 tyX2 tyX2_ok nmX2 hown hK hP hD hS 0 rfl rfl 10 (by decide) (hts _ q200) (fun _ h9 => h9) rfl hnm rfl (by decide +kernel) rfl rfl (Nat.le_of_ble_eq_true rfl) dX2_init_87 (fun H locs hP hD hS => ?_)
  have hP : va_P D vwCl [(h, .inr (1, [.ref a_0, .ref a_1, .ref a_2, .ref a_3, .ref a_4, .ref a_5, .ref a_6, .ref a_7, .ref a_8, .ref a_9, .ref a_10])), (a_0, .inl (k_0, 8, .inl (fun _ => 0))), (a_1, .inl (k_1, 8, .inl (fun _ => 0))), (a_2, .inl (k_2, 8, .inl (fun _ => 0))), (a_3, .inl (k_3, 16, .inl (fun _ => 0))), (a_4, .inl (k_4, 16, .inl (fun _ => 0))), (a_5, .inl (k_5, 16, .inl (fun _ => 0))), (a_6, .inl (k_6, 16, .inl (fun _ => 0))), (a_7, .inl (k_7, 16, .inl (fun _ => 0))), (a_8, .inl (k_8, 16, .inl (fun _ => 0))), (a_9, .inl (k_9, 2, .inl (fun _ => 0))), (a_10, .inl (k_10, 2, .inl (fun _ => 0)))] H := hP
  have hD : va_D A [(h, .inr (1, [.ref a_0, .ref a_1, .ref a_2, .ref a_3, .ref a_4, .ref a_5, .ref a_6, .ref a_7, .ref a_8, .ref a_9, .ref a_10])), (a_0, .inl (k_0, 8, .inl (fun _ => 0))), (a_1, .inl (k_1, 8, .inl (fun _ => 0))), (a_2, .inl (k_2, 8, .inl (fun _ => 0))), (a_3, .inl (k_3, 16, .inl (fun _ => 0))), (a_4, .inl (k_4, 16, .inl (fun _ => 0))), (a_5, .inl (k_5, 16, .inl (fun _ => 0))), (a_6, .inl (k_6, 16, .inl (fun _ => 0))), (a_7, .inl (k_7, 16, .inl (fun _ => 0))), (a_8, .inl (k_8, 16, .inl (fun _ => 0))), (a_9, .inl (k_9, 2, .inl (fun _ => 0))), (a_10, .inl (k_10, 2, .inl (fun _ => 0)))] := hD
  refine W.vret hx hb hr (fun t ht hWm => ⟨⟨(fun k => ([a_0, a_1, a_2, a_3, a_4, a_5, a_6, a_7, a_8, a_9, a_10] : List Nat).getD k 0, fun k => ([k_0, k_1, k_2, k_3, k_4, k_5, k_6, k_7, k_8, k_9, k_10] : List ClassId).getD k 0), rfl, trivial, ?_, ?_, ?_⟩, hS.F ht⟩) hS.2.2 dX2_init_90 hlocks
  · rw [ht]; exact hP
  · exact va_K.moved hWm.alike hK
  · exact hD
/-- cell(script, 0): the script's first int, or 0 -/
def ks_seed (L : Nat) (xs : Nat → Int32) : Int32 := if Int32.ofNat L ≤ 0 then 0 else xs (0 : Int32).toNatClampNeg
set_option maxHeartbeats 4000000 in
set_option maxRecDepth 100000 in
theorem m0_cell (l : Launch) (b L : Nat) (xs : Nat → Int32) : Met l yX0_cell (ws_ yX0_cell cX0_cell 2 (some .int)) ({ frames := 0, cells := 0, slots := 0, locals := 0 }) (va_Pc [.ref b, .int 0] (fun U => va_X b L xs U U.heap)) (QcRead (ks_seed L xs)) 0 0 ks_F := by
  refine Met.ofW (cc := cX0_cell) (maxL := 2) (ret := some .int) (by decide) rfl ?_
  intro p e s m args below meth c s₁ B hml hv
  obtain ⟨rfl, hX⟩ := hv
  have hx := B.exec
  have hb := B.bytes
  have hr := B.returns
  have hlocks := B.notSynchronized
  have hbl : b < s.heap.size := by
    obtain ⟨scr, h1, -⟩ := hX
    exact (Array.getElem?_eq_some_iff.mp h1).1
  have hbA : ¬ (fun q : Nat => s.heap.size ≤ q) b := Nat.not_le.mpr hbl
  have hS : va_S (fun q : Nat => s.heap.size ≤ q) s.heap s.heap [] := va_S.rf
  have hl := lv_entry ([.ref b, .int 0]) (n := 2) (Nat.le_of_ble_eq_true rfl)
  rw [lg_entry_eq]
  generalize (lg_sl ([.ref b, .int 0]) ++ List.replicate (2 - (lg_sl ([.ref b, .int 0])).length) Slot.unset).toArray = ls at hl ⊢
  have hl : lv_has ls 2 [(0, .ref b), (1, .int 0)] := hl
  refine lv_iload_n hx hb dX0_cell_0 rfl (lv_at hl 1 rfl) ?_
  refine lv_aload_n hx hb dX0_cell_1 rfl (lv_at hl 0 rfl) ?_
  refine va_slen hx hb hX hbl hbA hS dX0_cell_2 ?_
  refine lv_icmp_ge (tgt := 12) hx hb dX0_cell_3 (by decide) (fun c_1 => ?_) (fun c_1 => ?_)
  · refine lv_iconst (v := 0) hx hb dX0_cell_12 (by decide) ?_
    exact ks_rret hx hb hr hlocks dX0_cell_13 (by unfold ks_seed; rw [if_pos c_1])
  · refine lv_aload_n hx hb dX0_cell_6 rfl (lv_at hl 0 rfl) ?_
    refine lv_iload_n hx hb dX0_cell_7 rfl (lv_at hl 1 rfl) ?_
    have hin : vp_in 0 L := by
      rcases Nat.eq_zero_or_pos L with z | z
      · subst z; exact absurd (by decide) c_1
      · exact fun q => by
          rcases q with q | q
          · exact absurd q (by decide)
          · rw [sb_cl0] at q; omega
    refine va_sld hx hb hX hbl hbA hS hin dX0_cell_8 ?_
    refine lv_goto (tgt := 13) hx hb dX0_cell_9 (by decide) ?_
    exact ks_rret hx hb hr hlocks dX0_cell_13 (by unfold ks_seed; rw [if_neg c_1])
end
section
/-! part 13: bits (rows of kit/laws/BITS.to-paste first), the mixing can be turned back, secrets differ -/
def bt (x : Int32) (i : Nat) : Bool := x.toBitVec.getLsbD i
theorem b_ext {x y : Int32} (h : ∀ i, i < 32 → bt x i = bt y i) : x = y := Int32.toBitVec_inj.mp (BitVec.eq_of_getLsbD_eq (fun i hi => h i hi))
theorem b_and (x y : Int32) (i : Nat) : bt (x &&& y) i = (bt x i && bt y i) := by unfold bt; rw [Int32.toBitVec_and, BitVec.getLsbD_and]
theorem b_xor (x y : Int32) (i : Nat) : bt (x ^^^ y) i = (bt x i ^^ bt y i) := by unfold bt; rw [Int32.toBitVec_xor, BitVec.getLsbD_xor]
theorem b_big {x : Int32} {i : Nat} (h : 32 ≤ i) : bt x i = false := BitVec.getLsbD_of_ge _ _ h
theorem s_l : ∀ n, n < 32 → ((nI n &&& 31).toBitVec.smod 32).toNat = n := by decide +kernel
theorem s_u : ∀ n, n < 32 → (((nI n).toUInt32 &&& Int32.toUInt32 31).toBitVec % 32).toNat = n := by decide +kernel
theorem b_shl (n : Nat) (hn : n < 32) (x : Int32) {i : Nat} (hi : i < 32) : bt (x <<< (nI n &&& 31)) i = (decide (n ≤ i) && bt x (i - n)) := by
  unfold bt
  rw [Int32.toBitVec_shiftLeft]
  show (x.toBitVec <<< ((nI n &&& 31).toBitVec.smod 32).toNat).getLsbD i = _
  rw [s_l n hn, BitVec.getLsbD_shiftLeft]
  rcases Nat.lt_or_ge i n with h | h
  · simp [h, Nat.not_le.mpr h]
  · simp [hi, h, Nat.not_lt.mpr h]
theorem b_ushr (n : Nat) (hn : n < 32) (x : Int32) (i : Nat) : bt ((x.toUInt32 >>> ((nI n).toUInt32 &&& Int32.toUInt32 31)).toInt32) i = bt x (n + i) := by
  show (x.toUInt32 >>> ((nI n).toUInt32 &&& Int32.toUInt32 31)).toBitVec.getLsbD i = x.toUInt32.toBitVec.getLsbD (n + i)
  rw [UInt32.toBitVec_shiftRight]
  show (x.toUInt32.toBitVec >>> (((nI n).toUInt32 &&& Int32.toUInt32 31).toBitVec % 32).toNat).getLsbD i = _
  rw [s_u n hn, BitVec.getLsbD_ushiftRight]
theorem nx_and (a b : Nat) : nI a &&& nI b = nI (a &&& b) := by
  apply Int32.toBitVec_inj.1
  show BitVec.ofNat 32 a &&& BitVec.ofNat 32 b = BitVec.ofNat 32 (a &&& b)
  apply BitVec.eq_of_getLsbD_eq
  intro i hi
  simp [hi]
theorem nx_xor (a b : Nat) : nI a ^^^ nI b = nI (a ^^^ b) := by
  apply Int32.toBitVec_inj.1
  show BitVec.ofNat 32 a ^^^ BitVec.ofNat 32 b = BitVec.ofNat 32 (a ^^^ b)
  apply BitVec.eq_of_getLsbD_eq
  intro i hi
  simp [hi]
theorem mx_xs {k : Nat} (hk0 : 0 < k) (hk : k < 32) {v w : Int32} (h : v ^^^ sv_ushr v (nI k) = w ^^^ sv_ushr w (nI k)) : v = w := by
  have key : ∀ n i, 32 ≤ i + n → bt v i = bt w i := by
    intro n
    induction n with
    | zero => intro i hi; rw [b_big (by omega), b_big (by omega)]
    | succ n ih =>
      intro i hi
      have e : bt (v ^^^ sv_ushr v (nI k)) i = bt (w ^^^ sv_ushr w (nI k)) i := by rw [h]
      unfold sv_ushr at e
      rw [b_xor, b_xor, b_ushr k hk, b_ushr k hk, ih (k + i) (by omega)] at e
      revert e
      cases bt v i <;> cases bt w i <;> cases bt w (k + i) <;> simp
  exact b_ext (fun i hi => key 32 i (by omega))
theorem mx_mul {c d : Int32} (h : c * d = 1) {v w : Int32} (e : v * c = w * c) : v = w := by
  have e1 : v * c * d = w * c * d := by rw [e]
  rw [Int32.mul_assoc, Int32.mul_assoc, h, Int32.mul_one, Int32.mul_one] at e1
  exact e1
theorem mx_mix {v w : Int32} (h : sv_mix v = sv_mix w) : v = w := by
  unfold sv_mix at h
  have h1 := mx_mul (c := 374761393) (d := 2923004241) (by decide) ((Int32.add_left_inj 1).mp h)
  have h2 := mx_mul (c := 668265263) (d := 2701016015) (by decide) (mx_xs (k := 13) (by decide) (by decide) h1)
  exact mx_mul (c := 1540483477) (d := 3852147133) (by decide) (mx_xs (k := 15) (by decide) (by decide) h2)
theorem b_nI (q : Nat) {i : Nat} (hi : i < 32) : bt (nI q) i = q.testBit i := by
  show (BitVec.ofNat 32 q).getLsbD i = q.testBit i
  rw [BitVec.getLsbD_ofNat, decide_eq_true hi, Bool.true_and]
/-- the i-th secret -/
def rl_sec (seed : Int32) (i : Nat) : Int32 := (nI i * 41358785 + seed) <<< ((4 : Int32) &&& 31)
def rl_15 (x : Int32) : Prop := ∃ q, q < 16 ∧ x = nI q
theorem rl_bits {s : Int32} {a b q r : Nat} (h : rl_sec s a ^^^ nI q = rl_sec s b ^^^ nI r) : ∀ i, i < 32 → ((decide (4 ≤ i) && bt (nI a * 41358785 + s) (i - 4)) ^^ q.testBit i) = ((decide (4 ≤ i) && bt (nI b * 41358785 + s) (i - 4)) ^^ r.testBit i) := by
  intro i hi
  have e : bt (rl_sec s a ^^^ nI q) i = bt (rl_sec s b ^^^ nI r) i := by rw [h]
  unfold rl_sec at e
  rw [b_xor, b_xor, show (4 : Int32) = nI 4 from rfl, b_shl 4 (by omega) _ hi, b_shl 4 (by omega) _ hi, b_nI _ hi, b_nI _ hi] at e
  exact e
theorem rl_low {q r : Nat} {X Y : Nat → Bool} (hq : q < 16) (hr : r < 16) (bits : ∀ i, i < 32 → ((decide (4 ≤ i) && X (i - 4)) ^^ q.testBit i) = ((decide (4 ≤ i) && Y (i - 4)) ^^ r.testBit i)) : q = r := by
  have hqr : q = r := by
    apply Nat.eq_of_testBit_eq
    intro i
    rcases Nat.lt_or_ge i 4 with h4 | h4
    · have e := bits i (by omega)
      rw [decide_eq_false (by omega), Bool.false_and, Bool.false_and, Bool.false_xor, Bool.false_xor] at e
      exact e
    · have hp : 2 ^ 4 ≤ 2 ^ i := Nat.pow_le_pow_right (by decide) h4
      have hq2 : q < 2 ^ i := by omega
      have hr2 : r < 2 ^ i := by omega
      rw [Nat.testBit_lt_two_pow hq2, Nat.testBit_lt_two_pow hr2]
  exact hqr
theorem rl_shl4 (X : Int32) : X <<< ((4 : Int32) &&& 31) = X * 16 := by
  apply Int32.toBitVec_inj.mp
  apply BitVec.eq_of_toNat_eq
  rw [pk_shl X _ 4 (by decide)]
  show _ = (X.toBitVec * 16#32).toNat
  rw [BitVec.toNat_mul]
  rfl
theorem rl_xc {a b x : Int32} (h : a ^^^ x = b ^^^ x) : a = b := by
  have e : a ^^^ x ^^^ x = b ^^^ x ^^^ x := by rw [h]
  rw [Int32.xor_assoc, Int32.xor_assoc, Int32.xor_self, Int32.xor_zero, Int32.xor_zero] at e
  exact e
theorem rl_seq {s : Int32} {a b : Nat} (ha : a < 134217728) (hb : b < 134217728) (h : rl_sec s a = rl_sec s b) : a = b := by
  unfold rl_sec at h
  rw [rl_shl4, rl_shl4, Int32.add_mul, Int32.add_mul] at h
  have h1 := (Int32.add_left_inj (s * 16)).mp h
  rw [Int32.mul_assoc, Int32.mul_assoc, Int32.mul_comm 41358785 16, ← Int32.mul_assoc, ← Int32.mul_assoc] at h1
  have h2 := mx_mul (c := 41358785) (d := 398850625) (by decide) h1
  rw [show (16 : Int32) = nI 16 from rfl, pk_mul, pk_mul, nI_eq (by omega) (by omega)] at h2
  omega
theorem rl_inj {s : Int32} {a b : Nat} (ha : a < 134217728) (hb : b < 134217728) {x y : Int32} (hx : rl_15 x) (hy : rl_15 y) (h : rl_sec s a ^^^ x = rl_sec s b ^^^ y) : a = b ∧ x = y := by
  obtain ⟨q, hq, rfl⟩ := hx
  obtain ⟨r, hr, rfl⟩ := hy
  have e1 := rl_low (X := bt (nI a * 41358785 + s)) (Y := bt (nI b * 41358785 + s)) hq hr (rl_bits h)
  subst e1
  exact ⟨rl_seq ha hb (rl_xc h), rfl⟩
end
section
/-! part 14: the relation between the server's state and the model's, and its steps -/
/-- capabilities: c secrets were made; object o was made or revoked rd o times, the r-th time with secret number sg o r -/
def rl_G (n : Nat) (liv sec : Nat → Int32) (made src : Int32) (fil obj rig chk rou gob gri gro : Nat → Int32) : Prop :=
  ∃ (c : Nat) (rd : Nat → Nat) (sg : Nat → Nat → Nat),
    c ≤ n ∧ made = nI c ∧ (∀ o, rou o = nI (rd o) ∧ rd o ≤ c) ∧
    (∀ o r, 1 ≤ r → r ≤ rd o → 1 ≤ sg o r ∧ sg o r ≤ c) ∧
    (∀ o r o2 r2, 1 ≤ r → r ≤ rd o → 1 ≤ r2 → r2 ≤ rd o2 → sg o r = sg o2 r2 → o = o2 ∧ r = r2) ∧
    (∀ o, ¬ liv o = 0 → 1 ≤ rd o ∧ sec o = rl_sec src (sg o (rd o))) ∧
    (∀ j, ¬ fil j = 0 → ∃ g r, g < 8 ∧ gob j = nI g ∧ gro j = nI r ∧ 1 ≤ r ∧ r ≤ rd g ∧ rl_15 (gri j) ∧ chk j = sv_mix (rl_sec src (sg g r) ^^^ gri j)) ∧
    (∀ j, rl_15 (rig j)) ∧ (∀ j, vp_in (obj j) 8)
section RLG
variable {n : Nat} {liv sec : Nat → Int32} {made src : Int32} {fil obj rig chk rou gob gri gro : Nat → Int32}
theorem rl_G_mono (G : rl_G n liv sec made src fil obj rig chk rou gob gri gro) : rl_G (n + 1) liv sec made src fil obj rig chk rou gob gri gro := by
  obtain ⟨c, rd, sg, h1, h⟩ := G
  exact ⟨c, rd, sg, by omega, h⟩
theorem rl_G_liv {liv2 : Nat → Int32} (hl : ∀ o, ¬ liv2 o = 0 → ¬ liv o = 0) (G : rl_G n liv sec made src fil obj rig chk rou gob gri gro) : rl_G n liv2 sec made src fil obj rig chk rou gob gri gro := by
  obtain ⟨c, rd, sg, h1, h2, h3, h4, h5, h6, h⟩ := G
  exact ⟨c, rd, sg, h1, h2, h3, h4, h5, fun o ho => h6 o (hl o ho), h⟩
theorem rl_G_fil {fil2 : Nat → Int32} (hl : ∀ o, ¬ fil2 o = 0 → ¬ fil o = 0) (G : rl_G n liv sec made src fil obj rig chk rou gob gri gro) : rl_G n liv sec made src fil2 obj rig chk rou gob gri gro := by
  obtain ⟨c, rd, sg, h1, h2, h3, h4, h5, h6, h7, h⟩ := G
  exact ⟨c, rd, sg, h1, h2, h3, h4, h5, h6, fun j hj => h7 j (hl j hj), h⟩
theorem rl_G_now {obj2 rig2 : Nat → Int32} (hr : ∀ j, rl_15 (rig2 j)) (ho : ∀ j, vp_in (obj2 j) 8) (G : rl_G n liv sec made src fil obj rig chk rou gob gri gro) : rl_G n liv sec made src fil obj2 rig2 chk rou gob gri gro := by
  obtain ⟨c, rd, sg, h1, h2, h3, h4, h5, h6, h7, h⟩ := G
  exact ⟨c, rd, sg, h1, h2, h3, h4, h5, h6, h7, hr, ho⟩
theorem rl_G_obj (G : rl_G n liv sec made src fil obj rig chk rou gob gri gro) : ∀ j, vp_in (obj j) 8 := by
  obtain ⟨c, rd, sg, h1, h2, h3, h4, h5, h6, h7, h8, h9⟩ := G
  exact h9
theorem rl_G_rig (G : rl_G n liv sec made src fil obj rig chk rou gob gri gro) : ∀ j, rl_15 (rig j) := by
  obtain ⟨c, rd, sg, h1, h2, h3, h4, h5, h6, h7, h8, h9⟩ := G
  exact h8
theorem rl_upd_all {P : Int32 → Prop} {f : Nat → Int32} {k : Nat} {x : Int32} (h : ∀ j, P (f j)) (hx : P x) : ∀ j, P (upd f k x j) := by
  intro j
  unfold upd
  by_cases a : j = k
  · rw [if_pos a]; exact hx
  · rw [if_neg a]; exact h j
/-- a slot a gets the living object o with the rights r -/
theorem rl_G_give {a : Nat} {o r : Int32} (ho : vp_in o 8) (hl : ¬ liv o.toNatClampNeg = 0) (hr : rl_15 r) (G : rl_G n liv sec made src fil obj rig chk rou gob gri gro) :
    rl_G n liv sec made src (upd fil a 1) (upd obj a o) (upd rig a r) (upd chk a (sv_mix (sec o.toNatClampNeg ^^^ r))) rou (upd gob a o) (upd gri a r) (upd gro a (rou o.toNatClampNeg)) := by
  obtain ⟨c, rd, sg, h1, h2, h3, h4, h5, h6, h7, h8, h9⟩ := G
  refine ⟨c, rd, sg, h1, h2, h3, h4, h5, h6, fun j hj => ?_, rl_upd_all h8 hr, rl_upd_all (P := fun x => vp_in x 8) h9 ho⟩
  by_cases ja : j = a
  · subst ja
    rw [pk_us, pk_us, pk_us, pk_us]
    obtain ⟨x, hx, rfl⟩ := vp_in_of ho (by decide)
    rw [nI_clamp (by omega)] at hl ⊢
    obtain ⟨e1, e2⟩ := h6 x hl
    exact ⟨x, rd x, hx, rfl, (h3 x).1, e1, Nat.le_refl _, hr, by rw [e2]⟩
  · rw [pk_un ja] at hj
    rw [pk_un ja, pk_un ja, pk_un ja, pk_un ja]
    exact h7 j hj
/-- the object k gets a new secret -/
theorem rl_G_new {k : Nat} {liv2 : Nat → Int32} (hl : ∀ x, x ≠ k → liv2 x = liv x) (G : rl_G n liv sec made src fil obj rig chk rou gob gri gro) :
    rl_G (n + 1) liv2 (upd sec k (((made + 1) * 41358785 + src) <<< ((4 : Int32) &&& 31))) (made + 1) src fil obj rig chk (upd rou k (rou k + 1)) gob gri gro := by
  obtain ⟨c, rd, sg, h1, h2, h3, h4, h5, h6, h7, h8, h9⟩ := G
  have ek : rd k ≤ c := (h3 k).2
  refine ⟨c + 1, fun x => if x = k then rd k + 1 else rd x, fun x r => if x = k ∧ r = rd k + 1 then c + 1 else sg x r, by omega, by rw [h2]; exact nI_1 c, ?_, ?_, ?_, ?_, ?_, h8, h9⟩
  · intro x
    by_cases e : x = k
    · subst e
      rw [pk_us]
      simp only [if_true]
      exact ⟨by rw [(h3 x).1]; exact nI_1 _, by omega⟩
    · rw [pk_un e]
      simp only [if_neg e]
      exact ⟨(h3 x).1, by have := (h3 x).2; omega⟩
  · intro x r hr1 hr2
    by_cases e : x = k ∧ r = rd k + 1
    · simp only [if_pos e]; omega
    · simp only [if_neg e]
      have hr3 : r ≤ rd x := by
        by_cases e2 : x = k
        · subst e2
          simp only [if_true] at hr2
          have : r ≠ rd x + 1 := fun q => e ⟨rfl, q⟩
          omega
        · simp only [if_neg e2] at hr2; exact hr2
      have := h4 x r hr1 hr3
      omega
  · intro x r x2 r2 hr1 hr2 hs1 hs2 he
    have low : ∀ y q, 1 ≤ q → q ≤ (if y = k then rd k + 1 else rd y) → ¬ (y = k ∧ q = rd k + 1) → q ≤ rd y := by
      intro y q _ hq hn
      by_cases e2 : y = k
      · subst e2
        simp only [if_true] at hq
        have : q ≠ rd y + 1 := fun z => hn ⟨rfl, z⟩
        omega
      · simp only [if_neg e2] at hq; exact hq
    by_cases e : x = k ∧ r = rd k + 1
    · by_cases f : x2 = k ∧ r2 = rd k + 1
      · exact ⟨by rw [e.1, f.1], by rw [e.2, f.2]⟩
      · simp only [if_pos e, if_neg f] at he
        have := h4 x2 r2 hs1 (low x2 r2 hs1 hs2 f)
        omega
    · by_cases f : x2 = k ∧ r2 = rd k + 1
      · simp only [if_neg e, if_pos f] at he
        have := h4 x r hr1 (low x r hr1 hr2 e)
        omega
      · simp only [if_neg e, if_neg f] at he
        exact h5 x r x2 r2 hr1 (low x r hr1 hr2 e) hs1 (low x2 r2 hs1 hs2 f) he
  · intro x hx
    by_cases e : x = k
    · subst e
      rw [pk_us]
      simp only [if_true, and_self]
      refine ⟨by omega, ?_⟩
      unfold rl_sec
      rw [h2, nI_1]
    · rw [hl x e] at hx
      rw [pk_un e]
      simp only [if_neg e, e, false_and, if_false]
      exact h6 x hx
  · intro j hj
    obtain ⟨g, r, g1, g2, g3, g4, g5, g6, g7⟩ := h7 j hj
    refine ⟨g, r, g1, g2, g3, g4, ?_, g6, ?_⟩
    · by_cases e : g = k
      · subst e; simp only [if_true]; omega
      · simp only [if_neg e]; exact g5
    · have hn : ¬ (g = k ∧ r = rd k + 1) := by
        intro q
        have := q.2
        rw [q.1] at g5
        omega
      simp only [if_neg hn]
      exact g7
/-- slot a is copied into slot t -/
theorem rl_G_copy {a t : Nat} (G : rl_G n liv sec made src fil obj rig chk rou gob gri gro) :
    rl_G n liv sec made src (upd fil t (vp_nar .boolean (fil a))) (upd obj t (obj a)) (upd rig t (rig a)) (upd chk t (chk a)) rou (upd gob t (gob a)) (upd gri t (gri a)) (upd gro t (gro a)) := by
  obtain ⟨c, rd, sg, h1, h2, h3, h4, h5, h6, h7, h8, h9⟩ := G
  refine ⟨c, rd, sg, h1, h2, h3, h4, h5, h6, fun j hj => ?_, rl_upd_all h8 (h8 a), rl_upd_all (P := fun x => vp_in x 8) h9 (h9 a)⟩
  by_cases jt : j = t
  · subst jt
    rw [pk_us] at hj
    rw [pk_us, pk_us, pk_us, pk_us]
    exact h7 a (fun z => hj (by rw [z]; rfl))
  · rw [pk_un jt] at hj
    rw [pk_un jt, pk_un jt, pk_un jt, pk_un jt]
    exact h7 j hj
end RLG
/-- a capability is valid for the server just when it is genuine for the model -/
theorem rl_valid {n : Nat} {S M : ks_St} (hn : n < 134217728) (h0 : S 0 = M 0) (h8 : S 8 = M 3) (h9 : S 9 = M 7) (h10 : S 10 = M 8)
    (G : rl_G n (S 0) (S 2) (S 3 0) (S 4 0) (S 8) (S 9) (S 10) (S 11) (M 2) (M 4) (M 5) (M 6)) (a : Int32) : sv_valid S a = mo_gen M a := by
  unfold sv_valid mo_gen
  rw [← h0, ← h8, ← h9, ← h10]
  generalize a.toNatClampNeg = j
  by_cases c8 : S 8 j = 0
  · rw [if_pos c8, if_pos c8]
  rw [if_neg c8, if_neg c8]
  obtain ⟨c, rd, sg, hc, hm, hrou, hsg, hinj, hliv, hfil, hrig, hobj⟩ := G
  obtain ⟨g, r, hg, eg, er, hr1, hr2, h15, hchk⟩ := hfil j c8
  obtain ⟨o, ho, eo⟩ := vp_in_of (hobj j) (by decide)
  have hro := (hrou o).2
  have hrg := (hrou g).2
  rw [eo, nI_clamp (by omega), eg, er, (hrou o).1, hchk]
  by_cases c0 : S 0 o = 0
  · rw [if_pos c0]
    by_cases d1 : nI o = nI g
    · rw [if_pos d1]
      by_cases d2 : S 10 j = M 5 j
      · rw [if_pos d2, if_pos c0]
      · rw [if_neg d2]
    · rw [if_neg d1]
  · rw [if_neg c0]
    obtain ⟨hrd, hsec⟩ := hliv o c0
    rw [hsec]
    have b1 := hsg o (rd o) hrd (Nat.le_refl _)
    have b2 := hsg g r hr1 hr2
    by_cases e : sv_mix (rl_sec (S 4 0) (sg o (rd o)) ^^^ S 10 j) = sv_mix (rl_sec (S 4 0) (sg g r) ^^^ M 5 j)
    · obtain ⟨s1, s2⟩ := rl_inj (by omega) (by omega) (hrig j) h15 (mx_mix e)
      obtain ⟨t1, t2⟩ := hinj o (rd o) g r hrd (Nat.le_refl _) hr1 hr2 s1
      rw [if_pos e, if_pos (by rw [t1]), if_pos s2, if_neg c0, if_pos (by rw [t2])]
    · rw [if_neg e]
      by_cases d1 : nI o = nI g
      · have og : o = g := (nI_eq (by omega) (by omega)).mp d1
        rw [if_pos d1]
        by_cases d2 : S 10 j = M 5 j
        · rw [if_pos d2, if_neg c0]
          by_cases d3 : nI (rd o) = nI r
          · have hrr : rd o = r := (nI_eq (by omega) (by omega)).mp d3
            exact absurd (by rw [hrr, d2, og]) e
          · rw [if_neg d3]
        · rw [if_neg d2]
      · rw [if_neg d1]
/-- answers: what is kept for each user -/
def rl_A (n : Nat) (last has ans sent kn la : Nat → Int32) : Prop :=
  has = kn ∧ (∀ j, ¬ has j = 0 → ans j = la j) ∧ sent = last ∧ (∀ j, ∃ a, a ≤ n ∧ sent j = nI a) ∧ (∀ j, ¬ has j = 0 → ¬ sent j = 0)
theorem rl_A_mono {n : Nat} {last has ans sent kn la : Nat → Int32} (h : rl_A n last has ans sent kn la) : rl_A (n + 1) last has ans sent kn la := by
  obtain ⟨h1, h2, h3, h4, h5⟩ := h
  refine ⟨h1, h2, h3, fun j => ?_, h5⟩
  obtain ⟨a, ha, e⟩ := h4 j
  exact ⟨a, by omega, e⟩
theorem rl_A_req {n k : Nat} {r : Int32} {last has ans sent kn la : Nat → Int32} (hn : n < 134217728) (h : rl_A n last has ans sent kn la) :
    rl_A (n + 1) (upd last k (sent k + 1)) (upd has k 1) (upd ans k r) (upd sent k (sent k + 1)) (upd kn k 1) (upd la k r) := by
  obtain ⟨h1, h2, h3, h4, h5⟩ := h
  refine ⟨by rw [h1], fun j hj => ?_, by rw [h3], fun j => ?_, fun j hj => ?_⟩
  · by_cases e : j = k
    · subst e; rw [pk_us, pk_us]
    · rw [pk_un e] at hj
      rw [pk_un e, pk_un e]
      exact h2 j hj
  · by_cases e : j = k
    · subst e
      obtain ⟨a, ha, q⟩ := h4 j
      exact ⟨a + 1, by omega, by rw [pk_us, q]; exact nI_1 a⟩
    · rw [pk_un e]
      obtain ⟨a, ha, q⟩ := h4 j
      exact ⟨a, by omega, q⟩
  · by_cases e : j = k
    · subst e
      obtain ⟨a, ha, q⟩ := h4 j
      rw [pk_us, q, nI_1]
      exact nI_ne0 (by omega) (by omega)
    · rw [pk_un e] at hj ⊢
      exact h5 j hj
def rl_E (S M : ks_St) : Prop := S 0 = M 0 ∧ S 1 = M 1 ∧ S 8 = M 3 ∧ S 9 = M 7 ∧ S 10 = M 8
def rl_GS (n : Nat) (S M : ks_St) : Prop := rl_G n (S 0) (S 2) (S 3 0) (S 4 0) (S 8) (S 9) (S 10) (S 11) (M 2) (M 4) (M 5) (M 6)
/-- THE RELATION, after n calls -/
def rl_R (n : Nat) (S M : ks_St) : Prop :=
  rl_E S M ∧ rl_GS n S M ∧ rl_A n (S 5) (S 6) (S 7) (S 12) (M 9) (M 10) ∧ (∀ j, vp_in (S 14 j) 16) ∧ (∀ j, vp_in (S 15 j) 16)
theorem rl_mono {n : Nat} {S M : ks_St} (R : rl_R n S M) : rl_R (n + 1) S M := ⟨R.1, rl_G_mono R.2.1, rl_A_mono R.2.2.1, R.2.2.2⟩
theorem rl_ok {n : Nat} {S M : ks_St} (R : rl_R n S M) : sv_ok S := ⟨rl_G_obj R.2.1, R.2.2.2⟩
theorem rl_mok {n : Nat} {S M : ks_St} (R : rl_R n S M) : mo_ok M := by
  intro j
  rw [← R.1.2.2.2.1]
  exact rl_G_obj R.2.1 j
theorem rl_start (seed : Int32) : rl_R 0 (sv_init seed) mo_init := by
  have z0 : ∀ j : Nat, vp_in (0 : Int32) 16 := fun _ => vp_in_nI (n := 0) (by decide) (by decide)
  have z8 : vp_in (0 : Int32) 8 := vp_in_nI (n := 0) (by decide) (by decide)
  refine ⟨⟨rfl, rfl, rfl, rfl, rfl⟩, ⟨0, fun _ => 0, fun _ _ => 0, Nat.le_refl _, rfl, fun o => ⟨rfl, Nat.le_refl _⟩, ?_, ?_, ?_, ?_, ?_, ?_⟩, ⟨rfl, fun j _ => rfl, rfl, fun j => ⟨0, Nat.le_refl _, rfl⟩, fun j h => absurd rfl h⟩, z0, z0⟩
  · intro o r a b; exact absurd (show r ≤ 0 from b) (by omega)
  · intro o r o2 r2 a b; exact absurd (show r ≤ 0 from b) (by omega)
  · intro o h; exact absurd rfl h
  · intro j h; exact absurd rfl h
  · intro j; exact ⟨0, by decide, rfl⟩
  · intro j; exact z8
end
section
/-! part 15: every pair of calls answers alike and keeps the relation -/
theorem rl_bu (u : Int32) : sv_badUser u = 0 ↔ u = 0 ∨ u = 1 := by
  constructor
  · intro h
    obtain ⟨j, hj, rfl⟩ := vp_in_of (ks_user h) (by decide)
    rcases (show j = 0 ∨ j = 1 by omega) with rfl | rfl
    · exact Or.inl rfl
    · exact Or.inr rfl
  · intro h
    rcases h with rfl | rfl
    · decide
    · decide
theorem rl_bs (k : Int32) : (if k < 0 then (-2 : Int32) else if k ≤ 7 then 0 else -2) = if sv_badSlot k = 0 then 0 else -2 := by
  unfold sv_badSlot
  by_cases a : k < 0
  · rw [if_pos a, if_pos a, if_neg (by decide)]
  · rw [if_neg a, if_neg a]
    by_cases b : k ≤ 7
    · rw [if_pos b, if_pos b, if_pos rfl]
    · rw [if_neg b, if_neg b, if_neg (by decide)]
theorem rl_ref (u k : Int32) : mo_refusal u k = if sv_badUser u = 0 then (if sv_badSlot k = 0 then 0 else -2) else -1 := by
  unfold mo_refusal
  rw [rl_bs k]
  by_cases a : u = 0
  · rw [if_pos a, if_pos ((rl_bu u).mpr (Or.inl a))]
  · rw [if_neg a]
    by_cases b : u = 1
    · rw [if_pos b, if_pos ((rl_bu u).mpr (Or.inr b))]
    · rw [if_neg b, if_neg (fun h => by rcases (rl_bu u).mp h with q | q; exact a q; exact b q)]
theorem rl_ref0 {u k : Int32} (hu : sv_badUser u = 0) (hk : sv_badSlot k = 0) : mo_refusal u k = 0 := by rw [rl_ref, if_pos hu, if_pos hk]
theorem rl_refS {u k : Int32} (hu : sv_badUser u = 0) (hk : ¬ sv_badSlot k = 0) : mo_refusal u k = -2 := by rw [rl_ref, if_pos hu, if_neg hk]
theorem rl_refU {u k : Int32} (hu : ¬ sv_badUser u = 0) : mo_refusal u k = -1 := by rw [rl_ref, if_neg hu]
theorem rl_ge0 {u k : Int32} (hu : sv_badUser u = 0) (hk : sv_badSlot k = 0) : 0 ≤ mo_refusal u k := by rw [rl_ref0 hu hk]; decide
theorem rl_geS {u k : Int32} (hu : sv_badUser u = 0) (hk : ¬ sv_badSlot k = 0) : ¬ 0 ≤ mo_refusal u k := by rw [rl_refS hu hk]; decide
theorem rl_geU {u k : Int32} (hu : ¬ sv_badUser u = 0) : ¬ 0 ≤ mo_refusal u k := by rw [rl_refU hu]; decide
-- requests
theorem rl_request {n : Nat} {S M : ks_St} {u op slot to_ arg : Int32} (hn : n < 134217727) (R : rl_R n S M) :
    sv_request S u op slot to_ arg = sv_kept (sv_serve (sv_got (sv_sent S u op slot to_ arg) u) op (u * 8 + slot) (u * 8 + to_) arg) u := by
  have e13 : (sv_sent S u op slot to_ arg) 13 u.toNatClampNeg = op := show upd (S 13) u.toNatClampNeg op u.toNatClampNeg = op from pk_us
  have e14 : (sv_sent S u op slot to_ arg) 14 u.toNatClampNeg = u * 8 + slot := show upd (S 14) u.toNatClampNeg (u * 8 + slot) u.toNatClampNeg = _ from pk_us
  have e15 : (sv_sent S u op slot to_ arg) 15 u.toNatClampNeg = u * 8 + to_ := show upd (S 15) u.toNatClampNeg (u * 8 + to_) u.toNatClampNeg = _ from pk_us
  have e16 : (sv_sent S u op slot to_ arg) 16 u.toNatClampNeg = arg := show upd (S 16) u.toNatClampNeg arg u.toNatClampNeg = _ from pk_us
  have hlt : (sv_sent S u op slot to_ arg) 5 u.toNatClampNeg < (sv_sent S u op slot to_ arg) 12 u.toNatClampNeg := by
    show S 5 u.toNatClampNeg < upd (S 12) u.toNatClampNeg (S 12 u.toNatClampNeg + 1) u.toNatClampNeg
    obtain ⟨-, -, h3, h4, -⟩ := R.2.2.1
    obtain ⟨a, ha, e⟩ := h4 u.toNatClampNeg
    rw [pk_us, ← h3, e, nI_1]
    exact nI_lt (by omega) (by omega)
  unfold sv_request sv_receive
  rw [if_pos hlt, e13, e14, e15, e16]
/-- what a served request did: the answer is r, the model's state (before the answer is kept) is M2 -/
def rl_C (n : Nat) (T M : ks_St) (q : Int32 × ks_St) (r : Int32) (M2 : ks_St) : Prop :=
  q.1 = r ∧ (q.2 5 = T 5 ∧ q.2 6 = T 6 ∧ q.2 7 = T 7 ∧ q.2 12 = T 12 ∧ q.2 14 = T 14 ∧ q.2 15 = T 15) ∧ (M2 9 = M 9 ∧ M2 10 = M 10) ∧ rl_E q.2 M2 ∧ rl_GS n q.2 M2
theorem rl_comb {n : Nat} {S M M2 : ks_St} {u op slot to_ arg r : Int32} (hn : n < 134217727) (R : rl_R n S M) (hs : vp_in (u * 8 + slot) 16) (ht : vp_in (u * 8 + to_) 16)
    (hC : ∀ T, rl_E T M → rl_GS n T M → rl_C (n + 1) T M (sv_serve T op (u * 8 + slot) (u * 8 + to_) arg) r M2) :
    (sv_request S u op slot to_ arg).1 = r ∧ rl_R (n + 1) (sv_request S u op slot to_ arg).2 (mo_answered M2 u r) := by
  rw [rl_request hn R]
  have hok := sv_ok_sent (S := S) (u := u) (op := op) (slot := slot) (to_ := to_) (arg := arg) (rl_ok R) hs ht
  have C := hC (sv_got (sv_sent S u op slot to_ arg) u) R.1 R.2.1
  generalize hq : sv_serve (sv_got (sv_sent S u op slot to_ arg) u) op (u * 8 + slot) (u * 8 + to_) arg = q at C
  obtain ⟨rfl, ⟨c5, c6, c7, c12, c14, c15⟩, ⟨m9, m10⟩, E, G⟩ := C
  refine ⟨show upd (q.2 7) u.toNatClampNeg q.1 u.toNatClampNeg = q.1 from pk_us, E, G, ?_, ?_, ?_⟩
  · show rl_A (n + 1) (q.2 5) (q.2 6) (upd (q.2 7) u.toNatClampNeg q.1) (q.2 12) (upd (M2 9) u.toNatClampNeg 1) (upd (M2 10) u.toNatClampNeg q.1)
    rw [c5, c6, c7, c12, m9, m10]
    have A := rl_A_req (k := u.toNatClampNeg) (r := q.1) (by omega) R.2.2.1
    show rl_A (n + 1) (upd (S 5) u.toNatClampNeg (upd (S 12) u.toNatClampNeg (S 12 u.toNatClampNeg + 1) u.toNatClampNeg)) (upd (S 6) u.toNatClampNeg 1) (upd (S 7) u.toNatClampNeg q.1) (upd (S 12) u.toNatClampNeg (S 12 u.toNatClampNeg + 1)) (upd (M 9) u.toNatClampNeg 1) (upd (M 10) u.toNatClampNeg q.1)
    rw [pk_us]
    exact A
  · show ∀ j, vp_in (q.2 14 j) 16
    rw [c14]
    exact hok.2.1
  · show ∀ j, vp_in (q.2 15 j) 16
    rw [c15]
    exact hok.2.2
/-- a request that is refused or changes nothing -/
theorem rl_C_same {n : Nat} {T M : ks_St} {r : Int32} (E : rl_E T M) (G : rl_GS n T M) : rl_C (n + 1) T M (r, T) r M := ⟨rfl, ⟨rfl, rfl, rfl, rfl, rfl, rfl⟩, ⟨rfl, rfl⟩, E, rl_G_mono G⟩
theorem rl_C_create {n : Nat} {T M : ks_St} {a b arg : Int32} (E : rl_E T M) (G : rl_GS n T M) :
    rl_C (n + 1) T M (sv_serve T 0 a b arg) (if nI (sv_find (M 0) 8 0) = 8 then -4 else nI (sv_find (M 0) 8 0)) (if nI (sv_find (M 0) 8 0) = 8 then M else mo_made M a (nI (sv_find (M 0) 8 0))) := by
  unfold sv_serve sv_screate
  rw [if_pos rfl, E.1]
  have hf := sv_find_le (M 0) 8 0
  by_cases e : nI (sv_find (M 0) 8 0) = 8
  · rw [if_pos e, if_pos e, if_pos e]
    exact rl_C_same E G
  · rw [if_neg e, if_neg e, if_neg e]
    have ho : vp_in (nI (sv_find (M 0) 8 0)) 8 := vp_in_nI (Nat.lt_of_le_of_ne (by omega) (fun h8 => e (by rw [h8]; rfl))) (by decide)
    generalize nI (sv_find (M 0) 8 0) = o at ho
    obtain ⟨h0, h1, h8, h9, h10⟩ := E
    refine ⟨rfl, ⟨rfl, rfl, rfl, rfl, rfl, rfl⟩, ⟨rfl, rfl⟩, ⟨?_, ?_, ?_, ?_, ?_⟩, ?_⟩
    · show upd (T 0) o.toNatClampNeg 1 = upd (M 0) o.toNatClampNeg 1
      rw [h0]
    · show upd (T 1) o.toNatClampNeg 0 = upd (M 1) o.toNatClampNeg 0
      rw [h1]
    · show upd (T 8) a.toNatClampNeg 1 = upd (M 3) a.toNatClampNeg 1
      rw [h8]
    · show upd (T 9) a.toNatClampNeg o = upd (M 7) a.toNatClampNeg o
      rw [h9]
    · show upd (T 10) a.toNatClampNeg 15 = upd (M 8) a.toNatClampNeg 15
      rw [h10]
    · have G1 := rl_G_new (k := o.toNatClampNeg) (liv2 := upd (T 0) o.toNatClampNeg 1) (fun x hx => pk_un hx) G
      have G2 := rl_G_give (a := a.toNatClampNeg) (o := o) (r := 15) ho (by rw [pk_us]; decide) ⟨15, by decide, rfl⟩ G1
      exact G2
/-- a request other than create: refused by both, or done by both -/
theorem rl_srv {n : Nat} {T M : ks_St} {u slot op k b arg : Int32} (hn : n < 134217728) (h0 : ¬ op = 0) (hk : sv_needed op = k) (hr : 0 ≤ mo_refusal u slot) (E : rl_E T M) (G : rl_GS n T M) :
    (mo_allows M u slot k = 0 ∧ sv_serve T op (u * 8 + slot) b arg = (-3, T)) ∨
    (¬ mo_allows M u slot k = 0 ∧ ¬ sv_valid T (u * 8 + slot) = 0 ∧ sv_serve T op (u * 8 + slot) b arg = sv_do T op (u * 8 + slot) b arg (T 9 (u * 8 + slot).toNatClampNeg)) := by
  have hv := rl_valid hn E.1 E.2.2.1 E.2.2.2.1 E.2.2.2.2 G (u * 8 + slot)
  unfold mo_allows mo_genuine sv_serve
  rw [if_pos hr, ← hv, if_neg h0, hk, ← E.2.2.2.2]
  by_cases c : sv_valid T (u * 8 + slot) = 0
  · rw [if_pos c, if_pos c]; exact Or.inl ⟨rfl, rfl⟩
  · rw [if_neg c, if_neg c]
    by_cases d : T 10 (u * 8 + slot).toNatClampNeg &&& k = k
    · rw [if_pos d, if_pos d]; exact Or.inr ⟨by decide, c, rfl⟩
    · rw [if_neg d, if_neg d]; exact Or.inl ⟨rfl, rfl⟩
theorem rl_living {S : ks_St} {a : Int32} (h : ¬ sv_valid S a = 0) : ¬ S 0 (S 9 a.toNatClampNeg).toNatClampNeg = 0 := by
  unfold sv_valid at h
  intro q
  by_cases c : S 8 a.toNatClampNeg = 0
  · rw [if_pos c] at h; exact h rfl
  · rw [if_neg c, if_pos q] at h; exact h rfl
section OPS
variable {n : Nat} {S M : ks_St} {u slot : Int32}
/-- from the request's core to the public call: numbers out of range are refused alike -/
theorem rl_slot {op arg : Int32} {mo : Int32 × ks_St} {r : Int32} {M2 : ks_St} (hn : n < 134217727) (R : rl_R n S M) (h1 : 0 ≤ mo_refusal u slot → mo = (r, mo_answered M2 u r)) (h2 : ¬ 0 ≤ mo_refusal u slot → mo = (mo_refusal u slot, M))
    (hC : 0 ≤ mo_refusal u slot → ∀ T, rl_E T M → rl_GS n T M → rl_C (n + 1) T M (sv_serve T op (u * 8 + slot) (u * 8 + slot) arg) r M2) :
    (sv_slotReq S u slot op arg).1 = mo.1 ∧ rl_R (n + 1) (sv_slotReq S u slot op arg).2 mo.2 := by
  unfold sv_slotReq
  by_cases hu : sv_badUser u = 0
  · rw [if_pos hu]
    by_cases hs : sv_badSlot slot = 0
    · rw [if_pos hs, h1 (rl_ge0 hu hs)]
      have ha := ks_at (ks_user hu) (ks_slot hs)
      exact rl_comb hn R ha ha (hC (rl_ge0 hu hs))
    · rw [if_neg hs, h2 (rl_geS hu hs), rl_refS hu hs]
      exact ⟨rfl, rl_mono R⟩
  · rw [if_neg hu, h2 (rl_geU hu), rl_refU hu]
    exact ⟨rfl, rl_mono R⟩
theorem rl_create (hn : n < 134217727) (R : rl_R n S M) : (sv_create S u slot).1 = (mo_create M u slot).1 ∧ rl_R (n + 1) (sv_create S u slot).2 (mo_create M u slot).2 := by
  unfold sv_create
  refine rl_slot hn R (r := if nI (sv_find (M 0) 8 0) = 8 then -4 else nI (sv_find (M 0) 8 0)) (M2 := if nI (sv_find (M 0) 8 0) = 8 then M else mo_made M (u * 8 + slot) (nI (sv_find (M 0) 8 0))) (fun h => ?_) (fun h => ?_) (fun _ T E G => rl_C_create E G)
  · unfold mo_create
    rw [if_pos h]
    by_cases e : nI (sv_find (M 0) 8 0) = 8
    · rw [if_pos e, if_pos e, if_pos e]
    · rw [if_neg e, if_neg e, if_neg e]
  · unfold mo_create
    rw [if_neg h]
theorem rl_read (hn : n < 134217727) (R : rl_R n S M) : (sv_read S u slot).1 = (mo_read M u slot).1 ∧ rl_R (n + 1) (sv_read S u slot).2 (mo_read M u slot).2 := by
  unfold sv_read
  refine rl_slot hn R (r := if mo_allows M u slot 1 = 0 then -3 else M 1 (M 7 (u * 8 + slot).toNatClampNeg).toNatClampNeg) (M2 := M) (fun h => ?_) (fun h => ?_) (fun h T E G => ?_)
  · unfold mo_read
    rw [if_pos h]
    by_cases e : mo_allows M u slot 1 = 0
    · rw [if_pos e, if_pos e]
    · rw [if_neg e, if_neg e]
  · unfold mo_read
    rw [if_neg h]
  · rcases rl_srv (op := 1) (k := 1) (b := u * 8 + slot) (arg := 0) (by omega) (by decide) (by decide) h E G with ⟨e1, e2⟩ | ⟨e1, e2, e3⟩
    · rw [e2, if_pos e1]; exact rl_C_same E G
    · rw [e3, if_neg e1]
      unfold sv_do
      rw [if_pos rfl, E.2.1, E.2.2.2.1]
      exact rl_C_same E G
theorem rl_add {more : Int32} (hn : n < 134217727) (R : rl_R n S M) : (sv_add S u slot more).1 = (mo_add M u slot more).1 ∧ rl_R (n + 1) (sv_add S u slot more).2 (mo_add M u slot more).2 := by
  unfold sv_add
  refine rl_slot hn R (r := if mo_allows M u slot 2 = 0 then -3 else (mo_added M (M 7 (u * 8 + slot).toNatClampNeg) more) 1 (M 7 (u * 8 + slot).toNatClampNeg).toNatClampNeg) (M2 := if mo_allows M u slot 2 = 0 then M else mo_added M (M 7 (u * 8 + slot).toNatClampNeg) more) (fun h => ?_) (fun h => ?_) (fun h T E G => ?_)
  · unfold mo_add
    rw [if_pos h]
    by_cases e : mo_allows M u slot 2 = 0
    · rw [if_pos e, if_pos e, if_pos e]
    · rw [if_neg e, if_neg e, if_neg e]
  · unfold mo_add
    rw [if_neg h]
  · rcases rl_srv (op := 2) (k := 2) (b := u * 8 + slot) (arg := more) (by omega) (by decide) (by decide) h E G with ⟨e1, e2⟩ | ⟨e1, e2, e3⟩
    · rw [e2, if_pos e1, if_pos e1]; exact rl_C_same E G
    · rw [e3, if_neg e1, if_neg e1]
      unfold sv_do
      rw [if_neg (by decide), if_pos rfl]
      obtain ⟨h0, h1, h8, h9, h10⟩ := E
      rw [← h9]
      generalize T 9 (u * 8 + slot).toNatClampNeg = o
      refine ⟨?_, ⟨rfl, rfl, rfl, rfl, rfl, rfl⟩, ⟨rfl, rfl⟩, ⟨h0, ?_, h8, h9, h10⟩, rl_G_mono G⟩
      · show upd (T 1) o.toNatClampNeg (T 1 o.toNatClampNeg + more) o.toNatClampNeg = upd (M 1) o.toNatClampNeg (M 1 o.toNatClampNeg + more) o.toNatClampNeg
        rw [h1]
      · show upd (T 1) o.toNatClampNeg (T 1 o.toNatClampNeg + more) = upd (M 1) o.toNatClampNeg (M 1 o.toNatClampNeg + more)
        rw [h1]
theorem rl_destroy (hn : n < 134217727) (R : rl_R n S M) : (sv_destroy S u slot).1 = (mo_destroy M u slot).1 ∧ rl_R (n + 1) (sv_destroy S u slot).2 (mo_destroy M u slot).2 := by
  unfold sv_destroy
  refine rl_slot hn R (r := if mo_allows M u slot 4 = 0 then -3 else 0) (M2 := if mo_allows M u slot 4 = 0 then M else ks_st M 0 (M 7 (u * 8 + slot).toNatClampNeg) 0) (fun h => ?_) (fun h => ?_) (fun h T E G => ?_)
  · unfold mo_destroy
    rw [if_pos h]
    by_cases e : mo_allows M u slot 4 = 0
    · rw [if_pos e, if_pos e, if_pos e]
    · rw [if_neg e, if_neg e, if_neg e]
  · unfold mo_destroy
    rw [if_neg h]
  · rcases rl_srv (op := 3) (k := 4) (b := u * 8 + slot) (arg := 0) (by omega) (by decide) (by decide) h E G with ⟨e1, e2⟩ | ⟨e1, e2, e3⟩
    · rw [e2, if_pos e1, if_pos e1]; exact rl_C_same E G
    · rw [e3, if_neg e1, if_neg e1]
      unfold sv_do
      rw [if_neg (by decide), if_neg (by decide), if_pos rfl]
      obtain ⟨h0, h1, h8, h9, h10⟩ := E
      rw [← h9]
      generalize T 9 (u * 8 + slot).toNatClampNeg = o
      refine ⟨rfl, ⟨rfl, rfl, rfl, rfl, rfl, rfl⟩, ⟨rfl, rfl⟩, ⟨?_, h1, h8, h9, h10⟩, ?_⟩
      · show upd (T 0) o.toNatClampNeg 0 = upd (M 0) o.toNatClampNeg 0
        rw [h0]
      · refine rl_G_liv (liv := T 0) (liv2 := upd (T 0) o.toNatClampNeg 0) (fun x hx => ?_) (rl_G_mono G)
        by_cases e : x = o.toNatClampNeg
        · subst e; rw [pk_us] at hx; exact absurd rfl hx
        · rw [pk_un e] at hx; exact hx
theorem rl_revoke (hn : n < 134217727) (R : rl_R n S M) : (sv_revoke S u slot).1 = (mo_revoke M u slot).1 ∧ rl_R (n + 1) (sv_revoke S u slot).2 (mo_revoke M u slot).2 := by
  unfold sv_revoke
  refine rl_slot hn R (r := if mo_allows M u slot 8 = 0 then -3 else 0) (M2 := if mo_allows M u slot 8 = 0 then M else mo_revoked M (u * 8 + slot)) (fun h => ?_) (fun h => ?_) (fun h T E G => ?_)
  · unfold mo_revoke
    rw [if_pos h]
    by_cases e : mo_allows M u slot 8 = 0
    · rw [if_pos e, if_pos e, if_pos e]
    · rw [if_neg e, if_neg e, if_neg e]
  · unfold mo_revoke
    rw [if_neg h]
  · rcases rl_srv (op := 4) (k := 8) (b := u * 8 + slot) (arg := 0) (by omega) (by decide) (by decide) h E G with ⟨e1, e2⟩ | ⟨e1, e2, e3⟩
    · rw [e2, if_pos e1, if_pos e1]; exact rl_C_same E G
    · rw [e3, if_neg e1, if_neg e1]
      have hl := rl_living e2
      unfold sv_do mo_revoked
      rw [if_neg (by decide), if_neg (by decide), if_neg (by decide), if_pos rfl]
      obtain ⟨h0, h1, h8, h9, h10⟩ := E
      rw [← h9, ← h10]
      have ho := rl_G_obj G (u * 8 + slot).toNatClampNeg
      have hr := rl_G_rig G (u * 8 + slot).toNatClampNeg
      generalize T 9 (u * 8 + slot).toNatClampNeg = o at ho hl ⊢
      generalize T 10 (u * 8 + slot).toNatClampNeg = q at hr ⊢
      generalize u * 8 + slot = a
      refine ⟨rfl, ⟨rfl, rfl, rfl, rfl, rfl, rfl⟩, ⟨rfl, rfl⟩, ⟨h0, h1, ?_, ?_, ?_⟩, ?_⟩
      · show upd (T 8) a.toNatClampNeg 1 = upd (M 3) a.toNatClampNeg 1
        rw [h8]
      · show upd (T 9) a.toNatClampNeg o = upd (M 7) a.toNatClampNeg o
        rw [h9]
      · show upd (T 10) a.toNatClampNeg q = upd (M 8) a.toNatClampNeg q
        rw [h10]
      · have G1 := rl_G_new (k := o.toNatClampNeg) (liv2 := T 0) (fun x hx => rfl) G
        have G2 := rl_G_give (a := a.toNatClampNeg) (o := o) (r := q) ho hl hr G1
        exact G2
theorem rl_and15 {x y : Int32} (hx : rl_15 x) (hy : rl_15 y) : rl_15 (x &&& y) := by
  obtain ⟨q, hq, rfl⟩ := hx
  obtain ⟨r, hr, rfl⟩ := hy
  exact ⟨q &&& r, Nat.lt_of_le_of_lt Nat.and_le_left hq, nx_and q r⟩
theorem rl_restrict {from_ to_ r : Int32} (hn : n < 134217727) (R : rl_R n S M) : (sv_restrict S u from_ to_ r).1 = (mo_restrict M u from_ to_ r).1 ∧ rl_R (n + 1) (sv_restrict S u from_ to_ r).2 (mo_restrict M u from_ to_ r).2 := by
  unfold sv_restrict mo_restrict
  by_cases hu : sv_badUser u = 0
  · rw [if_pos hu]
    by_cases hs : sv_badSlot from_ = 0
    · rw [if_pos hs, if_pos (rl_ref0 hu hs)]
      by_cases ht : sv_badSlot to_ = 0
      · rw [if_pos ht, if_pos (rl_ge0 hu ht)]
        unfold mo_restricted
        by_cases r0 : r < 0
        · rw [if_pos r0, if_pos r0]; exact ⟨rfl, rl_mono R⟩
        · rw [if_neg r0, if_neg r0]
          by_cases r1 : r ≤ 15
          · rw [if_pos r1, if_pos r1]
            have h15 : rl_15 r := by
              obtain ⟨j, hj, rfl⟩ := nI_of2 (M := 15) (n := 15) (by decide) r0 r1
              exact ⟨j, by omega, rfl⟩
            have ha := ks_at (ks_user hu) (ks_slot hs)
            have hb := ks_at (ks_user hu) (ks_slot ht)
            have hge : 0 ≤ mo_refusal u from_ := rl_ge0 hu hs
            have key := rl_comb (op := 5) (arg := r) (r := if mo_genuine M u from_ = 0 then -3 else M 8 (u * 8 + from_).toNatClampNeg &&& r) (M2 := if mo_genuine M u from_ = 0 then M else mo_give M (u * 8 + to_) (M 7 (u * 8 + from_).toNatClampNeg) (M 8 (u * 8 + from_).toNatClampNeg &&& r)) hn R ha hb (fun T E G => ?_)
            · by_cases e : mo_genuine M u from_ = 0
              · rw [if_pos e]; rw [if_pos e, if_pos e] at key; exact key
              · rw [if_neg e]; rw [if_neg e, if_neg e] at key; exact key
            · have hv := rl_valid (by omega) E.1 E.2.2.1 E.2.2.2.1 E.2.2.2.2 G (u * 8 + from_)
              have hg : mo_genuine M u from_ = sv_valid T (u * 8 + from_) := by unfold mo_genuine; rw [if_pos hge, ← hv]
              rw [hg]
              unfold sv_serve
              rw [if_neg (by decide)]
              by_cases c : sv_valid T (u * 8 + from_) = 0
              · rw [if_pos c, if_pos c, if_pos c]; exact rl_C_same E G
              · have hl := rl_living c
                rw [if_neg c, if_neg c, if_neg c, if_pos (by rw [show sv_needed 5 = 0 by decide]; exact Int32.and_zero)]
                unfold sv_do
                rw [if_neg (by decide), if_neg (by decide), if_neg (by decide), if_neg (by decide)]
                obtain ⟨h0, h1, h8, h9, h10⟩ := E
                rw [← h9, ← h10]
                have ho := rl_G_obj G (u * 8 + from_).toNatClampNeg
                have hr := rl_and15 (rl_G_rig G (u * 8 + from_).toNatClampNeg) h15
                generalize T 9 (u * 8 + from_).toNatClampNeg = o at ho hl ⊢
                generalize T 10 (u * 8 + from_).toNatClampNeg &&& r = q at hr ⊢
                generalize u * 8 + to_ = a
                refine ⟨show upd (T 10) a.toNatClampNeg q a.toNatClampNeg = q from pk_us, ⟨rfl, rfl, rfl, rfl, rfl, rfl⟩, ⟨rfl, rfl⟩, ⟨h0, h1, ?_, ?_, ?_⟩, ?_⟩
                · show upd (T 8) a.toNatClampNeg 1 = upd (M 3) a.toNatClampNeg 1
                  rw [h8]
                · show upd (T 9) a.toNatClampNeg o = upd (M 7) a.toNatClampNeg o
                  rw [h9]
                · show upd (T 10) a.toNatClampNeg q = upd (M 8) a.toNatClampNeg q
                  rw [h10]
                · have G2 := rl_G_give (a := a.toNatClampNeg) (o := o) (r := q) ho hl hr (rl_G_mono G)
                  exact G2
          · rw [if_neg r1, if_neg r1]; exact ⟨rfl, rl_mono R⟩
      · rw [if_neg ht, if_neg (rl_geS hu ht), rl_refS hu ht]; exact ⟨rfl, rl_mono R⟩
    · rw [if_neg hs, if_neg (by rw [rl_refS hu hs]; decide), rl_refS hu hs]; exact ⟨rfl, rl_mono R⟩
  · rw [if_neg hu, if_neg (by rw [rl_refU hu]; decide), rl_refU hu]; exact ⟨rfl, rl_mono R⟩
theorem rl_again (R : rl_R n S M) : (sv_again S u).1 = mo_again M u ∧ rl_R (n + 1) (sv_again S u).2 M := by
  have hS : (sv_again S u).2 = S := by
    unfold sv_again
    by_cases hu : sv_badUser u = 0
    · rw [if_pos hu]
      by_cases e : S 12 u.toNatClampNeg = 0
      · rw [if_pos e]
      · rw [if_neg e]
        unfold sv_receive
        obtain ⟨-, -, h3, -, -⟩ := R.2.2.1
        rw [← h3, if_neg (Int32.lt_irrefl)]
        by_cases f : S 6 u.toNatClampNeg = 0
        · rw [if_pos f]
        · rw [if_neg f]
    · rw [if_neg hu]
  refine ⟨?_, by rw [hS]; exact rl_mono R⟩
  have hM : mo_again M u = if sv_badUser u = 0 then (if M 9 u.toNatClampNeg = 0 then -6 else M 10 u.toNatClampNeg) else -1 := by
    unfold mo_again
    by_cases a : u = 0
    · rw [if_pos a, if_pos ((rl_bu u).mpr (Or.inl a))]
    · rw [if_neg a]
      by_cases b : u = 1
      · rw [if_pos b, if_pos ((rl_bu u).mpr (Or.inr b))]
      · rw [if_neg b, if_neg (fun h => by rcases (rl_bu u).mp h with q | q; exact a q; exact b q)]
  rw [hM]
  obtain ⟨h1, h2, h3, h4, h5⟩ := R.2.2.1
  unfold sv_again
  by_cases hu : sv_badUser u = 0
  · rw [if_pos hu, if_pos hu, ← h1]
    by_cases e : S 12 u.toNatClampNeg = 0
    · rw [if_pos e, if_pos (by
        by_cases f : S 6 u.toNatClampNeg = 0
        · exact f
        · exact absurd e (h5 _ f))]
    · rw [if_neg e]
      unfold sv_receive
      rw [← h3, if_neg (Int32.lt_irrefl)]
      by_cases f : S 6 u.toNatClampNeg = 0
      · rw [if_pos f, if_pos f]
      · rw [if_neg f, if_neg f]
        exact h2 _ f
  · rw [if_neg hu, if_neg hu]
theorem rl_copy {from_ to_ : Int32} (R : rl_R n S M) : (sv_copy S u from_ to_).1 = (mo_copy M u from_ to_).1 ∧ rl_R (n + 1) (sv_copy S u from_ to_).2 (mo_copy M u from_ to_).2 := by
  unfold sv_copy mo_copy
  by_cases hu : sv_badUser u = 0
  · rw [if_pos hu]
    by_cases hs : sv_badSlot from_ = 0
    · rw [if_pos hs, if_pos (rl_ge0 hu hs)]
      refine ⟨rfl, ?_⟩
      generalize u * 8 + from_ = a
      generalize to_ &&& 15 = t
      obtain ⟨⟨h0, h1, h8, h9, h10⟩, G, A, B⟩ := R
      refine ⟨⟨h0, h1, ?_, ?_, ?_⟩, ?_, rl_A_mono A, B⟩
      · show upd (S 8) t.toNatClampNeg (vp_nar .boolean (S 8 a.toNatClampNeg)) = upd (M 3) t.toNatClampNeg (vp_nar .boolean (M 3 a.toNatClampNeg))
        rw [h8]
      · show upd (S 9) t.toNatClampNeg (S 9 a.toNatClampNeg) = upd (M 7) t.toNatClampNeg (M 7 a.toNatClampNeg)
        rw [h9]
      · show upd (S 10) t.toNatClampNeg (S 10 a.toNatClampNeg) = upd (M 8) t.toNatClampNeg (M 8 a.toNatClampNeg)
        rw [h10]
      · have G2 := rl_G_copy (a := a.toNatClampNeg) (t := t.toNatClampNeg) (rl_G_mono G)
        exact G2
    · rw [if_neg hs, if_neg (rl_geS hu hs), rl_refS hu hs]; exact ⟨rfl, rl_mono R⟩
  · rw [if_neg hu, if_neg (rl_geU hu), rl_refU hu]; exact ⟨rfl, rl_mono R⟩
theorem rl_xor15 {x : Int32} (b : Int32) (hx : rl_15 x) : rl_15 (x ^^^ (b &&& 15)) := by
  obtain ⟨q, hq, rfl⟩ := hx
  obtain ⟨r, hr, e⟩ := pk_andE b (m := 15) 4 rfl
  rw [e]
  exact ⟨q ^^^ r, Nat.xor_lt_two_pow (n := 4) hq hr, nx_xor q r⟩
theorem rl_xor8 {x : Int32} (b : Int32) (hx : vp_in x 8) : vp_in (x ^^^ (b &&& 7)) 8 := by
  obtain ⟨q, hq, rfl⟩ := vp_in_of hx (by decide)
  obtain ⟨r, hr, e⟩ := pk_andE b (m := 7) 3 rfl
  rw [e, nx_xor]
  exact vp_in_nI (Nat.xor_lt_two_pow (n := 3) hq hr) (by decide)
theorem rl_tamper {bits : Int32} (R : rl_R n S M) : (sv_tamper S u slot bits).1 = (mo_tamper M u slot bits).1 ∧ rl_R (n + 1) (sv_tamper S u slot bits).2 (mo_tamper M u slot bits).2 := by
  unfold sv_tamper mo_tamper
  by_cases hu : sv_badUser u = 0
  · rw [if_pos hu]
    by_cases hs : sv_badSlot slot = 0
    · rw [if_pos hs, if_pos (rl_ge0 hu hs), ← R.1.2.2.1]
      by_cases c : S 8 (u * 8 + slot).toNatClampNeg = 0
      · rw [if_pos c, if_pos c]; exact ⟨rfl, rl_mono R⟩
      · rw [if_neg c, if_neg c]
        refine ⟨rfl, ?_⟩
        generalize u * 8 + slot = a
        obtain ⟨⟨h0, h1, h8, h9, h10⟩, G, A, B⟩ := R
        refine ⟨⟨h0, h1, h8, ?_, ?_⟩, ?_, rl_A_mono A, B⟩
        · show upd (S 9) a.toNatClampNeg (S 9 a.toNatClampNeg ^^^ ((bits >>> ((4 : Int32) &&& 31)) &&& 7)) = upd (M 7) a.toNatClampNeg (M 7 a.toNatClampNeg ^^^ ((bits >>> ((4 : Int32) &&& 31)) &&& 7))
          rw [h9]
        · show upd (S 10) a.toNatClampNeg (S 10 a.toNatClampNeg ^^^ (bits &&& 15)) = upd (M 8) a.toNatClampNeg (M 8 a.toNatClampNeg ^^^ (bits &&& 15))
          rw [h10]
        · have G2 := rl_G_now (obj2 := upd (S 9) a.toNatClampNeg (S 9 a.toNatClampNeg ^^^ ((bits >>> ((4 : Int32) &&& 31)) &&& 7))) (rig2 := upd (S 10) a.toNatClampNeg (S 10 a.toNatClampNeg ^^^ (bits &&& 15))) (rl_upd_all (rl_G_rig G) (rl_xor15 bits (rl_G_rig G _))) (rl_upd_all (P := fun x => vp_in x 8) (rl_G_obj G) (rl_xor8 _ (rl_G_obj G _))) (rl_G_mono G)
          exact G2
    · rw [if_neg hs, if_neg (rl_geS hu hs), rl_refS hu hs]; exact ⟨rfl, rl_mono R⟩
  · rw [if_neg hu, if_neg (rl_geU hu), rl_refU hu]; exact ⟨rfl, rl_mono R⟩
theorem rl_cleared (a : Int32) (R : rl_R n S M) : rl_R (n + 1) (ks_st S 8 a 0) (ks_st M 3 a 0) := by
  obtain ⟨⟨h0, h1, h8, h9, h10⟩, G, A, B⟩ := R
  refine ⟨⟨h0, h1, ?_, h9, h10⟩, ?_, rl_A_mono A, B⟩
  · show upd (S 8) a.toNatClampNeg 0 = upd (M 3) a.toNatClampNeg 0
    rw [h8]
  · have G2 := rl_G_fil (fil2 := upd (S 8) a.toNatClampNeg 0) (fun x hx => by
      by_cases e : x = a.toNatClampNeg
      · subst e; rw [pk_us] at hx; exact absurd rfl hx
      · rw [pk_un e] at hx; exact hx) (rl_G_mono G)
    exact G2
theorem rl_clear (R : rl_R n S M) : (sv_clear S u slot).1 = (mo_clear M u slot).1 ∧ rl_R (n + 1) (sv_clear S u slot).2 (mo_clear M u slot).2 := by
  unfold sv_clear mo_clear
  by_cases hu : sv_badUser u = 0
  · rw [if_pos hu]
    by_cases hs : sv_badSlot slot = 0
    · rw [if_pos hs, if_pos (rl_ge0 hu hs), ← R.1.2.2.1]
      by_cases c : S 8 (u * 8 + slot).toNatClampNeg = 0
      · rw [if_pos c, if_pos c]; exact ⟨rfl, rl_cleared _ R⟩
      · rw [if_neg c, if_neg c]; exact ⟨rfl, rl_cleared _ R⟩
    · rw [if_neg hs, if_neg (rl_geS hu hs), rl_refS hu hs]; exact ⟨rfl, rl_mono R⟩
  · rw [if_neg hu, if_neg (rl_geU hu), rl_refU hu]; exact ⟨rfl, rl_mono R⟩
theorem rl_restart (R : rl_R n S M) : rl_R (n + 1) (sv_restart S) (mo_restart M) := by
  obtain ⟨E, G, A, B⟩ := R
  refine ⟨E, rl_G_mono G, ?_, B⟩
  show rl_A (n + 1) (S 5) (upd (upd (S 6) (0 : Int32).toNatClampNeg 0) (1 : Int32).toNatClampNeg 0) (upd (upd (S 7) (0 : Int32).toNatClampNeg 0) (1 : Int32).toNatClampNeg 0) (S 12) (upd (upd (M 9) (0 : Int32).toNatClampNeg 0) (1 : Int32).toNatClampNeg 0) (M 10)
  obtain ⟨h1, h2, h3, h4, h5⟩ := rl_A_mono A
  generalize (0 : Int32).toNatClampNeg = k0
  generalize (1 : Int32).toNatClampNeg = k1
  have hz : ∀ j, ¬ upd (upd (S 6) k0 0) k1 0 j = 0 → j ≠ k1 ∧ j ≠ k0 ∧ ¬ S 6 j = 0 := by
    intro j hj
    by_cases e : j = k1
    · subst e; rw [pk_us] at hj; exact absurd rfl hj
    · rw [pk_un e] at hj
      by_cases f : j = k0
      · subst f; rw [pk_us] at hj; exact absurd rfl hj
      · rw [pk_un f] at hj; exact ⟨e, f, hj⟩
  refine ⟨by rw [h1], fun j hj => ?_, h3, h4, fun j hj => h5 j (hz j hj).2.2⟩
  obtain ⟨a, b, d⟩ := hz j hj
  rw [pk_un a, pk_un b]
  exact h2 j d
theorem rl_genuine (hn : n < 134217727) (R : rl_R n S M) : sv_genuine S u slot = mo_genuine M u slot := by
  have hv := rl_valid (by omega) R.1.1 R.1.2.2.1 R.1.2.2.2.1 R.1.2.2.2.2 R.2.1 (u * 8 + slot)
  unfold sv_genuine mo_genuine
  by_cases hu : sv_badUser u = 0
  · rw [if_pos hu]
    by_cases hs : sv_badSlot slot = 0
    · rw [if_pos hs, if_pos (rl_ge0 hu hs), hv]
    · rw [if_neg hs, if_neg (rl_geS hu hs)]
  · rw [if_neg hu, if_neg (rl_geU hu)]
theorem rl_rights (R : rl_R n S M) : sv_rights S u slot = mo_rights M u slot := by
  unfold sv_rights mo_rights
  by_cases hu : sv_badUser u = 0
  · rw [if_pos hu]
    by_cases hs : sv_badSlot slot = 0
    · rw [if_pos hs, if_pos (rl_ge0 hu hs), R.1.2.2.1, R.1.2.2.2.2]
    · rw [if_neg hs, if_neg (rl_geS hu hs), rl_refS hu hs]
  · rw [if_neg hu, if_neg (rl_geU hu), rl_refU hu]
theorem rl_alive (R : rl_R n S M) : sv_alive S = mo_alive M := by
  unfold sv_alive mo_alive
  rw [R.1.1]
end OPS
end
section
/-! the law's own entry -/
set_option maxRecDepth 100000
abbrev cL_law : ByteArray := code
theorem dL_law_0 : decode cL_law 0 = .ok (.new 7, 3) := by decide +kernel
theorem dL_law_3 : decode cL_law 3 = .ok (.dup, 1) := by decide +kernel
theorem dL_law_4 : decode cL_law 4 = .ok (.aload_n 0, 1) := by decide +kernel
theorem dL_law_5 : decode cL_law 5 = .ok (.iconst 0, 1) := by decide +kernel
theorem dL_law_6 : decode cL_law 6 = .ok (.invokestatic 9, 3) := by decide +kernel
theorem dL_law_9 : decode cL_law 9 = .ok (.invokespecial 15, 3) := by decide +kernel
theorem dL_law_12 : decode cL_law 12 = .ok (.astore_n 1, 1) := by decide +kernel
theorem dL_law_13 : decode cL_law 13 = .ok (.new 18, 3) := by decide +kernel
theorem dL_law_16 : decode cL_law 16 = .ok (.dup, 1) := by decide +kernel
theorem dL_law_17 : decode cL_law 17 = .ok (.aload_n 0, 1) := by decide +kernel
theorem dL_law_18 : decode cL_law 18 = .ok (.iconst 0, 1) := by decide +kernel
theorem dL_law_19 : decode cL_law 19 = .ok (.invokestatic 9, 3) := by decide +kernel
theorem dL_law_22 : decode cL_law 22 = .ok (.invokespecial 20, 3) := by decide +kernel
theorem dL_law_25 : decode cL_law 25 = .ok (.astore_n 2, 1) := by decide +kernel
theorem dL_law_26 : decode cL_law 26 = .ok (.iconst 1, 1) := by decide +kernel
theorem dL_law_27 : decode cL_law 27 = .ok (.istore_n 3, 1) := by decide +kernel
theorem dL_law_28 : decode cL_law 28 = .ok (.iload_n 3, 1) := by decide +kernel
theorem dL_law_29 : decode cL_law 29 = .ok (.aload_n 0, 1) := by decide +kernel
theorem dL_law_30 : decode cL_law 30 = .ok (.arraylength, 1) := by decide +kernel
theorem dL_law_31 : decode cL_law 31 = .ok (.iconst 5, 1) := by decide +kernel
theorem dL_law_32 : decode cL_law 32 = .ok (.isub, 1) := by decide +kernel
theorem dL_law_33 : decode cL_law 33 = .ok (.if_icmp .gt 545, 3) := by decide +kernel
theorem dL_law_36 : decode cL_law 36 = .ok (.aload_n 0, 1) := by decide +kernel
theorem dL_law_37 : decode cL_law 37 = .ok (.iload_n 3, 1) := by decide +kernel
theorem dL_law_38 : decode cL_law 38 = .ok (.iaload, 1) := by decide +kernel
theorem dL_law_39 : decode cL_law 39 = .ok (.bipush 15, 2) := by decide +kernel
theorem dL_law_41 : decode cL_law 41 = .ok (.iand, 1) := by decide +kernel
theorem dL_law_42 : decode cL_law 42 = .ok (.tableswitch 530 0 13 #[70, 103, 136, 179, 212, 245, 298, 321, 364, 407, 440, 451, 484, 517], 70) := by decide +kernel
theorem dL_law_112 : decode cL_law 112 = .ok (.aload_n 1, 1) := by decide +kernel
theorem dL_law_113 : decode cL_law 113 = .ok (.aload_n 0, 1) := by decide +kernel
theorem dL_law_114 : decode cL_law 114 = .ok (.iload_n 3, 1) := by decide +kernel
theorem dL_law_115 : decode cL_law 115 = .ok (.iconst 1, 1) := by decide +kernel
theorem dL_law_116 : decode cL_law 116 = .ok (.iadd, 1) := by decide +kernel
theorem dL_law_117 : decode cL_law 117 = .ok (.iaload, 1) := by decide +kernel
theorem dL_law_118 : decode cL_law 118 = .ok (.aload_n 0, 1) := by decide +kernel
theorem dL_law_119 : decode cL_law 119 = .ok (.iload_n 3, 1) := by decide +kernel
theorem dL_law_120 : decode cL_law 120 = .ok (.iconst 2, 1) := by decide +kernel
theorem dL_law_121 : decode cL_law 121 = .ok (.iadd, 1) := by decide +kernel
theorem dL_law_122 : decode cL_law 122 = .ok (.iaload, 1) := by decide +kernel
theorem dL_law_123 : decode cL_law 123 = .ok (.invokevirtual 21, 3) := by decide +kernel
theorem dL_law_126 : decode cL_law 126 = .ok (.aload_n 2, 1) := by decide +kernel
theorem dL_law_127 : decode cL_law 127 = .ok (.aload_n 0, 1) := by decide +kernel
theorem dL_law_128 : decode cL_law 128 = .ok (.iload_n 3, 1) := by decide +kernel
theorem dL_law_129 : decode cL_law 129 = .ok (.iconst 1, 1) := by decide +kernel
theorem dL_law_130 : decode cL_law 130 = .ok (.iadd, 1) := by decide +kernel
theorem dL_law_131 : decode cL_law 131 = .ok (.iaload, 1) := by decide +kernel
theorem dL_law_132 : decode cL_law 132 = .ok (.aload_n 0, 1) := by decide +kernel
theorem dL_law_133 : decode cL_law 133 = .ok (.iload_n 3, 1) := by decide +kernel
theorem dL_law_134 : decode cL_law 134 = .ok (.iconst 2, 1) := by decide +kernel
theorem dL_law_135 : decode cL_law 135 = .ok (.iadd, 1) := by decide +kernel
theorem dL_law_136 : decode cL_law 136 = .ok (.iaload, 1) := by decide +kernel
theorem dL_law_137 : decode cL_law 137 = .ok (.invokevirtual 25, 3) := by decide +kernel
theorem dL_law_140 : decode cL_law 140 = .ok (.if_icmp .eq 432, 3) := by decide +kernel
theorem dL_law_143 : decode cL_law 143 = .ok (.iconst 0, 1) := by decide +kernel
theorem dL_law_144 : decode cL_law 144 = .ok (.ireturn, 1) := by decide +kernel
theorem dL_law_145 : decode cL_law 145 = .ok (.aload_n 1, 1) := by decide +kernel
theorem dL_law_146 : decode cL_law 146 = .ok (.aload_n 0, 1) := by decide +kernel
theorem dL_law_147 : decode cL_law 147 = .ok (.iload_n 3, 1) := by decide +kernel
theorem dL_law_148 : decode cL_law 148 = .ok (.iconst 1, 1) := by decide +kernel
theorem dL_law_149 : decode cL_law 149 = .ok (.iadd, 1) := by decide +kernel
theorem dL_law_150 : decode cL_law 150 = .ok (.iaload, 1) := by decide +kernel
theorem dL_law_151 : decode cL_law 151 = .ok (.aload_n 0, 1) := by decide +kernel
theorem dL_law_152 : decode cL_law 152 = .ok (.iload_n 3, 1) := by decide +kernel
theorem dL_law_153 : decode cL_law 153 = .ok (.iconst 2, 1) := by decide +kernel
theorem dL_law_154 : decode cL_law 154 = .ok (.iadd, 1) := by decide +kernel
theorem dL_law_155 : decode cL_law 155 = .ok (.iaload, 1) := by decide +kernel
theorem dL_law_156 : decode cL_law 156 = .ok (.invokevirtual 26, 3) := by decide +kernel
theorem dL_law_159 : decode cL_law 159 = .ok (.aload_n 2, 1) := by decide +kernel
theorem dL_law_160 : decode cL_law 160 = .ok (.aload_n 0, 1) := by decide +kernel
theorem dL_law_161 : decode cL_law 161 = .ok (.iload_n 3, 1) := by decide +kernel
theorem dL_law_162 : decode cL_law 162 = .ok (.iconst 1, 1) := by decide +kernel
theorem dL_law_163 : decode cL_law 163 = .ok (.iadd, 1) := by decide +kernel
theorem dL_law_164 : decode cL_law 164 = .ok (.iaload, 1) := by decide +kernel
theorem dL_law_165 : decode cL_law 165 = .ok (.aload_n 0, 1) := by decide +kernel
theorem dL_law_166 : decode cL_law 166 = .ok (.iload_n 3, 1) := by decide +kernel
theorem dL_law_167 : decode cL_law 167 = .ok (.iconst 2, 1) := by decide +kernel
theorem dL_law_168 : decode cL_law 168 = .ok (.iadd, 1) := by decide +kernel
theorem dL_law_169 : decode cL_law 169 = .ok (.iaload, 1) := by decide +kernel
theorem dL_law_170 : decode cL_law 170 = .ok (.invokevirtual 29, 3) := by decide +kernel
theorem dL_law_173 : decode cL_law 173 = .ok (.if_icmp .eq 399, 3) := by decide +kernel
theorem dL_law_176 : decode cL_law 176 = .ok (.iconst 0, 1) := by decide +kernel
theorem dL_law_177 : decode cL_law 177 = .ok (.ireturn, 1) := by decide +kernel
theorem dL_law_178 : decode cL_law 178 = .ok (.aload_n 1, 1) := by decide +kernel
theorem dL_law_179 : decode cL_law 179 = .ok (.aload_n 0, 1) := by decide +kernel
theorem dL_law_180 : decode cL_law 180 = .ok (.iload_n 3, 1) := by decide +kernel
theorem dL_law_181 : decode cL_law 181 = .ok (.iconst 1, 1) := by decide +kernel
theorem dL_law_182 : decode cL_law 182 = .ok (.iadd, 1) := by decide +kernel
theorem dL_law_183 : decode cL_law 183 = .ok (.iaload, 1) := by decide +kernel
theorem dL_law_184 : decode cL_law 184 = .ok (.aload_n 0, 1) := by decide +kernel
theorem dL_law_185 : decode cL_law 185 = .ok (.iload_n 3, 1) := by decide +kernel
theorem dL_law_186 : decode cL_law 186 = .ok (.iconst 2, 1) := by decide +kernel
theorem dL_law_187 : decode cL_law 187 = .ok (.iadd, 1) := by decide +kernel
theorem dL_law_188 : decode cL_law 188 = .ok (.iaload, 1) := by decide +kernel
theorem dL_law_189 : decode cL_law 189 = .ok (.aload_n 0, 1) := by decide +kernel
theorem dL_law_190 : decode cL_law 190 = .ok (.iload_n 3, 1) := by decide +kernel
theorem dL_law_191 : decode cL_law 191 = .ok (.iconst 3, 1) := by decide +kernel
theorem dL_law_192 : decode cL_law 192 = .ok (.iadd, 1) := by decide +kernel
theorem dL_law_193 : decode cL_law 193 = .ok (.iaload, 1) := by decide +kernel
theorem dL_law_194 : decode cL_law 194 = .ok (.invokevirtual 30, 3) := by decide +kernel
theorem dL_law_197 : decode cL_law 197 = .ok (.aload_n 2, 1) := by decide +kernel
theorem dL_law_198 : decode cL_law 198 = .ok (.aload_n 0, 1) := by decide +kernel
theorem dL_law_199 : decode cL_law 199 = .ok (.iload_n 3, 1) := by decide +kernel
theorem dL_law_200 : decode cL_law 200 = .ok (.iconst 1, 1) := by decide +kernel
theorem dL_law_201 : decode cL_law 201 = .ok (.iadd, 1) := by decide +kernel
theorem dL_law_202 : decode cL_law 202 = .ok (.iaload, 1) := by decide +kernel
theorem dL_law_203 : decode cL_law 203 = .ok (.aload_n 0, 1) := by decide +kernel
theorem dL_law_204 : decode cL_law 204 = .ok (.iload_n 3, 1) := by decide +kernel
theorem dL_law_205 : decode cL_law 205 = .ok (.iconst 2, 1) := by decide +kernel
theorem dL_law_206 : decode cL_law 206 = .ok (.iadd, 1) := by decide +kernel
theorem dL_law_207 : decode cL_law 207 = .ok (.iaload, 1) := by decide +kernel
theorem dL_law_208 : decode cL_law 208 = .ok (.aload_n 0, 1) := by decide +kernel
theorem dL_law_209 : decode cL_law 209 = .ok (.iload_n 3, 1) := by decide +kernel
theorem dL_law_210 : decode cL_law 210 = .ok (.iconst 3, 1) := by decide +kernel
theorem dL_law_211 : decode cL_law 211 = .ok (.iadd, 1) := by decide +kernel
theorem dL_law_212 : decode cL_law 212 = .ok (.iaload, 1) := by decide +kernel
theorem dL_law_213 : decode cL_law 213 = .ok (.invokevirtual 34, 3) := by decide +kernel
theorem dL_law_216 : decode cL_law 216 = .ok (.if_icmp .eq 356, 3) := by decide +kernel
theorem dL_law_219 : decode cL_law 219 = .ok (.iconst 0, 1) := by decide +kernel
theorem dL_law_220 : decode cL_law 220 = .ok (.ireturn, 1) := by decide +kernel
theorem dL_law_221 : decode cL_law 221 = .ok (.aload_n 1, 1) := by decide +kernel
theorem dL_law_222 : decode cL_law 222 = .ok (.aload_n 0, 1) := by decide +kernel
theorem dL_law_223 : decode cL_law 223 = .ok (.iload_n 3, 1) := by decide +kernel
theorem dL_law_224 : decode cL_law 224 = .ok (.iconst 1, 1) := by decide +kernel
theorem dL_law_225 : decode cL_law 225 = .ok (.iadd, 1) := by decide +kernel
theorem dL_law_226 : decode cL_law 226 = .ok (.iaload, 1) := by decide +kernel
theorem dL_law_227 : decode cL_law 227 = .ok (.aload_n 0, 1) := by decide +kernel
theorem dL_law_228 : decode cL_law 228 = .ok (.iload_n 3, 1) := by decide +kernel
theorem dL_law_229 : decode cL_law 229 = .ok (.iconst 2, 1) := by decide +kernel
theorem dL_law_230 : decode cL_law 230 = .ok (.iadd, 1) := by decide +kernel
theorem dL_law_231 : decode cL_law 231 = .ok (.iaload, 1) := by decide +kernel
theorem dL_law_232 : decode cL_law 232 = .ok (.invokevirtual 35, 3) := by decide +kernel
theorem dL_law_235 : decode cL_law 235 = .ok (.aload_n 2, 1) := by decide +kernel
theorem dL_law_236 : decode cL_law 236 = .ok (.aload_n 0, 1) := by decide +kernel
theorem dL_law_237 : decode cL_law 237 = .ok (.iload_n 3, 1) := by decide +kernel
theorem dL_law_238 : decode cL_law 238 = .ok (.iconst 1, 1) := by decide +kernel
theorem dL_law_239 : decode cL_law 239 = .ok (.iadd, 1) := by decide +kernel
theorem dL_law_240 : decode cL_law 240 = .ok (.iaload, 1) := by decide +kernel
theorem dL_law_241 : decode cL_law 241 = .ok (.aload_n 0, 1) := by decide +kernel
theorem dL_law_242 : decode cL_law 242 = .ok (.iload_n 3, 1) := by decide +kernel
theorem dL_law_243 : decode cL_law 243 = .ok (.iconst 2, 1) := by decide +kernel
end
section
/-! the law's own entry -/
set_option maxRecDepth 100000
theorem dL_law_244 : decode cL_law 244 = .ok (.iadd, 1) := by decide +kernel
theorem dL_law_245 : decode cL_law 245 = .ok (.iaload, 1) := by decide +kernel
theorem dL_law_246 : decode cL_law 246 = .ok (.invokevirtual 38, 3) := by decide +kernel
theorem dL_law_249 : decode cL_law 249 = .ok (.if_icmp .eq 323, 3) := by decide +kernel
theorem dL_law_252 : decode cL_law 252 = .ok (.iconst 0, 1) := by decide +kernel
theorem dL_law_253 : decode cL_law 253 = .ok (.ireturn, 1) := by decide +kernel
theorem dL_law_254 : decode cL_law 254 = .ok (.aload_n 1, 1) := by decide +kernel
theorem dL_law_255 : decode cL_law 255 = .ok (.aload_n 0, 1) := by decide +kernel
theorem dL_law_256 : decode cL_law 256 = .ok (.iload_n 3, 1) := by decide +kernel
theorem dL_law_257 : decode cL_law 257 = .ok (.iconst 1, 1) := by decide +kernel
theorem dL_law_258 : decode cL_law 258 = .ok (.iadd, 1) := by decide +kernel
theorem dL_law_259 : decode cL_law 259 = .ok (.iaload, 1) := by decide +kernel
theorem dL_law_260 : decode cL_law 260 = .ok (.aload_n 0, 1) := by decide +kernel
theorem dL_law_261 : decode cL_law 261 = .ok (.iload_n 3, 1) := by decide +kernel
theorem dL_law_262 : decode cL_law 262 = .ok (.iconst 2, 1) := by decide +kernel
theorem dL_law_263 : decode cL_law 263 = .ok (.iadd, 1) := by decide +kernel
theorem dL_law_264 : decode cL_law 264 = .ok (.iaload, 1) := by decide +kernel
theorem dL_law_265 : decode cL_law 265 = .ok (.invokevirtual 39, 3) := by decide +kernel
theorem dL_law_268 : decode cL_law 268 = .ok (.aload_n 2, 1) := by decide +kernel
theorem dL_law_269 : decode cL_law 269 = .ok (.aload_n 0, 1) := by decide +kernel
theorem dL_law_270 : decode cL_law 270 = .ok (.iload_n 3, 1) := by decide +kernel
theorem dL_law_271 : decode cL_law 271 = .ok (.iconst 1, 1) := by decide +kernel
theorem dL_law_272 : decode cL_law 272 = .ok (.iadd, 1) := by decide +kernel
theorem dL_law_273 : decode cL_law 273 = .ok (.iaload, 1) := by decide +kernel
theorem dL_law_274 : decode cL_law 274 = .ok (.aload_n 0, 1) := by decide +kernel
theorem dL_law_275 : decode cL_law 275 = .ok (.iload_n 3, 1) := by decide +kernel
theorem dL_law_276 : decode cL_law 276 = .ok (.iconst 2, 1) := by decide +kernel
theorem dL_law_277 : decode cL_law 277 = .ok (.iadd, 1) := by decide +kernel
theorem dL_law_278 : decode cL_law 278 = .ok (.iaload, 1) := by decide +kernel
theorem dL_law_279 : decode cL_law 279 = .ok (.invokevirtual 42, 3) := by decide +kernel
theorem dL_law_282 : decode cL_law 282 = .ok (.if_icmp .eq 290, 3) := by decide +kernel
theorem dL_law_285 : decode cL_law 285 = .ok (.iconst 0, 1) := by decide +kernel
theorem dL_law_286 : decode cL_law 286 = .ok (.ireturn, 1) := by decide +kernel
theorem dL_law_287 : decode cL_law 287 = .ok (.aload_n 1, 1) := by decide +kernel
theorem dL_law_288 : decode cL_law 288 = .ok (.aload_n 0, 1) := by decide +kernel
theorem dL_law_289 : decode cL_law 289 = .ok (.iload_n 3, 1) := by decide +kernel
theorem dL_law_290 : decode cL_law 290 = .ok (.iconst 1, 1) := by decide +kernel
theorem dL_law_291 : decode cL_law 291 = .ok (.iadd, 1) := by decide +kernel
theorem dL_law_292 : decode cL_law 292 = .ok (.iaload, 1) := by decide +kernel
theorem dL_law_293 : decode cL_law 293 = .ok (.aload_n 0, 1) := by decide +kernel
theorem dL_law_294 : decode cL_law 294 = .ok (.iload_n 3, 1) := by decide +kernel
theorem dL_law_295 : decode cL_law 295 = .ok (.iconst 2, 1) := by decide +kernel
theorem dL_law_296 : decode cL_law 296 = .ok (.iadd, 1) := by decide +kernel
theorem dL_law_297 : decode cL_law 297 = .ok (.iaload, 1) := by decide +kernel
theorem dL_law_298 : decode cL_law 298 = .ok (.aload_n 0, 1) := by decide +kernel
theorem dL_law_299 : decode cL_law 299 = .ok (.iload_n 3, 1) := by decide +kernel
theorem dL_law_300 : decode cL_law 300 = .ok (.iconst 3, 1) := by decide +kernel
theorem dL_law_301 : decode cL_law 301 = .ok (.iadd, 1) := by decide +kernel
theorem dL_law_302 : decode cL_law 302 = .ok (.iaload, 1) := by decide +kernel
theorem dL_law_303 : decode cL_law 303 = .ok (.aload_n 0, 1) := by decide +kernel
theorem dL_law_304 : decode cL_law 304 = .ok (.iload_n 3, 1) := by decide +kernel
theorem dL_law_305 : decode cL_law 305 = .ok (.iconst 4, 1) := by decide +kernel
theorem dL_law_306 : decode cL_law 306 = .ok (.iadd, 1) := by decide +kernel
theorem dL_law_307 : decode cL_law 307 = .ok (.iaload, 1) := by decide +kernel
theorem dL_law_308 : decode cL_law 308 = .ok (.invokevirtual 43, 3) := by decide +kernel
theorem dL_law_311 : decode cL_law 311 = .ok (.aload_n 2, 1) := by decide +kernel
theorem dL_law_312 : decode cL_law 312 = .ok (.aload_n 0, 1) := by decide +kernel
theorem dL_law_313 : decode cL_law 313 = .ok (.iload_n 3, 1) := by decide +kernel
theorem dL_law_314 : decode cL_law 314 = .ok (.iconst 1, 1) := by decide +kernel
theorem dL_law_315 : decode cL_law 315 = .ok (.iadd, 1) := by decide +kernel
theorem dL_law_316 : decode cL_law 316 = .ok (.iaload, 1) := by decide +kernel
theorem dL_law_317 : decode cL_law 317 = .ok (.aload_n 0, 1) := by decide +kernel
theorem dL_law_318 : decode cL_law 318 = .ok (.iload_n 3, 1) := by decide +kernel
theorem dL_law_319 : decode cL_law 319 = .ok (.iconst 2, 1) := by decide +kernel
theorem dL_law_320 : decode cL_law 320 = .ok (.iadd, 1) := by decide +kernel
theorem dL_law_321 : decode cL_law 321 = .ok (.iaload, 1) := by decide +kernel
theorem dL_law_322 : decode cL_law 322 = .ok (.aload_n 0, 1) := by decide +kernel
theorem dL_law_323 : decode cL_law 323 = .ok (.iload_n 3, 1) := by decide +kernel
theorem dL_law_324 : decode cL_law 324 = .ok (.iconst 3, 1) := by decide +kernel
theorem dL_law_325 : decode cL_law 325 = .ok (.iadd, 1) := by decide +kernel
theorem dL_law_326 : decode cL_law 326 = .ok (.iaload, 1) := by decide +kernel
theorem dL_law_327 : decode cL_law 327 = .ok (.aload_n 0, 1) := by decide +kernel
theorem dL_law_328 : decode cL_law 328 = .ok (.iload_n 3, 1) := by decide +kernel
theorem dL_law_329 : decode cL_law 329 = .ok (.iconst 4, 1) := by decide +kernel
theorem dL_law_330 : decode cL_law 330 = .ok (.iadd, 1) := by decide +kernel
theorem dL_law_331 : decode cL_law 331 = .ok (.iaload, 1) := by decide +kernel
theorem dL_law_332 : decode cL_law 332 = .ok (.invokevirtual 47, 3) := by decide +kernel
theorem dL_law_335 : decode cL_law 335 = .ok (.if_icmp .eq 237, 3) := by decide +kernel
theorem dL_law_338 : decode cL_law 338 = .ok (.iconst 0, 1) := by decide +kernel
theorem dL_law_339 : decode cL_law 339 = .ok (.ireturn, 1) := by decide +kernel
theorem dL_law_340 : decode cL_law 340 = .ok (.aload_n 1, 1) := by decide +kernel
theorem dL_law_341 : decode cL_law 341 = .ok (.aload_n 0, 1) := by decide +kernel
theorem dL_law_342 : decode cL_law 342 = .ok (.iload_n 3, 1) := by decide +kernel
theorem dL_law_343 : decode cL_law 343 = .ok (.iconst 1, 1) := by decide +kernel
theorem dL_law_344 : decode cL_law 344 = .ok (.iadd, 1) := by decide +kernel
theorem dL_law_345 : decode cL_law 345 = .ok (.iaload, 1) := by decide +kernel
theorem dL_law_346 : decode cL_law 346 = .ok (.invokevirtual 48, 3) := by decide +kernel
theorem dL_law_349 : decode cL_law 349 = .ok (.aload_n 2, 1) := by decide +kernel
theorem dL_law_350 : decode cL_law 350 = .ok (.aload_n 0, 1) := by decide +kernel
theorem dL_law_351 : decode cL_law 351 = .ok (.iload_n 3, 1) := by decide +kernel
theorem dL_law_352 : decode cL_law 352 = .ok (.iconst 1, 1) := by decide +kernel
theorem dL_law_353 : decode cL_law 353 = .ok (.iadd, 1) := by decide +kernel
theorem dL_law_354 : decode cL_law 354 = .ok (.iaload, 1) := by decide +kernel
theorem dL_law_355 : decode cL_law 355 = .ok (.invokevirtual 52, 3) := by decide +kernel
theorem dL_law_358 : decode cL_law 358 = .ok (.if_icmp .eq 214, 3) := by decide +kernel
theorem dL_law_361 : decode cL_law 361 = .ok (.iconst 0, 1) := by decide +kernel
theorem dL_law_362 : decode cL_law 362 = .ok (.ireturn, 1) := by decide +kernel
theorem dL_law_363 : decode cL_law 363 = .ok (.aload_n 1, 1) := by decide +kernel
theorem dL_law_364 : decode cL_law 364 = .ok (.aload_n 0, 1) := by decide +kernel
theorem dL_law_365 : decode cL_law 365 = .ok (.iload_n 3, 1) := by decide +kernel
theorem dL_law_366 : decode cL_law 366 = .ok (.iconst 1, 1) := by decide +kernel
theorem dL_law_367 : decode cL_law 367 = .ok (.iadd, 1) := by decide +kernel
theorem dL_law_368 : decode cL_law 368 = .ok (.iaload, 1) := by decide +kernel
theorem dL_law_369 : decode cL_law 369 = .ok (.aload_n 0, 1) := by decide +kernel
theorem dL_law_370 : decode cL_law 370 = .ok (.iload_n 3, 1) := by decide +kernel
theorem dL_law_371 : decode cL_law 371 = .ok (.iconst 2, 1) := by decide +kernel
theorem dL_law_372 : decode cL_law 372 = .ok (.iadd, 1) := by decide +kernel
theorem dL_law_373 : decode cL_law 373 = .ok (.iaload, 1) := by decide +kernel
theorem dL_law_374 : decode cL_law 374 = .ok (.aload_n 0, 1) := by decide +kernel
theorem dL_law_375 : decode cL_law 375 = .ok (.iload_n 3, 1) := by decide +kernel
theorem dL_law_376 : decode cL_law 376 = .ok (.iconst 3, 1) := by decide +kernel
theorem dL_law_377 : decode cL_law 377 = .ok (.iadd, 1) := by decide +kernel
theorem dL_law_378 : decode cL_law 378 = .ok (.iaload, 1) := by decide +kernel
theorem dL_law_379 : decode cL_law 379 = .ok (.invokevirtual 53, 3) := by decide +kernel
theorem dL_law_382 : decode cL_law 382 = .ok (.aload_n 2, 1) := by decide +kernel
theorem dL_law_383 : decode cL_law 383 = .ok (.aload_n 0, 1) := by decide +kernel
theorem dL_law_384 : decode cL_law 384 = .ok (.iload_n 3, 1) := by decide +kernel
theorem dL_law_385 : decode cL_law 385 = .ok (.iconst 1, 1) := by decide +kernel
theorem dL_law_386 : decode cL_law 386 = .ok (.iadd, 1) := by decide +kernel
theorem dL_law_387 : decode cL_law 387 = .ok (.iaload, 1) := by decide +kernel
theorem dL_law_388 : decode cL_law 388 = .ok (.aload_n 0, 1) := by decide +kernel
theorem dL_law_389 : decode cL_law 389 = .ok (.iload_n 3, 1) := by decide +kernel
theorem dL_law_390 : decode cL_law 390 = .ok (.iconst 2, 1) := by decide +kernel
theorem dL_law_391 : decode cL_law 391 = .ok (.iadd, 1) := by decide +kernel
theorem dL_law_392 : decode cL_law 392 = .ok (.iaload, 1) := by decide +kernel
theorem dL_law_393 : decode cL_law 393 = .ok (.aload_n 0, 1) := by decide +kernel
theorem dL_law_394 : decode cL_law 394 = .ok (.iload_n 3, 1) := by decide +kernel
theorem dL_law_395 : decode cL_law 395 = .ok (.iconst 3, 1) := by decide +kernel
theorem dL_law_396 : decode cL_law 396 = .ok (.iadd, 1) := by decide +kernel
theorem dL_law_397 : decode cL_law 397 = .ok (.iaload, 1) := by decide +kernel
theorem dL_law_398 : decode cL_law 398 = .ok (.invokevirtual 56, 3) := by decide +kernel
theorem dL_law_401 : decode cL_law 401 = .ok (.if_icmp .eq 171, 3) := by decide +kernel
theorem dL_law_404 : decode cL_law 404 = .ok (.iconst 0, 1) := by decide +kernel
theorem dL_law_405 : decode cL_law 405 = .ok (.ireturn, 1) := by decide +kernel
theorem dL_law_406 : decode cL_law 406 = .ok (.aload_n 1, 1) := by decide +kernel
theorem dL_law_407 : decode cL_law 407 = .ok (.aload_n 0, 1) := by decide +kernel
theorem dL_law_408 : decode cL_law 408 = .ok (.iload_n 3, 1) := by decide +kernel
theorem dL_law_409 : decode cL_law 409 = .ok (.iconst 1, 1) := by decide +kernel
theorem dL_law_410 : decode cL_law 410 = .ok (.iadd, 1) := by decide +kernel
theorem dL_law_411 : decode cL_law 411 = .ok (.iaload, 1) := by decide +kernel
end
section
/-! the law's own entry -/
set_option maxRecDepth 100000
theorem dL_law_412 : decode cL_law 412 = .ok (.aload_n 0, 1) := by decide +kernel
theorem dL_law_413 : decode cL_law 413 = .ok (.iload_n 3, 1) := by decide +kernel
theorem dL_law_414 : decode cL_law 414 = .ok (.iconst 2, 1) := by decide +kernel
theorem dL_law_415 : decode cL_law 415 = .ok (.iadd, 1) := by decide +kernel
theorem dL_law_416 : decode cL_law 416 = .ok (.iaload, 1) := by decide +kernel
theorem dL_law_417 : decode cL_law 417 = .ok (.aload_n 0, 1) := by decide +kernel
theorem dL_law_418 : decode cL_law 418 = .ok (.iload_n 3, 1) := by decide +kernel
theorem dL_law_419 : decode cL_law 419 = .ok (.iconst 3, 1) := by decide +kernel
theorem dL_law_420 : decode cL_law 420 = .ok (.iadd, 1) := by decide +kernel
theorem dL_law_421 : decode cL_law 421 = .ok (.iaload, 1) := by decide +kernel
theorem dL_law_422 : decode cL_law 422 = .ok (.invokevirtual 57, 3) := by decide +kernel
theorem dL_law_425 : decode cL_law 425 = .ok (.aload_n 2, 1) := by decide +kernel
theorem dL_law_426 : decode cL_law 426 = .ok (.aload_n 0, 1) := by decide +kernel
theorem dL_law_427 : decode cL_law 427 = .ok (.iload_n 3, 1) := by decide +kernel
theorem dL_law_428 : decode cL_law 428 = .ok (.iconst 1, 1) := by decide +kernel
theorem dL_law_429 : decode cL_law 429 = .ok (.iadd, 1) := by decide +kernel
theorem dL_law_430 : decode cL_law 430 = .ok (.iaload, 1) := by decide +kernel
theorem dL_law_431 : decode cL_law 431 = .ok (.aload_n 0, 1) := by decide +kernel
theorem dL_law_432 : decode cL_law 432 = .ok (.iload_n 3, 1) := by decide +kernel
theorem dL_law_433 : decode cL_law 433 = .ok (.iconst 2, 1) := by decide +kernel
theorem dL_law_434 : decode cL_law 434 = .ok (.iadd, 1) := by decide +kernel
theorem dL_law_435 : decode cL_law 435 = .ok (.iaload, 1) := by decide +kernel
theorem dL_law_436 : decode cL_law 436 = .ok (.aload_n 0, 1) := by decide +kernel
theorem dL_law_437 : decode cL_law 437 = .ok (.iload_n 3, 1) := by decide +kernel
theorem dL_law_438 : decode cL_law 438 = .ok (.iconst 3, 1) := by decide +kernel
theorem dL_law_439 : decode cL_law 439 = .ok (.iadd, 1) := by decide +kernel
theorem dL_law_440 : decode cL_law 440 = .ok (.iaload, 1) := by decide +kernel
theorem dL_law_441 : decode cL_law 441 = .ok (.invokevirtual 60, 3) := by decide +kernel
theorem dL_law_444 : decode cL_law 444 = .ok (.if_icmp .eq 128, 3) := by decide +kernel
theorem dL_law_447 : decode cL_law 447 = .ok (.iconst 0, 1) := by decide +kernel
theorem dL_law_448 : decode cL_law 448 = .ok (.ireturn, 1) := by decide +kernel
theorem dL_law_449 : decode cL_law 449 = .ok (.aload_n 1, 1) := by decide +kernel
theorem dL_law_450 : decode cL_law 450 = .ok (.aload_n 0, 1) := by decide +kernel
theorem dL_law_451 : decode cL_law 451 = .ok (.iload_n 3, 1) := by decide +kernel
theorem dL_law_452 : decode cL_law 452 = .ok (.iconst 1, 1) := by decide +kernel
theorem dL_law_453 : decode cL_law 453 = .ok (.iadd, 1) := by decide +kernel
theorem dL_law_454 : decode cL_law 454 = .ok (.iaload, 1) := by decide +kernel
theorem dL_law_455 : decode cL_law 455 = .ok (.aload_n 0, 1) := by decide +kernel
theorem dL_law_456 : decode cL_law 456 = .ok (.iload_n 3, 1) := by decide +kernel
theorem dL_law_457 : decode cL_law 457 = .ok (.iconst 2, 1) := by decide +kernel
theorem dL_law_458 : decode cL_law 458 = .ok (.iadd, 1) := by decide +kernel
theorem dL_law_459 : decode cL_law 459 = .ok (.iaload, 1) := by decide +kernel
theorem dL_law_460 : decode cL_law 460 = .ok (.invokevirtual 61, 3) := by decide +kernel
theorem dL_law_463 : decode cL_law 463 = .ok (.aload_n 2, 1) := by decide +kernel
theorem dL_law_464 : decode cL_law 464 = .ok (.aload_n 0, 1) := by decide +kernel
theorem dL_law_465 : decode cL_law 465 = .ok (.iload_n 3, 1) := by decide +kernel
theorem dL_law_466 : decode cL_law 466 = .ok (.iconst 1, 1) := by decide +kernel
theorem dL_law_467 : decode cL_law 467 = .ok (.iadd, 1) := by decide +kernel
theorem dL_law_468 : decode cL_law 468 = .ok (.iaload, 1) := by decide +kernel
theorem dL_law_469 : decode cL_law 469 = .ok (.aload_n 0, 1) := by decide +kernel
theorem dL_law_470 : decode cL_law 470 = .ok (.iload_n 3, 1) := by decide +kernel
theorem dL_law_471 : decode cL_law 471 = .ok (.iconst 2, 1) := by decide +kernel
theorem dL_law_472 : decode cL_law 472 = .ok (.iadd, 1) := by decide +kernel
theorem dL_law_473 : decode cL_law 473 = .ok (.iaload, 1) := by decide +kernel
theorem dL_law_474 : decode cL_law 474 = .ok (.invokevirtual 64, 3) := by decide +kernel
theorem dL_law_477 : decode cL_law 477 = .ok (.if_icmp .eq 95, 3) := by decide +kernel
theorem dL_law_480 : decode cL_law 480 = .ok (.iconst 0, 1) := by decide +kernel
theorem dL_law_481 : decode cL_law 481 = .ok (.ireturn, 1) := by decide +kernel
theorem dL_law_482 : decode cL_law 482 = .ok (.aload_n 1, 1) := by decide +kernel
theorem dL_law_483 : decode cL_law 483 = .ok (.invokevirtual 65, 3) := by decide +kernel
theorem dL_law_486 : decode cL_law 486 = .ok (.aload_n 2, 1) := by decide +kernel
theorem dL_law_487 : decode cL_law 487 = .ok (.invokevirtual 68, 3) := by decide +kernel
theorem dL_law_490 : decode cL_law 490 = .ok (.goto 82, 3) := by decide +kernel
theorem dL_law_493 : decode cL_law 493 = .ok (.aload_n 1, 1) := by decide +kernel
theorem dL_law_494 : decode cL_law 494 = .ok (.aload_n 0, 1) := by decide +kernel
theorem dL_law_495 : decode cL_law 495 = .ok (.iload_n 3, 1) := by decide +kernel
theorem dL_law_496 : decode cL_law 496 = .ok (.iconst 1, 1) := by decide +kernel
theorem dL_law_497 : decode cL_law 497 = .ok (.iadd, 1) := by decide +kernel
theorem dL_law_498 : decode cL_law 498 = .ok (.iaload, 1) := by decide +kernel
theorem dL_law_499 : decode cL_law 499 = .ok (.aload_n 0, 1) := by decide +kernel
theorem dL_law_500 : decode cL_law 500 = .ok (.iload_n 3, 1) := by decide +kernel
theorem dL_law_501 : decode cL_law 501 = .ok (.iconst 2, 1) := by decide +kernel
theorem dL_law_502 : decode cL_law 502 = .ok (.iadd, 1) := by decide +kernel
theorem dL_law_503 : decode cL_law 503 = .ok (.iaload, 1) := by decide +kernel
theorem dL_law_504 : decode cL_law 504 = .ok (.invokevirtual 69, 3) := by decide +kernel
theorem dL_law_507 : decode cL_law 507 = .ok (.aload_n 2, 1) := by decide +kernel
theorem dL_law_508 : decode cL_law 508 = .ok (.aload_n 0, 1) := by decide +kernel
theorem dL_law_509 : decode cL_law 509 = .ok (.iload_n 3, 1) := by decide +kernel
theorem dL_law_510 : decode cL_law 510 = .ok (.iconst 1, 1) := by decide +kernel
theorem dL_law_511 : decode cL_law 511 = .ok (.iadd, 1) := by decide +kernel
theorem dL_law_512 : decode cL_law 512 = .ok (.iaload, 1) := by decide +kernel
theorem dL_law_513 : decode cL_law 513 = .ok (.aload_n 0, 1) := by decide +kernel
theorem dL_law_514 : decode cL_law 514 = .ok (.iload_n 3, 1) := by decide +kernel
theorem dL_law_515 : decode cL_law 515 = .ok (.iconst 2, 1) := by decide +kernel
theorem dL_law_516 : decode cL_law 516 = .ok (.iadd, 1) := by decide +kernel
theorem dL_law_517 : decode cL_law 517 = .ok (.iaload, 1) := by decide +kernel
theorem dL_law_518 : decode cL_law 518 = .ok (.invokevirtual 73, 3) := by decide +kernel
theorem dL_law_521 : decode cL_law 521 = .ok (.if_icmp .eq 51, 3) := by decide +kernel
theorem dL_law_524 : decode cL_law 524 = .ok (.iconst 0, 1) := by decide +kernel
theorem dL_law_525 : decode cL_law 525 = .ok (.ireturn, 1) := by decide +kernel
theorem dL_law_526 : decode cL_law 526 = .ok (.aload_n 1, 1) := by decide +kernel
theorem dL_law_527 : decode cL_law 527 = .ok (.aload_n 0, 1) := by decide +kernel
theorem dL_law_528 : decode cL_law 528 = .ok (.iload_n 3, 1) := by decide +kernel
theorem dL_law_529 : decode cL_law 529 = .ok (.iconst 1, 1) := by decide +kernel
theorem dL_law_530 : decode cL_law 530 = .ok (.iadd, 1) := by decide +kernel
theorem dL_law_531 : decode cL_law 531 = .ok (.iaload, 1) := by decide +kernel
theorem dL_law_532 : decode cL_law 532 = .ok (.aload_n 0, 1) := by decide +kernel
theorem dL_law_533 : decode cL_law 533 = .ok (.iload_n 3, 1) := by decide +kernel
theorem dL_law_534 : decode cL_law 534 = .ok (.iconst 2, 1) := by decide +kernel
theorem dL_law_535 : decode cL_law 535 = .ok (.iadd, 1) := by decide +kernel
theorem dL_law_536 : decode cL_law 536 = .ok (.iaload, 1) := by decide +kernel
theorem dL_law_537 : decode cL_law 537 = .ok (.invokevirtual 74, 3) := by decide +kernel
theorem dL_law_540 : decode cL_law 540 = .ok (.aload_n 2, 1) := by decide +kernel
theorem dL_law_541 : decode cL_law 541 = .ok (.aload_n 0, 1) := by decide +kernel
theorem dL_law_542 : decode cL_law 542 = .ok (.iload_n 3, 1) := by decide +kernel
theorem dL_law_543 : decode cL_law 543 = .ok (.iconst 1, 1) := by decide +kernel
theorem dL_law_544 : decode cL_law 544 = .ok (.iadd, 1) := by decide +kernel
theorem dL_law_545 : decode cL_law 545 = .ok (.iaload, 1) := by decide +kernel
theorem dL_law_546 : decode cL_law 546 = .ok (.aload_n 0, 1) := by decide +kernel
theorem dL_law_547 : decode cL_law 547 = .ok (.iload_n 3, 1) := by decide +kernel
theorem dL_law_548 : decode cL_law 548 = .ok (.iconst 2, 1) := by decide +kernel
theorem dL_law_549 : decode cL_law 549 = .ok (.iadd, 1) := by decide +kernel
theorem dL_law_550 : decode cL_law 550 = .ok (.iaload, 1) := by decide +kernel
theorem dL_law_551 : decode cL_law 551 = .ok (.invokevirtual 77, 3) := by decide +kernel
theorem dL_law_554 : decode cL_law 554 = .ok (.if_icmp .eq 18, 3) := by decide +kernel
theorem dL_law_557 : decode cL_law 557 = .ok (.iconst 0, 1) := by decide +kernel
theorem dL_law_558 : decode cL_law 558 = .ok (.ireturn, 1) := by decide +kernel
theorem dL_law_559 : decode cL_law 559 = .ok (.aload_n 1, 1) := by decide +kernel
theorem dL_law_560 : decode cL_law 560 = .ok (.invokevirtual 78, 3) := by decide +kernel
theorem dL_law_563 : decode cL_law 563 = .ok (.aload_n 2, 1) := by decide +kernel
theorem dL_law_564 : decode cL_law 564 = .ok (.invokevirtual 82, 3) := by decide +kernel
theorem dL_law_567 : decode cL_law 567 = .ok (.if_icmp .eq 5, 3) := by decide +kernel
theorem dL_law_570 : decode cL_law 570 = .ok (.iconst 0, 1) := by decide +kernel
theorem dL_law_571 : decode cL_law 571 = .ok (.ireturn, 1) := by decide +kernel
theorem dL_law_572 : decode cL_law 572 = .ok (.iinc 3 5, 3) := by decide +kernel
theorem dL_law_575 : decode cL_law 575 = .ok (.goto (-547), 3) := by decide +kernel
theorem dL_law_578 : decode cL_law 578 = .ok (.iconst 1, 1) := by decide +kernel
theorem dL_law_579 : decode cL_law 579 = .ok (.ireturn, 1) := by decide +kernel
end
section
/-! THE CLAIM OUT OF ONE WALK OF THE LAW'S BODY. Your part is whole_start (and what it stands on); all else here is the same for every law, but numbers. -/
def R_law : String := "CapabilityServerLaw"
def lw_P (b : Addr) (xs : List Int32) (args : Array Value) (s : State) : Prop := args = #[.ref b] ∧ s.IntsAt b xs ∧ xs.length ≤ 321 ∧ (Jvm.Cond.and given_1 narrow_1).before args s = true
def lw_Q (_ : Array Value) (s : State) (o : Outcome) (t : State) : Prop := o = .returned (some (.int 1)) ∧ Framed s o t [] 600000 7290000
def lw_Z (below : List Frame) (a : Array Value) (s : State) : State → Prop := fun t => ∃ o, t.status = .running ∧ Ended t below o ∧ lw_Q a s o t
/-- the law's own end, with 1 on the stack, nothing written that was there before, its room as the claim has it -/
theorem lw_ret {p : Program} {l : Launch} {e : Env} {s : State} {m : MethodId} {below : List Frame} {meth : Method} {c : Code} {b : Nat} (hx : p.tables.exec = Jvm.exec) (hb : c.code = code) (hr : meth.sig.returnType = ret) (hlocks : meth.locks = false) {pc : Nat} {H : Heap} {ls : Array Slot} (hdg : decode code pc = .ok (.ireturn, 1)) : W p l e room_1 s m #[Value.ref b] below meth c H [] 600000 7290000 (lw_Z below #[Value.ref b] s) (F0 m pc ls [.int 1]) := by
  intro T hT X
  obtain ⟨fs, hret, hrun, hended, hW, hframe⟩ := X.leave (v := some (.int 1)) (hlocks := hlocks) (fun h => by rw [hr] at h; cases h)
  have hmeth' : T.vm.method? m = some meth := X.method'
  refine ⟨T.setFrames fs, ?_, .returned (some (.int 1)), hrun, hended, rfl, ⟨_, rfl⟩, hW, hframe⟩
  jvm_step X.here [X.here.top, hx, hb, hdg, hmeth', hr, ret, narrow_b1]
  (try refine ⟨rfl, ?_⟩); (try refine ⟨rfl, ?_⟩)
  first | (intro acts; rw [hret _ acts rfl rfl rfl]) | rw [hret _ _ rfl rfl rfl]
  exact Steps.refl _
/-- what holds at the law's entry: the machine, the code, the tables' words (any of lw_tbl by 'hts w (by decide +kernel)'), the script of L ints xs at the cell b, what the Statement gives of the start (any of its parts by flat_of_before) -/
def lw_At (p : Program) (s : State) (m : MethodId) (meth : Method) (c : Code) (b L : Nat) (xs : Nat → Int32) : Prop :=
  p.tables.exec = Jvm.exec ∧ c.code = code ∧ meth.sig.returnType = ret ∧ c.maxLocals = 4 ∧ s.vm.findClass R_law = some m.cls ∧ (∀ w ∈ lw_tbl, w.before #[Value.ref b] s = true) ∧ va_X b L xs s s.heap ∧ b < s.heap.size ∧ meth.locks = false ∧ (Jvm.Cond.and given_1 narrow_1).before #[Value.ref b] s = true
theorem ks_ix {i j L : Nat} (h : i + j < L) (hL : L ≤ 321) : vp_in (nI i + nI j) L := by
  rw [nI_add]
  exact vp_in_nI h (by omega)
theorem ks_go {i L : Nat} (hL : L ≤ 321) (hi : i < 1000) (h : ¬ Int32.ofNat L - 5 < nI i) : i + 5 ≤ L := by
  rcases Nat.lt_or_ge L (i + 5) with q | q
  · refine absurd ?_ h
    rw [Int32.lt_iff_toInt_lt]
    have e : (nI L - nI 5).toInt = (L : Int) - ((5 : Nat) : Int) := pk_sub_toInt (by omega) (by decide)
    have e2 : (Int32.ofNat L - 5).toInt = (L : Int) - ((5 : Nat) : Int) := e
    rw [e2, nI_toInt (by omega)]
    omega
  · exact q
theorem x1_def : ∀ j, j < 17 → defaultValue (tyX1 j) = vp_V x1_f0 j := fun j hj => by
    match j, hj with
    | 0, _ => rfl
    | 1, _ => rfl
    | 2, _ => rfl
    | 3, _ => rfl
    | 4, _ => rfl
    | 5, _ => rfl
    | 6, _ => rfl
    | 7, _ => rfl
    | 8, _ => rfl
    | 9, _ => rfl
    | 10, _ => rfl
    | 11, _ => rfl
    | 12, _ => rfl
    | 13, _ => rfl
    | 14, _ => rfl
    | 15, _ => rfl
    | 16, _ => rfl
    | j + 17, h => exact absurd h (by omega)
theorem x2_def : ∀ j, j < 11 → defaultValue (tyX2 j) = vp_V x2_f0 j := fun j hj => by
    match j, hj with
    | 0, _ => rfl
    | 1, _ => rfl
    | 2, _ => rfl
    | 3, _ => rfl
    | 4, _ => rfl
    | 5, _ => rfl
    | 6, _ => rfl
    | 7, _ => rfl
    | 8, _ => rfl
    | 9, _ => rfl
    | 10, _ => rfl
    | j + 11, h => exact absurd h (by omega)
end
section
/-! part 22: the law, call by call -/
set_option maxHeartbeats 4000000 in
set_option maxRecDepth 100000 in
/-- the law: create -/
theorem lc_create {p : Program} {l : Launch} {e : Env} {s : State} {m : MethodId} {below : List Frame} {meth : Method} {c : Code} {D : va_G} {h1 h2 : Nat} {ad1 ad2 : Nat → Nat} {ca1 ca2 : Nat → ClassId} {b L : Nat} {xs : Nat → Int32} {Q : State → Prop} {H : Heap} {locs : List Loc} {S M : ks_St} {k i : Nat} {ls : Array Slot}
    (C0 : lw_At p s m meth c b L xs) (hK1 : va_K D vwCl (t1_ ca1) s) (hK2 : va_K D vwCl (t2_ ca2) s) (hk : k < 1000) (hi : i + 5 ≤ L) (hL : L ≤ 321) (R : rl_R k S M)
    (hW : ks_W D (w1_ h1 ad1 ca1 S ++ w2_ h2 ad2 ca2 M) (fun q : Nat => s.heap.size ≤ q) s.heap H locs) (hl : lv_has ls 4 [(0, .ref b), (1, .ref h1), (2, .ref h2), (3, .int (nI i))])
    (K_ : ∀ (S2 M2 : ks_St) (H : Heap) (locs : List Loc), rl_R (k + 1) S2 M2 → ks_W D (w1_ h1 ad1 ca1 S2 ++ w2_ h2 ad2 ca2 M2) (fun q : Nat => s.heap.size ≤ q) s.heap H locs → W p l e room_1 s m #[Value.ref b] below meth c H locs 28 256 Q (F0 m 572 ls [])) :
    W p l e room_1 s m #[Value.ref b] below meth c H locs 28 256 Q (F0 m 112 ls []) := by
  obtain ⟨hx, hb, hr, hml, hown, hts0, hX, hbl, hlocks, hgv⟩ := C0
  have hts : ∀ w ∈ lw_all, w.before #[Value.ref b] s = true := fun w h => hts0 w (lw_all_tbl h)
  have hA : ∀ q : Nat, s.heap.size ≤ q → (fun q : Nat => s.heap.size ≤ q) q := fun _ h => h
  have hbA : ¬ (fun q : Nat => s.heap.size ≤ q) b := Nat.not_le.mpr hbl
  refine lv_aload_n hx hb dL_law_112 rfl (lv_at hl 1 rfl) ?_
  refine lv_aload_n hx hb dL_law_113 rfl (lv_at hl 0 rfl) ?_
  refine lv_iload_n hx hb dL_law_114 rfl (lv_at hl 3 rfl) ?_
  refine lv_iconst (v := 1) hx hb dL_law_115 (by decide) ?_
  refine lv_iadd hx hb dL_law_116 ?_
  refine va_sld hx hb hX hbl hbA hW.2.2 (ks_ix (i := i) (j := 1) (by omega) hL) dL_law_117 ?_
  refine lv_aload_n hx hb dL_law_118 rfl (lv_at hl 0 rfl) ?_
  refine lv_iload_n hx hb dL_law_119 rfl (lv_at hl 3 rfl) ?_
  refine lv_iconst (v := 2) hx hb dL_law_120 (by decide) ?_
  refine lv_iadd hx hb dL_law_121 ?_
  refine va_sld hx hb hX hbl hbA hW.2.2 (ks_ix (i := i) (j := 2) (by omega) hL) dL_law_122 ?_
  refine ks_callIL (C := RX1) (ci := 0) (As := [.int (xs (nI i + 1).toNatClampNeg), .int (xs (nI i + 2).toNatClampNeg)]) (rest := []) hx hb hml hown hts hK1 hA hW rfl x1_o rfl (fun sz => m1_create l D h1 ad1 ca1 S sz ((xs (nI i + 1).toNatClampNeg)) ((xs (nI i + 2).toNatClampNeg)) (rl_ok R)) (cwV 2 hts (lw_V q77 q78 q79 q13 q80) rfl rfl rfl (by decide +kernel) ⟨(Nat.le_of_ble_eq_true rfl), (Nat.le_of_ble_eq_true rfl)⟩) rfl hl.1 rfl (Nat.le_of_ble_eq_true rfl) dL_law_123 ⟨(Nat.le_of_ble_eq_true rfl), (Nat.le_of_ble_eq_true rfl)⟩ (fun H locs hW => ?_)
  refine lv_aload_n hx hb dL_law_126 rfl (lv_at hl 2 rfl) ?_
  refine lv_aload_n hx hb dL_law_127 rfl (lv_at hl 0 rfl) ?_
  refine lv_iload_n hx hb dL_law_128 rfl (lv_at hl 3 rfl) ?_
  refine lv_iconst (v := 1) hx hb dL_law_129 (by decide) ?_
  refine lv_iadd hx hb dL_law_130 ?_
  refine va_sld hx hb hX hbl hbA hW.2.2 (ks_ix (i := i) (j := 1) (by omega) hL) dL_law_131 ?_
  refine lv_aload_n hx hb dL_law_132 rfl (lv_at hl 0 rfl) ?_
  refine lv_iload_n hx hb dL_law_133 rfl (lv_at hl 3 rfl) ?_
  refine lv_iconst (v := 2) hx hb dL_law_134 (by decide) ?_
  refine lv_iadd hx hb dL_law_135 ?_
  refine va_sld hx hb hX hbl hbA hW.2.2 (ks_ix (i := i) (j := 2) (by omega) hL) dL_law_136 ?_
  refine ks_callIR (C := RX2) (ci := 1) (As := [.int (xs (nI i + 1).toNatClampNeg), .int (xs (nI i + 2).toNatClampNeg)]) (rest := [.int (sv_create S ((xs (nI i + 1).toNatClampNeg)) ((xs (nI i + 2).toNatClampNeg))).1]) hx hb hml hown hts hK2 hA hW rfl x2_o rfl (fun sz => m2_create l D h2 ad2 ca2 M sz ((xs (nI i + 1).toNatClampNeg)) ((xs (nI i + 2).toNatClampNeg)) ) (cwV 2 hts (lw_V q224 q225 q226 q14 q227) rfl rfl rfl (by decide +kernel) ⟨(Nat.le_of_ble_eq_true rfl), (Nat.le_of_ble_eq_true rfl)⟩) rfl hl.1 rfl (Nat.le_of_ble_eq_true rfl) dL_law_137 ⟨(Nat.le_of_ble_eq_true rfl), (Nat.le_of_ble_eq_true rfl)⟩ (fun H locs hW => ?_)
  refine lv_icmp_eq (tgt := 572) hx hb dL_law_140 (by decide) (fun _ => K_ _ _ _ _ (rl_create (by omega) R).2 hW) (fun c9 => absurd (rl_create (by omega) R).1 c9)
set_option maxHeartbeats 4000000 in
set_option maxRecDepth 100000 in
/-- the law: read -/
theorem lc_read {p : Program} {l : Launch} {e : Env} {s : State} {m : MethodId} {below : List Frame} {meth : Method} {c : Code} {D : va_G} {h1 h2 : Nat} {ad1 ad2 : Nat → Nat} {ca1 ca2 : Nat → ClassId} {b L : Nat} {xs : Nat → Int32} {Q : State → Prop} {H : Heap} {locs : List Loc} {S M : ks_St} {k i : Nat} {ls : Array Slot}
    (C0 : lw_At p s m meth c b L xs) (hK1 : va_K D vwCl (t1_ ca1) s) (hK2 : va_K D vwCl (t2_ ca2) s) (hk : k < 1000) (hi : i + 5 ≤ L) (hL : L ≤ 321) (R : rl_R k S M)
    (hW : ks_W D (w1_ h1 ad1 ca1 S ++ w2_ h2 ad2 ca2 M) (fun q : Nat => s.heap.size ≤ q) s.heap H locs) (hl : lv_has ls 4 [(0, .ref b), (1, .ref h1), (2, .ref h2), (3, .int (nI i))])
    (K_ : ∀ (S2 M2 : ks_St) (H : Heap) (locs : List Loc), rl_R (k + 1) S2 M2 → ks_W D (w1_ h1 ad1 ca1 S2 ++ w2_ h2 ad2 ca2 M2) (fun q : Nat => s.heap.size ≤ q) s.heap H locs → W p l e room_1 s m #[Value.ref b] below meth c H locs 28 256 Q (F0 m 572 ls [])) :
    W p l e room_1 s m #[Value.ref b] below meth c H locs 28 256 Q (F0 m 145 ls []) := by
  obtain ⟨hx, hb, hr, hml, hown, hts0, hX, hbl, hlocks, hgv⟩ := C0
  have hts : ∀ w ∈ lw_all, w.before #[Value.ref b] s = true := fun w h => hts0 w (lw_all_tbl h)
  have hA : ∀ q : Nat, s.heap.size ≤ q → (fun q : Nat => s.heap.size ≤ q) q := fun _ h => h
  have hbA : ¬ (fun q : Nat => s.heap.size ≤ q) b := Nat.not_le.mpr hbl
  refine lv_aload_n hx hb dL_law_145 rfl (lv_at hl 1 rfl) ?_
  refine lv_aload_n hx hb dL_law_146 rfl (lv_at hl 0 rfl) ?_
  refine lv_iload_n hx hb dL_law_147 rfl (lv_at hl 3 rfl) ?_
  refine lv_iconst (v := 1) hx hb dL_law_148 (by decide) ?_
  refine lv_iadd hx hb dL_law_149 ?_
  refine va_sld hx hb hX hbl hbA hW.2.2 (ks_ix (i := i) (j := 1) (by omega) hL) dL_law_150 ?_
  refine lv_aload_n hx hb dL_law_151 rfl (lv_at hl 0 rfl) ?_
  refine lv_iload_n hx hb dL_law_152 rfl (lv_at hl 3 rfl) ?_
  refine lv_iconst (v := 2) hx hb dL_law_153 (by decide) ?_
  refine lv_iadd hx hb dL_law_154 ?_
  refine va_sld hx hb hX hbl hbA hW.2.2 (ks_ix (i := i) (j := 2) (by omega) hL) dL_law_155 ?_
  refine ks_callIL (C := RX1) (ci := 0) (As := [.int (xs (nI i + 1).toNatClampNeg), .int (xs (nI i + 2).toNatClampNeg)]) (rest := []) hx hb hml hown hts hK1 hA hW rfl x1_o rfl (fun sz => m1_read l D h1 ad1 ca1 S sz ((xs (nI i + 1).toNatClampNeg)) ((xs (nI i + 2).toNatClampNeg)) (rl_ok R)) (cwV 2 hts (lw_V q129 q130 q131 q13 q132) rfl rfl rfl (by decide +kernel) ⟨(Nat.le_of_ble_eq_true rfl), (Nat.le_of_ble_eq_true rfl)⟩) rfl hl.1 rfl (Nat.le_of_ble_eq_true rfl) dL_law_156 ⟨(Nat.le_of_ble_eq_true rfl), (Nat.le_of_ble_eq_true rfl)⟩ (fun H locs hW => ?_)
  refine lv_aload_n hx hb dL_law_159 rfl (lv_at hl 2 rfl) ?_
  refine lv_aload_n hx hb dL_law_160 rfl (lv_at hl 0 rfl) ?_
  refine lv_iload_n hx hb dL_law_161 rfl (lv_at hl 3 rfl) ?_
  refine lv_iconst (v := 1) hx hb dL_law_162 (by decide) ?_
  refine lv_iadd hx hb dL_law_163 ?_
  refine va_sld hx hb hX hbl hbA hW.2.2 (ks_ix (i := i) (j := 1) (by omega) hL) dL_law_164 ?_
  refine lv_aload_n hx hb dL_law_165 rfl (lv_at hl 0 rfl) ?_
  refine lv_iload_n hx hb dL_law_166 rfl (lv_at hl 3 rfl) ?_
  refine lv_iconst (v := 2) hx hb dL_law_167 (by decide) ?_
  refine lv_iadd hx hb dL_law_168 ?_
  refine va_sld hx hb hX hbl hbA hW.2.2 (ks_ix (i := i) (j := 2) (by omega) hL) dL_law_169 ?_
  refine ks_callIR (C := RX2) (ci := 1) (As := [.int (xs (nI i + 1).toNatClampNeg), .int (xs (nI i + 2).toNatClampNeg)]) (rest := [.int (sv_read S ((xs (nI i + 1).toNatClampNeg)) ((xs (nI i + 2).toNatClampNeg))).1]) hx hb hml hown hts hK2 hA hW rfl x2_o rfl (fun sz => m2_read l D h2 ad2 ca2 M sz ((xs (nI i + 1).toNatClampNeg)) ((xs (nI i + 2).toNatClampNeg)) (rl_mok R)) (cwV 2 hts (lw_V q240 q241 q242 q14 q243) rfl rfl rfl (by decide +kernel) ⟨(Nat.le_of_ble_eq_true rfl), (Nat.le_of_ble_eq_true rfl)⟩) rfl hl.1 rfl (Nat.le_of_ble_eq_true rfl) dL_law_170 ⟨(Nat.le_of_ble_eq_true rfl), (Nat.le_of_ble_eq_true rfl)⟩ (fun H locs hW => ?_)
  refine lv_icmp_eq (tgt := 572) hx hb dL_law_173 (by decide) (fun _ => K_ _ _ _ _ (rl_read (by omega) R).2 hW) (fun c9 => absurd (rl_read (by omega) R).1 c9)
set_option maxHeartbeats 4000000 in
set_option maxRecDepth 100000 in
/-- the law: add -/
theorem lc_add {p : Program} {l : Launch} {e : Env} {s : State} {m : MethodId} {below : List Frame} {meth : Method} {c : Code} {D : va_G} {h1 h2 : Nat} {ad1 ad2 : Nat → Nat} {ca1 ca2 : Nat → ClassId} {b L : Nat} {xs : Nat → Int32} {Q : State → Prop} {H : Heap} {locs : List Loc} {S M : ks_St} {k i : Nat} {ls : Array Slot}
    (C0 : lw_At p s m meth c b L xs) (hK1 : va_K D vwCl (t1_ ca1) s) (hK2 : va_K D vwCl (t2_ ca2) s) (hk : k < 1000) (hi : i + 5 ≤ L) (hL : L ≤ 321) (R : rl_R k S M)
    (hW : ks_W D (w1_ h1 ad1 ca1 S ++ w2_ h2 ad2 ca2 M) (fun q : Nat => s.heap.size ≤ q) s.heap H locs) (hl : lv_has ls 4 [(0, .ref b), (1, .ref h1), (2, .ref h2), (3, .int (nI i))])
    (K_ : ∀ (S2 M2 : ks_St) (H : Heap) (locs : List Loc), rl_R (k + 1) S2 M2 → ks_W D (w1_ h1 ad1 ca1 S2 ++ w2_ h2 ad2 ca2 M2) (fun q : Nat => s.heap.size ≤ q) s.heap H locs → W p l e room_1 s m #[Value.ref b] below meth c H locs 28 256 Q (F0 m 572 ls [])) :
    W p l e room_1 s m #[Value.ref b] below meth c H locs 28 256 Q (F0 m 178 ls []) := by
  obtain ⟨hx, hb, hr, hml, hown, hts0, hX, hbl, hlocks, hgv⟩ := C0
  have hts : ∀ w ∈ lw_all, w.before #[Value.ref b] s = true := fun w h => hts0 w (lw_all_tbl h)
  have hA : ∀ q : Nat, s.heap.size ≤ q → (fun q : Nat => s.heap.size ≤ q) q := fun _ h => h
  have hbA : ¬ (fun q : Nat => s.heap.size ≤ q) b := Nat.not_le.mpr hbl
  refine lv_aload_n hx hb dL_law_178 rfl (lv_at hl 1 rfl) ?_
  refine lv_aload_n hx hb dL_law_179 rfl (lv_at hl 0 rfl) ?_
  refine lv_iload_n hx hb dL_law_180 rfl (lv_at hl 3 rfl) ?_
  refine lv_iconst (v := 1) hx hb dL_law_181 (by decide) ?_
  refine lv_iadd hx hb dL_law_182 ?_
  refine va_sld hx hb hX hbl hbA hW.2.2 (ks_ix (i := i) (j := 1) (by omega) hL) dL_law_183 ?_
  refine lv_aload_n hx hb dL_law_184 rfl (lv_at hl 0 rfl) ?_
  refine lv_iload_n hx hb dL_law_185 rfl (lv_at hl 3 rfl) ?_
  refine lv_iconst (v := 2) hx hb dL_law_186 (by decide) ?_
  refine lv_iadd hx hb dL_law_187 ?_
  refine va_sld hx hb hX hbl hbA hW.2.2 (ks_ix (i := i) (j := 2) (by omega) hL) dL_law_188 ?_
  refine lv_aload_n hx hb dL_law_189 rfl (lv_at hl 0 rfl) ?_
  refine lv_iload_n hx hb dL_law_190 rfl (lv_at hl 3 rfl) ?_
  refine lv_iconst (v := 3) hx hb dL_law_191 (by decide) ?_
  refine lv_iadd hx hb dL_law_192 ?_
  refine va_sld hx hb hX hbl hbA hW.2.2 (ks_ix (i := i) (j := 3) (by omega) hL) dL_law_193 ?_
  refine ks_callIL (C := RX1) (ci := 0) (As := [.int (xs (nI i + 1).toNatClampNeg), .int (xs (nI i + 2).toNatClampNeg), .int (xs (nI i + 3).toNatClampNeg)]) (rest := []) hx hb hml hown hts hK1 hA hW rfl x1_o rfl (fun sz => m1_add l D h1 ad1 ca1 S sz ((xs (nI i + 1).toNatClampNeg)) ((xs (nI i + 2).toNatClampNeg)) ((xs (nI i + 3).toNatClampNeg)) (rl_ok R)) (cwV 3 hts (lw_V q133 q134 q135 q13 q136) rfl rfl rfl (by decide +kernel) ⟨(Nat.le_of_ble_eq_true rfl), (Nat.le_of_ble_eq_true rfl)⟩) rfl hl.1 rfl (Nat.le_of_ble_eq_true rfl) dL_law_194 ⟨(Nat.le_of_ble_eq_true rfl), (Nat.le_of_ble_eq_true rfl)⟩ (fun H locs hW => ?_)
  refine lv_aload_n hx hb dL_law_197 rfl (lv_at hl 2 rfl) ?_
  refine lv_aload_n hx hb dL_law_198 rfl (lv_at hl 0 rfl) ?_
  refine lv_iload_n hx hb dL_law_199 rfl (lv_at hl 3 rfl) ?_
  refine lv_iconst (v := 1) hx hb dL_law_200 (by decide) ?_
  refine lv_iadd hx hb dL_law_201 ?_
  refine va_sld hx hb hX hbl hbA hW.2.2 (ks_ix (i := i) (j := 1) (by omega) hL) dL_law_202 ?_
  refine lv_aload_n hx hb dL_law_203 rfl (lv_at hl 0 rfl) ?_
  refine lv_iload_n hx hb dL_law_204 rfl (lv_at hl 3 rfl) ?_
  refine lv_iconst (v := 2) hx hb dL_law_205 (by decide) ?_
  refine lv_iadd hx hb dL_law_206 ?_
  refine va_sld hx hb hX hbl hbA hW.2.2 (ks_ix (i := i) (j := 2) (by omega) hL) dL_law_207 ?_
  refine lv_aload_n hx hb dL_law_208 rfl (lv_at hl 0 rfl) ?_
  refine lv_iload_n hx hb dL_law_209 rfl (lv_at hl 3 rfl) ?_
  refine lv_iconst (v := 3) hx hb dL_law_210 (by decide) ?_
  refine lv_iadd hx hb dL_law_211 ?_
  refine va_sld hx hb hX hbl hbA hW.2.2 (ks_ix (i := i) (j := 3) (by omega) hL) dL_law_212 ?_
  refine ks_callIR (C := RX2) (ci := 1) (As := [.int (xs (nI i + 1).toNatClampNeg), .int (xs (nI i + 2).toNatClampNeg), .int (xs (nI i + 3).toNatClampNeg)]) (rest := [.int (sv_add S ((xs (nI i + 1).toNatClampNeg)) ((xs (nI i + 2).toNatClampNeg)) ((xs (nI i + 3).toNatClampNeg))).1]) hx hb hml hown hts hK2 hA hW rfl x2_o rfl (fun sz => m2_add l D h2 ad2 ca2 M sz ((xs (nI i + 1).toNatClampNeg)) ((xs (nI i + 2).toNatClampNeg)) ((xs (nI i + 3).toNatClampNeg)) (rl_mok R)) (cwV 3 hts (lw_V q252 q253 q254 q14 q255) rfl rfl rfl (by decide +kernel) ⟨(Nat.le_of_ble_eq_true rfl), (Nat.le_of_ble_eq_true rfl)⟩) rfl hl.1 rfl (Nat.le_of_ble_eq_true rfl) dL_law_213 ⟨(Nat.le_of_ble_eq_true rfl), (Nat.le_of_ble_eq_true rfl)⟩ (fun H locs hW => ?_)
  refine lv_icmp_eq (tgt := 572) hx hb dL_law_216 (by decide) (fun _ => K_ _ _ _ _ (rl_add (by omega) R).2 hW) (fun c9 => absurd (rl_add (by omega) R).1 c9)
set_option maxHeartbeats 4000000 in
set_option maxRecDepth 100000 in
/-- the law: destroy -/
theorem lc_destroy {p : Program} {l : Launch} {e : Env} {s : State} {m : MethodId} {below : List Frame} {meth : Method} {c : Code} {D : va_G} {h1 h2 : Nat} {ad1 ad2 : Nat → Nat} {ca1 ca2 : Nat → ClassId} {b L : Nat} {xs : Nat → Int32} {Q : State → Prop} {H : Heap} {locs : List Loc} {S M : ks_St} {k i : Nat} {ls : Array Slot}
    (C0 : lw_At p s m meth c b L xs) (hK1 : va_K D vwCl (t1_ ca1) s) (hK2 : va_K D vwCl (t2_ ca2) s) (hk : k < 1000) (hi : i + 5 ≤ L) (hL : L ≤ 321) (R : rl_R k S M)
    (hW : ks_W D (w1_ h1 ad1 ca1 S ++ w2_ h2 ad2 ca2 M) (fun q : Nat => s.heap.size ≤ q) s.heap H locs) (hl : lv_has ls 4 [(0, .ref b), (1, .ref h1), (2, .ref h2), (3, .int (nI i))])
    (K_ : ∀ (S2 M2 : ks_St) (H : Heap) (locs : List Loc), rl_R (k + 1) S2 M2 → ks_W D (w1_ h1 ad1 ca1 S2 ++ w2_ h2 ad2 ca2 M2) (fun q : Nat => s.heap.size ≤ q) s.heap H locs → W p l e room_1 s m #[Value.ref b] below meth c H locs 28 256 Q (F0 m 572 ls [])) :
    W p l e room_1 s m #[Value.ref b] below meth c H locs 28 256 Q (F0 m 221 ls []) := by
  obtain ⟨hx, hb, hr, hml, hown, hts0, hX, hbl, hlocks, hgv⟩ := C0
  have hts : ∀ w ∈ lw_all, w.before #[Value.ref b] s = true := fun w h => hts0 w (lw_all_tbl h)
  have hA : ∀ q : Nat, s.heap.size ≤ q → (fun q : Nat => s.heap.size ≤ q) q := fun _ h => h
  have hbA : ¬ (fun q : Nat => s.heap.size ≤ q) b := Nat.not_le.mpr hbl
  refine lv_aload_n hx hb dL_law_221 rfl (lv_at hl 1 rfl) ?_
  refine lv_aload_n hx hb dL_law_222 rfl (lv_at hl 0 rfl) ?_
  refine lv_iload_n hx hb dL_law_223 rfl (lv_at hl 3 rfl) ?_
  refine lv_iconst (v := 1) hx hb dL_law_224 (by decide) ?_
  refine lv_iadd hx hb dL_law_225 ?_
  refine va_sld hx hb hX hbl hbA hW.2.2 (ks_ix (i := i) (j := 1) (by omega) hL) dL_law_226 ?_
  refine lv_aload_n hx hb dL_law_227 rfl (lv_at hl 0 rfl) ?_
  refine lv_iload_n hx hb dL_law_228 rfl (lv_at hl 3 rfl) ?_
  refine lv_iconst (v := 2) hx hb dL_law_229 (by decide) ?_
  refine lv_iadd hx hb dL_law_230 ?_
  refine va_sld hx hb hX hbl hbA hW.2.2 (ks_ix (i := i) (j := 2) (by omega) hL) dL_law_231 ?_
  refine ks_callIL (C := RX1) (ci := 0) (As := [.int (xs (nI i + 1).toNatClampNeg), .int (xs (nI i + 2).toNatClampNeg)]) (rest := []) hx hb hml hown hts hK1 hA hW rfl x1_o rfl (fun sz => m1_destroy l D h1 ad1 ca1 S sz ((xs (nI i + 1).toNatClampNeg)) ((xs (nI i + 2).toNatClampNeg)) (rl_ok R)) (cwV 2 hts (lw_V q137 q138 q139 q13 q140) rfl rfl rfl (by decide +kernel) ⟨(Nat.le_of_ble_eq_true rfl), (Nat.le_of_ble_eq_true rfl)⟩) rfl hl.1 rfl (Nat.le_of_ble_eq_true rfl) dL_law_232 ⟨(Nat.le_of_ble_eq_true rfl), (Nat.le_of_ble_eq_true rfl)⟩ (fun H locs hW => ?_)
  refine lv_aload_n hx hb dL_law_235 rfl (lv_at hl 2 rfl) ?_
  refine lv_aload_n hx hb dL_law_236 rfl (lv_at hl 0 rfl) ?_
  refine lv_iload_n hx hb dL_law_237 rfl (lv_at hl 3 rfl) ?_
  refine lv_iconst (v := 1) hx hb dL_law_238 (by decide) ?_
  refine lv_iadd hx hb dL_law_239 ?_
  refine va_sld hx hb hX hbl hbA hW.2.2 (ks_ix (i := i) (j := 1) (by omega) hL) dL_law_240 ?_
  refine lv_aload_n hx hb dL_law_241 rfl (lv_at hl 0 rfl) ?_
  refine lv_iload_n hx hb dL_law_242 rfl (lv_at hl 3 rfl) ?_
  refine lv_iconst (v := 2) hx hb dL_law_243 (by decide) ?_
  refine lv_iadd hx hb dL_law_244 ?_
  refine va_sld hx hb hX hbl hbA hW.2.2 (ks_ix (i := i) (j := 2) (by omega) hL) dL_law_245 ?_
  refine ks_callIR (C := RX2) (ci := 1) (As := [.int (xs (nI i + 1).toNatClampNeg), .int (xs (nI i + 2).toNatClampNeg)]) (rest := [.int (sv_destroy S ((xs (nI i + 1).toNatClampNeg)) ((xs (nI i + 2).toNatClampNeg))).1]) hx hb hml hown hts hK2 hA hW rfl x2_o rfl (fun sz => m2_destroy l D h2 ad2 ca2 M sz ((xs (nI i + 1).toNatClampNeg)) ((xs (nI i + 2).toNatClampNeg)) (rl_mok R)) (cwV 2 hts (lw_V q256 q257 q258 q14 q259) rfl rfl rfl (by decide +kernel) ⟨(Nat.le_of_ble_eq_true rfl), (Nat.le_of_ble_eq_true rfl)⟩) rfl hl.1 rfl (Nat.le_of_ble_eq_true rfl) dL_law_246 ⟨(Nat.le_of_ble_eq_true rfl), (Nat.le_of_ble_eq_true rfl)⟩ (fun H locs hW => ?_)
  refine lv_icmp_eq (tgt := 572) hx hb dL_law_249 (by decide) (fun _ => K_ _ _ _ _ (rl_destroy (by omega) R).2 hW) (fun c9 => absurd (rl_destroy (by omega) R).1 c9)
set_option maxHeartbeats 4000000 in
set_option maxRecDepth 100000 in
/-- the law: revoke -/
theorem lc_revoke {p : Program} {l : Launch} {e : Env} {s : State} {m : MethodId} {below : List Frame} {meth : Method} {c : Code} {D : va_G} {h1 h2 : Nat} {ad1 ad2 : Nat → Nat} {ca1 ca2 : Nat → ClassId} {b L : Nat} {xs : Nat → Int32} {Q : State → Prop} {H : Heap} {locs : List Loc} {S M : ks_St} {k i : Nat} {ls : Array Slot}
    (C0 : lw_At p s m meth c b L xs) (hK1 : va_K D vwCl (t1_ ca1) s) (hK2 : va_K D vwCl (t2_ ca2) s) (hk : k < 1000) (hi : i + 5 ≤ L) (hL : L ≤ 321) (R : rl_R k S M)
    (hW : ks_W D (w1_ h1 ad1 ca1 S ++ w2_ h2 ad2 ca2 M) (fun q : Nat => s.heap.size ≤ q) s.heap H locs) (hl : lv_has ls 4 [(0, .ref b), (1, .ref h1), (2, .ref h2), (3, .int (nI i))])
    (K_ : ∀ (S2 M2 : ks_St) (H : Heap) (locs : List Loc), rl_R (k + 1) S2 M2 → ks_W D (w1_ h1 ad1 ca1 S2 ++ w2_ h2 ad2 ca2 M2) (fun q : Nat => s.heap.size ≤ q) s.heap H locs → W p l e room_1 s m #[Value.ref b] below meth c H locs 28 256 Q (F0 m 572 ls [])) :
    W p l e room_1 s m #[Value.ref b] below meth c H locs 28 256 Q (F0 m 254 ls []) := by
  obtain ⟨hx, hb, hr, hml, hown, hts0, hX, hbl, hlocks, hgv⟩ := C0
  have hts : ∀ w ∈ lw_all, w.before #[Value.ref b] s = true := fun w h => hts0 w (lw_all_tbl h)
  have hA : ∀ q : Nat, s.heap.size ≤ q → (fun q : Nat => s.heap.size ≤ q) q := fun _ h => h
  have hbA : ¬ (fun q : Nat => s.heap.size ≤ q) b := Nat.not_le.mpr hbl
  refine lv_aload_n hx hb dL_law_254 rfl (lv_at hl 1 rfl) ?_
  refine lv_aload_n hx hb dL_law_255 rfl (lv_at hl 0 rfl) ?_
  refine lv_iload_n hx hb dL_law_256 rfl (lv_at hl 3 rfl) ?_
  refine lv_iconst (v := 1) hx hb dL_law_257 (by decide) ?_
  refine lv_iadd hx hb dL_law_258 ?_
  refine va_sld hx hb hX hbl hbA hW.2.2 (ks_ix (i := i) (j := 1) (by omega) hL) dL_law_259 ?_
  refine lv_aload_n hx hb dL_law_260 rfl (lv_at hl 0 rfl) ?_
  refine lv_iload_n hx hb dL_law_261 rfl (lv_at hl 3 rfl) ?_
  refine lv_iconst (v := 2) hx hb dL_law_262 (by decide) ?_
  refine lv_iadd hx hb dL_law_263 ?_
  refine va_sld hx hb hX hbl hbA hW.2.2 (ks_ix (i := i) (j := 2) (by omega) hL) dL_law_264 ?_
  refine ks_callIL (C := RX1) (ci := 0) (As := [.int (xs (nI i + 1).toNatClampNeg), .int (xs (nI i + 2).toNatClampNeg)]) (rest := []) hx hb hml hown hts hK1 hA hW rfl x1_o rfl (fun sz => m1_revoke l D h1 ad1 ca1 S sz ((xs (nI i + 1).toNatClampNeg)) ((xs (nI i + 2).toNatClampNeg)) (rl_ok R)) (cwV 2 hts (lw_V q141 q142 q143 q13 q144) rfl rfl rfl (by decide +kernel) ⟨(Nat.le_of_ble_eq_true rfl), (Nat.le_of_ble_eq_true rfl)⟩) rfl hl.1 rfl (Nat.le_of_ble_eq_true rfl) dL_law_265 ⟨(Nat.le_of_ble_eq_true rfl), (Nat.le_of_ble_eq_true rfl)⟩ (fun H locs hW => ?_)
  refine lv_aload_n hx hb dL_law_268 rfl (lv_at hl 2 rfl) ?_
  refine lv_aload_n hx hb dL_law_269 rfl (lv_at hl 0 rfl) ?_
  refine lv_iload_n hx hb dL_law_270 rfl (lv_at hl 3 rfl) ?_
  refine lv_iconst (v := 1) hx hb dL_law_271 (by decide) ?_
  refine lv_iadd hx hb dL_law_272 ?_
  refine va_sld hx hb hX hbl hbA hW.2.2 (ks_ix (i := i) (j := 1) (by omega) hL) dL_law_273 ?_
  refine lv_aload_n hx hb dL_law_274 rfl (lv_at hl 0 rfl) ?_
  refine lv_iload_n hx hb dL_law_275 rfl (lv_at hl 3 rfl) ?_
  refine lv_iconst (v := 2) hx hb dL_law_276 (by decide) ?_
  refine lv_iadd hx hb dL_law_277 ?_
  refine va_sld hx hb hX hbl hbA hW.2.2 (ks_ix (i := i) (j := 2) (by omega) hL) dL_law_278 ?_
  refine ks_callIR (C := RX2) (ci := 1) (As := [.int (xs (nI i + 1).toNatClampNeg), .int (xs (nI i + 2).toNatClampNeg)]) (rest := [.int (sv_revoke S ((xs (nI i + 1).toNatClampNeg)) ((xs (nI i + 2).toNatClampNeg))).1]) hx hb hml hown hts hK2 hA hW rfl x2_o rfl (fun sz => m2_revoke l D h2 ad2 ca2 M sz ((xs (nI i + 1).toNatClampNeg)) ((xs (nI i + 2).toNatClampNeg)) (rl_mok R)) (cwV 2 hts (lw_V q260 q261 q262 q14 q263) rfl rfl rfl (by decide +kernel) ⟨(Nat.le_of_ble_eq_true rfl), (Nat.le_of_ble_eq_true rfl)⟩) rfl hl.1 rfl (Nat.le_of_ble_eq_true rfl) dL_law_279 ⟨(Nat.le_of_ble_eq_true rfl), (Nat.le_of_ble_eq_true rfl)⟩ (fun H locs hW => ?_)
  refine lv_icmp_eq (tgt := 572) hx hb dL_law_282 (by decide) (fun _ => K_ _ _ _ _ (rl_revoke (by omega) R).2 hW) (fun c9 => absurd (rl_revoke (by omega) R).1 c9)
set_option maxHeartbeats 4000000 in
set_option maxRecDepth 100000 in
/-- the law: restrict -/
theorem lc_restrict {p : Program} {l : Launch} {e : Env} {s : State} {m : MethodId} {below : List Frame} {meth : Method} {c : Code} {D : va_G} {h1 h2 : Nat} {ad1 ad2 : Nat → Nat} {ca1 ca2 : Nat → ClassId} {b L : Nat} {xs : Nat → Int32} {Q : State → Prop} {H : Heap} {locs : List Loc} {S M : ks_St} {k i : Nat} {ls : Array Slot}
    (C0 : lw_At p s m meth c b L xs) (hK1 : va_K D vwCl (t1_ ca1) s) (hK2 : va_K D vwCl (t2_ ca2) s) (hk : k < 1000) (hi : i + 5 ≤ L) (hL : L ≤ 321) (R : rl_R k S M)
    (hW : ks_W D (w1_ h1 ad1 ca1 S ++ w2_ h2 ad2 ca2 M) (fun q : Nat => s.heap.size ≤ q) s.heap H locs) (hl : lv_has ls 4 [(0, .ref b), (1, .ref h1), (2, .ref h2), (3, .int (nI i))])
    (K_ : ∀ (S2 M2 : ks_St) (H : Heap) (locs : List Loc), rl_R (k + 1) S2 M2 → ks_W D (w1_ h1 ad1 ca1 S2 ++ w2_ h2 ad2 ca2 M2) (fun q : Nat => s.heap.size ≤ q) s.heap H locs → W p l e room_1 s m #[Value.ref b] below meth c H locs 28 256 Q (F0 m 572 ls [])) :
    W p l e room_1 s m #[Value.ref b] below meth c H locs 28 256 Q (F0 m 287 ls []) := by
  obtain ⟨hx, hb, hr, hml, hown, hts0, hX, hbl, hlocks, hgv⟩ := C0
  have hts : ∀ w ∈ lw_all, w.before #[Value.ref b] s = true := fun w h => hts0 w (lw_all_tbl h)
  have hA : ∀ q : Nat, s.heap.size ≤ q → (fun q : Nat => s.heap.size ≤ q) q := fun _ h => h
  have hbA : ¬ (fun q : Nat => s.heap.size ≤ q) b := Nat.not_le.mpr hbl
  refine lv_aload_n hx hb dL_law_287 rfl (lv_at hl 1 rfl) ?_
  refine lv_aload_n hx hb dL_law_288 rfl (lv_at hl 0 rfl) ?_
  refine lv_iload_n hx hb dL_law_289 rfl (lv_at hl 3 rfl) ?_
  refine lv_iconst (v := 1) hx hb dL_law_290 (by decide) ?_
  refine lv_iadd hx hb dL_law_291 ?_
  refine va_sld hx hb hX hbl hbA hW.2.2 (ks_ix (i := i) (j := 1) (by omega) hL) dL_law_292 ?_
  refine lv_aload_n hx hb dL_law_293 rfl (lv_at hl 0 rfl) ?_
  refine lv_iload_n hx hb dL_law_294 rfl (lv_at hl 3 rfl) ?_
  refine lv_iconst (v := 2) hx hb dL_law_295 (by decide) ?_
  refine lv_iadd hx hb dL_law_296 ?_
  refine va_sld hx hb hX hbl hbA hW.2.2 (ks_ix (i := i) (j := 2) (by omega) hL) dL_law_297 ?_
  refine lv_aload_n hx hb dL_law_298 rfl (lv_at hl 0 rfl) ?_
  refine lv_iload_n hx hb dL_law_299 rfl (lv_at hl 3 rfl) ?_
  refine lv_iconst (v := 3) hx hb dL_law_300 (by decide) ?_
  refine lv_iadd hx hb dL_law_301 ?_
  refine va_sld hx hb hX hbl hbA hW.2.2 (ks_ix (i := i) (j := 3) (by omega) hL) dL_law_302 ?_
  refine lv_aload_n hx hb dL_law_303 rfl (lv_at hl 0 rfl) ?_
  refine lv_iload_n hx hb dL_law_304 rfl (lv_at hl 3 rfl) ?_
  refine lv_iconst (v := 4) hx hb dL_law_305 (by decide) ?_
  refine lv_iadd hx hb dL_law_306 ?_
  refine va_sld hx hb hX hbl hbA hW.2.2 (ks_ix (i := i) (j := 4) (by omega) hL) dL_law_307 ?_
  refine ks_callIL (C := RX1) (ci := 0) (As := [.int (xs (nI i + 1).toNatClampNeg), .int (xs (nI i + 2).toNatClampNeg), .int (xs (nI i + 3).toNatClampNeg), .int (xs (nI i + 4).toNatClampNeg)]) (rest := []) hx hb hml hown hts hK1 hA hW rfl x1_o rfl (fun sz => m1_restrict l D h1 ad1 ca1 S sz ((xs (nI i + 1).toNatClampNeg)) ((xs (nI i + 2).toNatClampNeg)) ((xs (nI i + 3).toNatClampNeg)) ((xs (nI i + 4).toNatClampNeg)) (rl_ok R)) (cwV 4 hts (lw_V q145 q146 q147 q13 q148) rfl rfl rfl (by decide +kernel) ⟨(Nat.le_of_ble_eq_true rfl), (Nat.le_of_ble_eq_true rfl)⟩) rfl hl.1 rfl (Nat.le_of_ble_eq_true rfl) dL_law_308 ⟨(Nat.le_of_ble_eq_true rfl), (Nat.le_of_ble_eq_true rfl)⟩ (fun H locs hW => ?_)
  refine lv_aload_n hx hb dL_law_311 rfl (lv_at hl 2 rfl) ?_
  refine lv_aload_n hx hb dL_law_312 rfl (lv_at hl 0 rfl) ?_
  refine lv_iload_n hx hb dL_law_313 rfl (lv_at hl 3 rfl) ?_
  refine lv_iconst (v := 1) hx hb dL_law_314 (by decide) ?_
  refine lv_iadd hx hb dL_law_315 ?_
  refine va_sld hx hb hX hbl hbA hW.2.2 (ks_ix (i := i) (j := 1) (by omega) hL) dL_law_316 ?_
  refine lv_aload_n hx hb dL_law_317 rfl (lv_at hl 0 rfl) ?_
  refine lv_iload_n hx hb dL_law_318 rfl (lv_at hl 3 rfl) ?_
  refine lv_iconst (v := 2) hx hb dL_law_319 (by decide) ?_
  refine lv_iadd hx hb dL_law_320 ?_
  refine va_sld hx hb hX hbl hbA hW.2.2 (ks_ix (i := i) (j := 2) (by omega) hL) dL_law_321 ?_
  refine lv_aload_n hx hb dL_law_322 rfl (lv_at hl 0 rfl) ?_
  refine lv_iload_n hx hb dL_law_323 rfl (lv_at hl 3 rfl) ?_
  refine lv_iconst (v := 3) hx hb dL_law_324 (by decide) ?_
  refine lv_iadd hx hb dL_law_325 ?_
  refine va_sld hx hb hX hbl hbA hW.2.2 (ks_ix (i := i) (j := 3) (by omega) hL) dL_law_326 ?_
  refine lv_aload_n hx hb dL_law_327 rfl (lv_at hl 0 rfl) ?_
  refine lv_iload_n hx hb dL_law_328 rfl (lv_at hl 3 rfl) ?_
  refine lv_iconst (v := 4) hx hb dL_law_329 (by decide) ?_
  refine lv_iadd hx hb dL_law_330 ?_
  refine va_sld hx hb hX hbl hbA hW.2.2 (ks_ix (i := i) (j := 4) (by omega) hL) dL_law_331 ?_
  refine ks_callIR (C := RX2) (ci := 1) (As := [.int (xs (nI i + 1).toNatClampNeg), .int (xs (nI i + 2).toNatClampNeg), .int (xs (nI i + 3).toNatClampNeg), .int (xs (nI i + 4).toNatClampNeg)]) (rest := [.int (sv_restrict S ((xs (nI i + 1).toNatClampNeg)) ((xs (nI i + 2).toNatClampNeg)) ((xs (nI i + 3).toNatClampNeg)) ((xs (nI i + 4).toNatClampNeg))).1]) hx hb hml hown hts hK2 hA hW rfl x2_o rfl (fun sz => m2_restrict l D h2 ad2 ca2 M sz ((xs (nI i + 1).toNatClampNeg)) ((xs (nI i + 2).toNatClampNeg)) ((xs (nI i + 3).toNatClampNeg)) ((xs (nI i + 4).toNatClampNeg)) (rl_mok R)) (cwV 4 hts (lw_V q264 q265 q266 q14 q267) rfl rfl rfl (by decide +kernel) ⟨(Nat.le_of_ble_eq_true rfl), (Nat.le_of_ble_eq_true rfl)⟩) rfl hl.1 rfl (Nat.le_of_ble_eq_true rfl) dL_law_332 ⟨(Nat.le_of_ble_eq_true rfl), (Nat.le_of_ble_eq_true rfl)⟩ (fun H locs hW => ?_)
  refine lv_icmp_eq (tgt := 572) hx hb dL_law_335 (by decide) (fun _ => K_ _ _ _ _ (rl_restrict (by omega) R).2 hW) (fun c9 => absurd (rl_restrict (by omega) R).1 c9)
set_option maxHeartbeats 4000000 in
set_option maxRecDepth 100000 in
/-- the law: again -/
theorem lc_again {p : Program} {l : Launch} {e : Env} {s : State} {m : MethodId} {below : List Frame} {meth : Method} {c : Code} {D : va_G} {h1 h2 : Nat} {ad1 ad2 : Nat → Nat} {ca1 ca2 : Nat → ClassId} {b L : Nat} {xs : Nat → Int32} {Q : State → Prop} {H : Heap} {locs : List Loc} {S M : ks_St} {k i : Nat} {ls : Array Slot}
    (C0 : lw_At p s m meth c b L xs) (hK1 : va_K D vwCl (t1_ ca1) s) (hK2 : va_K D vwCl (t2_ ca2) s) (hk : k < 1000) (hi : i + 5 ≤ L) (hL : L ≤ 321) (R : rl_R k S M)
    (hW : ks_W D (w1_ h1 ad1 ca1 S ++ w2_ h2 ad2 ca2 M) (fun q : Nat => s.heap.size ≤ q) s.heap H locs) (hl : lv_has ls 4 [(0, .ref b), (1, .ref h1), (2, .ref h2), (3, .int (nI i))])
    (K_ : ∀ (S2 M2 : ks_St) (H : Heap) (locs : List Loc), rl_R (k + 1) S2 M2 → ks_W D (w1_ h1 ad1 ca1 S2 ++ w2_ h2 ad2 ca2 M2) (fun q : Nat => s.heap.size ≤ q) s.heap H locs → W p l e room_1 s m #[Value.ref b] below meth c H locs 28 256 Q (F0 m 572 ls [])) :
    W p l e room_1 s m #[Value.ref b] below meth c H locs 28 256 Q (F0 m 340 ls []) := by
  obtain ⟨hx, hb, hr, hml, hown, hts0, hX, hbl, hlocks, hgv⟩ := C0
  have hts : ∀ w ∈ lw_all, w.before #[Value.ref b] s = true := fun w h => hts0 w (lw_all_tbl h)
  have hA : ∀ q : Nat, s.heap.size ≤ q → (fun q : Nat => s.heap.size ≤ q) q := fun _ h => h
  have hbA : ¬ (fun q : Nat => s.heap.size ≤ q) b := Nat.not_le.mpr hbl
  refine lv_aload_n hx hb dL_law_340 rfl (lv_at hl 1 rfl) ?_
  refine lv_aload_n hx hb dL_law_341 rfl (lv_at hl 0 rfl) ?_
  refine lv_iload_n hx hb dL_law_342 rfl (lv_at hl 3 rfl) ?_
  refine lv_iconst (v := 1) hx hb dL_law_343 (by decide) ?_
  refine lv_iadd hx hb dL_law_344 ?_
  refine va_sld hx hb hX hbl hbA hW.2.2 (ks_ix (i := i) (j := 1) (by omega) hL) dL_law_345 ?_
  refine ks_callIL (C := RX1) (ci := 0) (As := [.int (xs (nI i + 1).toNatClampNeg)]) (rest := []) hx hb hml hown hts hK1 hA hW rfl x1_o rfl (fun sz => m1_again l D h1 ad1 ca1 S sz ((xs (nI i + 1).toNatClampNeg)) (rl_ok R)) (cwV 1 hts (lw_V q149 q150 q151 q13 q152) rfl rfl rfl (by decide +kernel) ⟨(Nat.le_of_ble_eq_true rfl), (Nat.le_of_ble_eq_true rfl)⟩) rfl hl.1 rfl (Nat.le_of_ble_eq_true rfl) dL_law_346 ⟨(Nat.le_of_ble_eq_true rfl), (Nat.le_of_ble_eq_true rfl)⟩ (fun H locs hW => ?_)
  refine lv_aload_n hx hb dL_law_349 rfl (lv_at hl 2 rfl) ?_
  refine lv_aload_n hx hb dL_law_350 rfl (lv_at hl 0 rfl) ?_
  refine lv_iload_n hx hb dL_law_351 rfl (lv_at hl 3 rfl) ?_
  refine lv_iconst (v := 1) hx hb dL_law_352 (by decide) ?_
  refine lv_iadd hx hb dL_law_353 ?_
  refine va_sld hx hb hX hbl hbA hW.2.2 (ks_ix (i := i) (j := 1) (by omega) hL) dL_law_354 ?_
  refine ks_callR (C := RX2) (ci := 1) (As := [.int (xs (nI i + 1).toNatClampNeg)]) (rest := [.int (sv_again S ((xs (nI i + 1).toNatClampNeg))).1]) hx hb hml hown hts hK2 (ks_PR hW.1) rfl x2_o rfl (m2_again l D h2 ad2 ca2 M ((xs (nI i + 1).toNatClampNeg)) ) (cwV 1 hts (lw_V q268 q269 q270 q14 q271) rfl rfl rfl (by decide +kernel) ⟨(Nat.le_of_ble_eq_true rfl), (Nat.le_of_ble_eq_true rfl)⟩) rfl hl.1 rfl (Nat.le_of_ble_eq_true rfl) dL_law_355 ⟨(Nat.le_of_ble_eq_true rfl), (Nat.le_of_ble_eq_true rfl)⟩ ?_
  refine lv_icmp_eq (tgt := 572) hx hb dL_law_358 (by decide) (fun _ => K_ _ _ _ _ (rl_again R).2 hW) (fun c9 => absurd (rl_again R).1 c9)
set_option maxHeartbeats 4000000 in
set_option maxRecDepth 100000 in
/-- the law: copy -/
theorem lc_copy {p : Program} {l : Launch} {e : Env} {s : State} {m : MethodId} {below : List Frame} {meth : Method} {c : Code} {D : va_G} {h1 h2 : Nat} {ad1 ad2 : Nat → Nat} {ca1 ca2 : Nat → ClassId} {b L : Nat} {xs : Nat → Int32} {Q : State → Prop} {H : Heap} {locs : List Loc} {S M : ks_St} {k i : Nat} {ls : Array Slot}
    (C0 : lw_At p s m meth c b L xs) (hK1 : va_K D vwCl (t1_ ca1) s) (hK2 : va_K D vwCl (t2_ ca2) s) (hk : k < 1000) (hi : i + 5 ≤ L) (hL : L ≤ 321) (R : rl_R k S M)
    (hW : ks_W D (w1_ h1 ad1 ca1 S ++ w2_ h2 ad2 ca2 M) (fun q : Nat => s.heap.size ≤ q) s.heap H locs) (hl : lv_has ls 4 [(0, .ref b), (1, .ref h1), (2, .ref h2), (3, .int (nI i))])
    (K_ : ∀ (S2 M2 : ks_St) (H : Heap) (locs : List Loc), rl_R (k + 1) S2 M2 → ks_W D (w1_ h1 ad1 ca1 S2 ++ w2_ h2 ad2 ca2 M2) (fun q : Nat => s.heap.size ≤ q) s.heap H locs → W p l e room_1 s m #[Value.ref b] below meth c H locs 28 256 Q (F0 m 572 ls [])) :
    W p l e room_1 s m #[Value.ref b] below meth c H locs 28 256 Q (F0 m 363 ls []) := by
  obtain ⟨hx, hb, hr, hml, hown, hts0, hX, hbl, hlocks, hgv⟩ := C0
  have hts : ∀ w ∈ lw_all, w.before #[Value.ref b] s = true := fun w h => hts0 w (lw_all_tbl h)
  have hA : ∀ q : Nat, s.heap.size ≤ q → (fun q : Nat => s.heap.size ≤ q) q := fun _ h => h
  have hbA : ¬ (fun q : Nat => s.heap.size ≤ q) b := Nat.not_le.mpr hbl
  refine lv_aload_n hx hb dL_law_363 rfl (lv_at hl 1 rfl) ?_
  refine lv_aload_n hx hb dL_law_364 rfl (lv_at hl 0 rfl) ?_
  refine lv_iload_n hx hb dL_law_365 rfl (lv_at hl 3 rfl) ?_
  refine lv_iconst (v := 1) hx hb dL_law_366 (by decide) ?_
  refine lv_iadd hx hb dL_law_367 ?_
  refine va_sld hx hb hX hbl hbA hW.2.2 (ks_ix (i := i) (j := 1) (by omega) hL) dL_law_368 ?_
  refine lv_aload_n hx hb dL_law_369 rfl (lv_at hl 0 rfl) ?_
  refine lv_iload_n hx hb dL_law_370 rfl (lv_at hl 3 rfl) ?_
  refine lv_iconst (v := 2) hx hb dL_law_371 (by decide) ?_
  refine lv_iadd hx hb dL_law_372 ?_
  refine va_sld hx hb hX hbl hbA hW.2.2 (ks_ix (i := i) (j := 2) (by omega) hL) dL_law_373 ?_
  refine lv_aload_n hx hb dL_law_374 rfl (lv_at hl 0 rfl) ?_
  refine lv_iload_n hx hb dL_law_375 rfl (lv_at hl 3 rfl) ?_
  refine lv_iconst (v := 3) hx hb dL_law_376 (by decide) ?_
  refine lv_iadd hx hb dL_law_377 ?_
  refine va_sld hx hb hX hbl hbA hW.2.2 (ks_ix (i := i) (j := 3) (by omega) hL) dL_law_378 ?_
  refine ks_callIL (C := RX1) (ci := 0) (As := [.int (xs (nI i + 1).toNatClampNeg), .int (xs (nI i + 2).toNatClampNeg), .int (xs (nI i + 3).toNatClampNeg)]) (rest := []) hx hb hml hown hts hK1 hA hW rfl x1_o rfl (fun sz => m1_copy l D h1 ad1 ca1 S sz ((xs (nI i + 1).toNatClampNeg)) ((xs (nI i + 2).toNatClampNeg)) ((xs (nI i + 3).toNatClampNeg)) ) (cwV 3 hts (lw_V q153 q154 q155 q13 q156) rfl rfl rfl (by decide +kernel) ⟨(Nat.le_of_ble_eq_true rfl), (Nat.le_of_ble_eq_true rfl)⟩) rfl hl.1 rfl (Nat.le_of_ble_eq_true rfl) dL_law_379 ⟨(Nat.le_of_ble_eq_true rfl), (Nat.le_of_ble_eq_true rfl)⟩ (fun H locs hW => ?_)
  refine lv_aload_n hx hb dL_law_382 rfl (lv_at hl 2 rfl) ?_
  refine lv_aload_n hx hb dL_law_383 rfl (lv_at hl 0 rfl) ?_
  refine lv_iload_n hx hb dL_law_384 rfl (lv_at hl 3 rfl) ?_
  refine lv_iconst (v := 1) hx hb dL_law_385 (by decide) ?_
  refine lv_iadd hx hb dL_law_386 ?_
  refine va_sld hx hb hX hbl hbA hW.2.2 (ks_ix (i := i) (j := 1) (by omega) hL) dL_law_387 ?_
  refine lv_aload_n hx hb dL_law_388 rfl (lv_at hl 0 rfl) ?_
  refine lv_iload_n hx hb dL_law_389 rfl (lv_at hl 3 rfl) ?_
  refine lv_iconst (v := 2) hx hb dL_law_390 (by decide) ?_
  refine lv_iadd hx hb dL_law_391 ?_
  refine va_sld hx hb hX hbl hbA hW.2.2 (ks_ix (i := i) (j := 2) (by omega) hL) dL_law_392 ?_
  refine lv_aload_n hx hb dL_law_393 rfl (lv_at hl 0 rfl) ?_
  refine lv_iload_n hx hb dL_law_394 rfl (lv_at hl 3 rfl) ?_
  refine lv_iconst (v := 3) hx hb dL_law_395 (by decide) ?_
  refine lv_iadd hx hb dL_law_396 ?_
  refine va_sld hx hb hX hbl hbA hW.2.2 (ks_ix (i := i) (j := 3) (by omega) hL) dL_law_397 ?_
  refine ks_callIR (C := RX2) (ci := 1) (As := [.int (xs (nI i + 1).toNatClampNeg), .int (xs (nI i + 2).toNatClampNeg), .int (xs (nI i + 3).toNatClampNeg)]) (rest := [.int (sv_copy S ((xs (nI i + 1).toNatClampNeg)) ((xs (nI i + 2).toNatClampNeg)) ((xs (nI i + 3).toNatClampNeg))).1]) hx hb hml hown hts hK2 hA hW rfl x2_o rfl (fun sz => m2_copy l D h2 ad2 ca2 M sz ((xs (nI i + 1).toNatClampNeg)) ((xs (nI i + 2).toNatClampNeg)) ((xs (nI i + 3).toNatClampNeg)) ) (cwV 3 hts (lw_V q272 q273 q274 q14 q275) rfl rfl rfl (by decide +kernel) ⟨(Nat.le_of_ble_eq_true rfl), (Nat.le_of_ble_eq_true rfl)⟩) rfl hl.1 rfl (Nat.le_of_ble_eq_true rfl) dL_law_398 ⟨(Nat.le_of_ble_eq_true rfl), (Nat.le_of_ble_eq_true rfl)⟩ (fun H locs hW => ?_)
  refine lv_icmp_eq (tgt := 572) hx hb dL_law_401 (by decide) (fun _ => K_ _ _ _ _ (rl_copy R).2 hW) (fun c9 => absurd (rl_copy R).1 c9)
set_option maxHeartbeats 4000000 in
set_option maxRecDepth 100000 in
/-- the law: tamper -/
theorem lc_tamper {p : Program} {l : Launch} {e : Env} {s : State} {m : MethodId} {below : List Frame} {meth : Method} {c : Code} {D : va_G} {h1 h2 : Nat} {ad1 ad2 : Nat → Nat} {ca1 ca2 : Nat → ClassId} {b L : Nat} {xs : Nat → Int32} {Q : State → Prop} {H : Heap} {locs : List Loc} {S M : ks_St} {k i : Nat} {ls : Array Slot}
    (C0 : lw_At p s m meth c b L xs) (hK1 : va_K D vwCl (t1_ ca1) s) (hK2 : va_K D vwCl (t2_ ca2) s) (hk : k < 1000) (hi : i + 5 ≤ L) (hL : L ≤ 321) (R : rl_R k S M)
    (hW : ks_W D (w1_ h1 ad1 ca1 S ++ w2_ h2 ad2 ca2 M) (fun q : Nat => s.heap.size ≤ q) s.heap H locs) (hl : lv_has ls 4 [(0, .ref b), (1, .ref h1), (2, .ref h2), (3, .int (nI i))])
    (K_ : ∀ (S2 M2 : ks_St) (H : Heap) (locs : List Loc), rl_R (k + 1) S2 M2 → ks_W D (w1_ h1 ad1 ca1 S2 ++ w2_ h2 ad2 ca2 M2) (fun q : Nat => s.heap.size ≤ q) s.heap H locs → W p l e room_1 s m #[Value.ref b] below meth c H locs 28 256 Q (F0 m 572 ls [])) :
    W p l e room_1 s m #[Value.ref b] below meth c H locs 28 256 Q (F0 m 406 ls []) := by
  obtain ⟨hx, hb, hr, hml, hown, hts0, hX, hbl, hlocks, hgv⟩ := C0
  have hts : ∀ w ∈ lw_all, w.before #[Value.ref b] s = true := fun w h => hts0 w (lw_all_tbl h)
  have hA : ∀ q : Nat, s.heap.size ≤ q → (fun q : Nat => s.heap.size ≤ q) q := fun _ h => h
  have hbA : ¬ (fun q : Nat => s.heap.size ≤ q) b := Nat.not_le.mpr hbl
  refine lv_aload_n hx hb dL_law_406 rfl (lv_at hl 1 rfl) ?_
  refine lv_aload_n hx hb dL_law_407 rfl (lv_at hl 0 rfl) ?_
  refine lv_iload_n hx hb dL_law_408 rfl (lv_at hl 3 rfl) ?_
  refine lv_iconst (v := 1) hx hb dL_law_409 (by decide) ?_
  refine lv_iadd hx hb dL_law_410 ?_
  refine va_sld hx hb hX hbl hbA hW.2.2 (ks_ix (i := i) (j := 1) (by omega) hL) dL_law_411 ?_
  refine lv_aload_n hx hb dL_law_412 rfl (lv_at hl 0 rfl) ?_
  refine lv_iload_n hx hb dL_law_413 rfl (lv_at hl 3 rfl) ?_
  refine lv_iconst (v := 2) hx hb dL_law_414 (by decide) ?_
  refine lv_iadd hx hb dL_law_415 ?_
  refine va_sld hx hb hX hbl hbA hW.2.2 (ks_ix (i := i) (j := 2) (by omega) hL) dL_law_416 ?_
  refine lv_aload_n hx hb dL_law_417 rfl (lv_at hl 0 rfl) ?_
  refine lv_iload_n hx hb dL_law_418 rfl (lv_at hl 3 rfl) ?_
  refine lv_iconst (v := 3) hx hb dL_law_419 (by decide) ?_
  refine lv_iadd hx hb dL_law_420 ?_
  refine va_sld hx hb hX hbl hbA hW.2.2 (ks_ix (i := i) (j := 3) (by omega) hL) dL_law_421 ?_
  refine ks_callIL (C := RX1) (ci := 0) (As := [.int (xs (nI i + 1).toNatClampNeg), .int (xs (nI i + 2).toNatClampNeg), .int (xs (nI i + 3).toNatClampNeg)]) (rest := []) hx hb hml hown hts hK1 hA hW rfl x1_o rfl (fun sz => m1_tamper l D h1 ad1 ca1 S sz ((xs (nI i + 1).toNatClampNeg)) ((xs (nI i + 2).toNatClampNeg)) ((xs (nI i + 3).toNatClampNeg)) ) (cwV 3 hts (lw_V q157 q158 q159 q13 q160) rfl rfl rfl (by decide +kernel) ⟨(Nat.le_of_ble_eq_true rfl), (Nat.le_of_ble_eq_true rfl)⟩) rfl hl.1 rfl (Nat.le_of_ble_eq_true rfl) dL_law_422 ⟨(Nat.le_of_ble_eq_true rfl), (Nat.le_of_ble_eq_true rfl)⟩ (fun H locs hW => ?_)
  refine lv_aload_n hx hb dL_law_425 rfl (lv_at hl 2 rfl) ?_
  refine lv_aload_n hx hb dL_law_426 rfl (lv_at hl 0 rfl) ?_
  refine lv_iload_n hx hb dL_law_427 rfl (lv_at hl 3 rfl) ?_
  refine lv_iconst (v := 1) hx hb dL_law_428 (by decide) ?_
  refine lv_iadd hx hb dL_law_429 ?_
  refine va_sld hx hb hX hbl hbA hW.2.2 (ks_ix (i := i) (j := 1) (by omega) hL) dL_law_430 ?_
  refine lv_aload_n hx hb dL_law_431 rfl (lv_at hl 0 rfl) ?_
  refine lv_iload_n hx hb dL_law_432 rfl (lv_at hl 3 rfl) ?_
  refine lv_iconst (v := 2) hx hb dL_law_433 (by decide) ?_
  refine lv_iadd hx hb dL_law_434 ?_
  refine va_sld hx hb hX hbl hbA hW.2.2 (ks_ix (i := i) (j := 2) (by omega) hL) dL_law_435 ?_
  refine lv_aload_n hx hb dL_law_436 rfl (lv_at hl 0 rfl) ?_
  refine lv_iload_n hx hb dL_law_437 rfl (lv_at hl 3 rfl) ?_
  refine lv_iconst (v := 3) hx hb dL_law_438 (by decide) ?_
  refine lv_iadd hx hb dL_law_439 ?_
  refine va_sld hx hb hX hbl hbA hW.2.2 (ks_ix (i := i) (j := 3) (by omega) hL) dL_law_440 ?_
  refine ks_callIR (C := RX2) (ci := 1) (As := [.int (xs (nI i + 1).toNatClampNeg), .int (xs (nI i + 2).toNatClampNeg), .int (xs (nI i + 3).toNatClampNeg)]) (rest := [.int (sv_tamper S ((xs (nI i + 1).toNatClampNeg)) ((xs (nI i + 2).toNatClampNeg)) ((xs (nI i + 3).toNatClampNeg))).1]) hx hb hml hown hts hK2 hA hW rfl x2_o rfl (fun sz => m2_tamper l D h2 ad2 ca2 M sz ((xs (nI i + 1).toNatClampNeg)) ((xs (nI i + 2).toNatClampNeg)) ((xs (nI i + 3).toNatClampNeg)) ) (cwV 3 hts (lw_V q276 q277 q278 q14 q279) rfl rfl rfl (by decide +kernel) ⟨(Nat.le_of_ble_eq_true rfl), (Nat.le_of_ble_eq_true rfl)⟩) rfl hl.1 rfl (Nat.le_of_ble_eq_true rfl) dL_law_441 ⟨(Nat.le_of_ble_eq_true rfl), (Nat.le_of_ble_eq_true rfl)⟩ (fun H locs hW => ?_)
  refine lv_icmp_eq (tgt := 572) hx hb dL_law_444 (by decide) (fun _ => K_ _ _ _ _ (rl_tamper R).2 hW) (fun c9 => absurd (rl_tamper R).1 c9)
set_option maxHeartbeats 4000000 in
set_option maxRecDepth 100000 in
/-- the law: clear -/
theorem lc_clear {p : Program} {l : Launch} {e : Env} {s : State} {m : MethodId} {below : List Frame} {meth : Method} {c : Code} {D : va_G} {h1 h2 : Nat} {ad1 ad2 : Nat → Nat} {ca1 ca2 : Nat → ClassId} {b L : Nat} {xs : Nat → Int32} {Q : State → Prop} {H : Heap} {locs : List Loc} {S M : ks_St} {k i : Nat} {ls : Array Slot}
    (C0 : lw_At p s m meth c b L xs) (hK1 : va_K D vwCl (t1_ ca1) s) (hK2 : va_K D vwCl (t2_ ca2) s) (hk : k < 1000) (hi : i + 5 ≤ L) (hL : L ≤ 321) (R : rl_R k S M)
    (hW : ks_W D (w1_ h1 ad1 ca1 S ++ w2_ h2 ad2 ca2 M) (fun q : Nat => s.heap.size ≤ q) s.heap H locs) (hl : lv_has ls 4 [(0, .ref b), (1, .ref h1), (2, .ref h2), (3, .int (nI i))])
    (K_ : ∀ (S2 M2 : ks_St) (H : Heap) (locs : List Loc), rl_R (k + 1) S2 M2 → ks_W D (w1_ h1 ad1 ca1 S2 ++ w2_ h2 ad2 ca2 M2) (fun q : Nat => s.heap.size ≤ q) s.heap H locs → W p l e room_1 s m #[Value.ref b] below meth c H locs 28 256 Q (F0 m 572 ls [])) :
    W p l e room_1 s m #[Value.ref b] below meth c H locs 28 256 Q (F0 m 449 ls []) := by
  obtain ⟨hx, hb, hr, hml, hown, hts0, hX, hbl, hlocks, hgv⟩ := C0
  have hts : ∀ w ∈ lw_all, w.before #[Value.ref b] s = true := fun w h => hts0 w (lw_all_tbl h)
  have hA : ∀ q : Nat, s.heap.size ≤ q → (fun q : Nat => s.heap.size ≤ q) q := fun _ h => h
  have hbA : ¬ (fun q : Nat => s.heap.size ≤ q) b := Nat.not_le.mpr hbl
  refine lv_aload_n hx hb dL_law_449 rfl (lv_at hl 1 rfl) ?_
  refine lv_aload_n hx hb dL_law_450 rfl (lv_at hl 0 rfl) ?_
  refine lv_iload_n hx hb dL_law_451 rfl (lv_at hl 3 rfl) ?_
  refine lv_iconst (v := 1) hx hb dL_law_452 (by decide) ?_
  refine lv_iadd hx hb dL_law_453 ?_
  refine va_sld hx hb hX hbl hbA hW.2.2 (ks_ix (i := i) (j := 1) (by omega) hL) dL_law_454 ?_
  refine lv_aload_n hx hb dL_law_455 rfl (lv_at hl 0 rfl) ?_
  refine lv_iload_n hx hb dL_law_456 rfl (lv_at hl 3 rfl) ?_
  refine lv_iconst (v := 2) hx hb dL_law_457 (by decide) ?_
  refine lv_iadd hx hb dL_law_458 ?_
  refine va_sld hx hb hX hbl hbA hW.2.2 (ks_ix (i := i) (j := 2) (by omega) hL) dL_law_459 ?_
  refine ks_callIL (C := RX1) (ci := 0) (As := [.int (xs (nI i + 1).toNatClampNeg), .int (xs (nI i + 2).toNatClampNeg)]) (rest := []) hx hb hml hown hts hK1 hA hW rfl x1_o rfl (fun sz => m1_clear l D h1 ad1 ca1 S sz ((xs (nI i + 1).toNatClampNeg)) ((xs (nI i + 2).toNatClampNeg)) ) (cwV 2 hts (lw_V q161 q162 q163 q13 q164) rfl rfl rfl (by decide +kernel) ⟨(Nat.le_of_ble_eq_true rfl), (Nat.le_of_ble_eq_true rfl)⟩) rfl hl.1 rfl (Nat.le_of_ble_eq_true rfl) dL_law_460 ⟨(Nat.le_of_ble_eq_true rfl), (Nat.le_of_ble_eq_true rfl)⟩ (fun H locs hW => ?_)
  refine lv_aload_n hx hb dL_law_463 rfl (lv_at hl 2 rfl) ?_
  refine lv_aload_n hx hb dL_law_464 rfl (lv_at hl 0 rfl) ?_
  refine lv_iload_n hx hb dL_law_465 rfl (lv_at hl 3 rfl) ?_
  refine lv_iconst (v := 1) hx hb dL_law_466 (by decide) ?_
  refine lv_iadd hx hb dL_law_467 ?_
  refine va_sld hx hb hX hbl hbA hW.2.2 (ks_ix (i := i) (j := 1) (by omega) hL) dL_law_468 ?_
  refine lv_aload_n hx hb dL_law_469 rfl (lv_at hl 0 rfl) ?_
  refine lv_iload_n hx hb dL_law_470 rfl (lv_at hl 3 rfl) ?_
  refine lv_iconst (v := 2) hx hb dL_law_471 (by decide) ?_
  refine lv_iadd hx hb dL_law_472 ?_
  refine va_sld hx hb hX hbl hbA hW.2.2 (ks_ix (i := i) (j := 2) (by omega) hL) dL_law_473 ?_
  refine ks_callIR (C := RX2) (ci := 1) (As := [.int (xs (nI i + 1).toNatClampNeg), .int (xs (nI i + 2).toNatClampNeg)]) (rest := [.int (sv_clear S ((xs (nI i + 1).toNatClampNeg)) ((xs (nI i + 2).toNatClampNeg))).1]) hx hb hml hown hts hK2 hA hW rfl x2_o rfl (fun sz => m2_clear l D h2 ad2 ca2 M sz ((xs (nI i + 1).toNatClampNeg)) ((xs (nI i + 2).toNatClampNeg)) ) (cwV 2 hts (lw_V q280 q281 q282 q14 q283) rfl rfl rfl (by decide +kernel) ⟨(Nat.le_of_ble_eq_true rfl), (Nat.le_of_ble_eq_true rfl)⟩) rfl hl.1 rfl (Nat.le_of_ble_eq_true rfl) dL_law_474 ⟨(Nat.le_of_ble_eq_true rfl), (Nat.le_of_ble_eq_true rfl)⟩ (fun H locs hW => ?_)
  refine lv_icmp_eq (tgt := 572) hx hb dL_law_477 (by decide) (fun _ => K_ _ _ _ _ (rl_clear R).2 hW) (fun c9 => absurd (rl_clear R).1 c9)
set_option maxHeartbeats 4000000 in
set_option maxRecDepth 100000 in
/-- the law: restart -/
theorem lc_restart {p : Program} {l : Launch} {e : Env} {s : State} {m : MethodId} {below : List Frame} {meth : Method} {c : Code} {D : va_G} {h1 h2 : Nat} {ad1 ad2 : Nat → Nat} {ca1 ca2 : Nat → ClassId} {b L : Nat} {xs : Nat → Int32} {Q : State → Prop} {H : Heap} {locs : List Loc} {S M : ks_St} {k i : Nat} {ls : Array Slot}
    (C0 : lw_At p s m meth c b L xs) (hK1 : va_K D vwCl (t1_ ca1) s) (hK2 : va_K D vwCl (t2_ ca2) s) (hk : k < 1000) (hi : i + 5 ≤ L) (hL : L ≤ 321) (R : rl_R k S M)
    (hW : ks_W D (w1_ h1 ad1 ca1 S ++ w2_ h2 ad2 ca2 M) (fun q : Nat => s.heap.size ≤ q) s.heap H locs) (hl : lv_has ls 4 [(0, .ref b), (1, .ref h1), (2, .ref h2), (3, .int (nI i))])
    (K_ : ∀ (S2 M2 : ks_St) (H : Heap) (locs : List Loc), rl_R (k + 1) S2 M2 → ks_W D (w1_ h1 ad1 ca1 S2 ++ w2_ h2 ad2 ca2 M2) (fun q : Nat => s.heap.size ≤ q) s.heap H locs → W p l e room_1 s m #[Value.ref b] below meth c H locs 28 256 Q (F0 m 572 ls [])) :
    W p l e room_1 s m #[Value.ref b] below meth c H locs 28 256 Q (F0 m 482 ls []) := by
  obtain ⟨hx, hb, hr, hml, hown, hts0, hX, hbl, hlocks, hgv⟩ := C0
  have hts : ∀ w ∈ lw_all, w.before #[Value.ref b] s = true := fun w h => hts0 w (lw_all_tbl h)
  have hA : ∀ q : Nat, s.heap.size ≤ q → (fun q : Nat => s.heap.size ≤ q) q := fun _ h => h
  have hbA : ¬ (fun q : Nat => s.heap.size ≤ q) b := Nat.not_le.mpr hbl
  refine lv_aload_n hx hb dL_law_482 rfl (lv_at hl 1 rfl) ?_
  refine ks_callVL (C := RX1) (ci := 0) (As := []) (rest := []) hx hb hml hown hts hK1 hA hW rfl x1_o rfl (fun sz => m1_restart l D h1 ad1 ca1 S sz  ) (cwV 0 hts (lw_V q165 q166 q167 q13 q168) rfl rfl rfl (by decide +kernel) ⟨(Nat.le_of_ble_eq_true rfl), (Nat.le_of_ble_eq_true rfl)⟩) rfl hl.1 rfl (Nat.le_of_ble_eq_true rfl) dL_law_483 ⟨(Nat.le_of_ble_eq_true rfl), (Nat.le_of_ble_eq_true rfl)⟩ (fun H locs hW => ?_)
  refine lv_aload_n hx hb dL_law_486 rfl (lv_at hl 2 rfl) ?_
  refine ks_callVR (C := RX2) (ci := 1) (As := []) (rest := []) hx hb hml hown hts hK2 hA hW rfl x2_o rfl (fun sz => m2_restart l D h2 ad2 ca2 M sz  ) (cwV 0 hts (lw_V q284 q285 q286 q14 q287) rfl rfl rfl (by decide +kernel) ⟨(Nat.le_of_ble_eq_true rfl), (Nat.le_of_ble_eq_true rfl)⟩) rfl hl.1 rfl (Nat.le_of_ble_eq_true rfl) dL_law_487 ⟨(Nat.le_of_ble_eq_true rfl), (Nat.le_of_ble_eq_true rfl)⟩ (fun H locs hW => ?_)
  refine lv_goto (tgt := 572) hx hb dL_law_490 (by decide) ?_
  exact K_ _ _ _ _ (rl_restart R) hW
set_option maxHeartbeats 4000000 in
set_option maxRecDepth 100000 in
/-- the law: genuine -/
theorem lc_genuine {p : Program} {l : Launch} {e : Env} {s : State} {m : MethodId} {below : List Frame} {meth : Method} {c : Code} {D : va_G} {h1 h2 : Nat} {ad1 ad2 : Nat → Nat} {ca1 ca2 : Nat → ClassId} {b L : Nat} {xs : Nat → Int32} {Q : State → Prop} {H : Heap} {locs : List Loc} {S M : ks_St} {k i : Nat} {ls : Array Slot}
    (C0 : lw_At p s m meth c b L xs) (hK1 : va_K D vwCl (t1_ ca1) s) (hK2 : va_K D vwCl (t2_ ca2) s) (hk : k < 1000) (hi : i + 5 ≤ L) (hL : L ≤ 321) (R : rl_R k S M)
    (hW : ks_W D (w1_ h1 ad1 ca1 S ++ w2_ h2 ad2 ca2 M) (fun q : Nat => s.heap.size ≤ q) s.heap H locs) (hl : lv_has ls 4 [(0, .ref b), (1, .ref h1), (2, .ref h2), (3, .int (nI i))])
    (K_ : ∀ (S2 M2 : ks_St) (H : Heap) (locs : List Loc), rl_R (k + 1) S2 M2 → ks_W D (w1_ h1 ad1 ca1 S2 ++ w2_ h2 ad2 ca2 M2) (fun q : Nat => s.heap.size ≤ q) s.heap H locs → W p l e room_1 s m #[Value.ref b] below meth c H locs 28 256 Q (F0 m 572 ls [])) :
    W p l e room_1 s m #[Value.ref b] below meth c H locs 28 256 Q (F0 m 493 ls []) := by
  obtain ⟨hx, hb, hr, hml, hown, hts0, hX, hbl, hlocks, hgv⟩ := C0
  have hts : ∀ w ∈ lw_all, w.before #[Value.ref b] s = true := fun w h => hts0 w (lw_all_tbl h)
  have hA : ∀ q : Nat, s.heap.size ≤ q → (fun q : Nat => s.heap.size ≤ q) q := fun _ h => h
  have hbA : ¬ (fun q : Nat => s.heap.size ≤ q) b := Nat.not_le.mpr hbl
  refine lv_aload_n hx hb dL_law_493 rfl (lv_at hl 1 rfl) ?_
  refine lv_aload_n hx hb dL_law_494 rfl (lv_at hl 0 rfl) ?_
  refine lv_iload_n hx hb dL_law_495 rfl (lv_at hl 3 rfl) ?_
  refine lv_iconst (v := 1) hx hb dL_law_496 (by decide) ?_
  refine lv_iadd hx hb dL_law_497 ?_
  refine va_sld hx hb hX hbl hbA hW.2.2 (ks_ix (i := i) (j := 1) (by omega) hL) dL_law_498 ?_
  refine lv_aload_n hx hb dL_law_499 rfl (lv_at hl 0 rfl) ?_
  refine lv_iload_n hx hb dL_law_500 rfl (lv_at hl 3 rfl) ?_
  refine lv_iconst (v := 2) hx hb dL_law_501 (by decide) ?_
  refine lv_iadd hx hb dL_law_502 ?_
  refine va_sld hx hb hX hbl hbA hW.2.2 (ks_ix (i := i) (j := 2) (by omega) hL) dL_law_503 ?_
  refine ks_callR (C := RX1) (ci := 0) (As := [.int (xs (nI i + 1).toNatClampNeg), .int (xs (nI i + 2).toNatClampNeg)]) (rest := []) hx hb hml hown hts hK1 (ks_PL hW.1) rfl x1_o rfl (m1_genuine l D h1 ad1 ca1 S ((xs (nI i + 1).toNatClampNeg)) ((xs (nI i + 2).toNatClampNeg)) (rl_ok R)) (cwV 2 hts (lw_V q169 q170 q171 q13 q172) rfl rfl rfl (by decide +kernel) ⟨(Nat.le_of_ble_eq_true rfl), (Nat.le_of_ble_eq_true rfl)⟩) rfl hl.1 rfl (Nat.le_of_ble_eq_true rfl) dL_law_504 ⟨(Nat.le_of_ble_eq_true rfl), (Nat.le_of_ble_eq_true rfl)⟩ ?_
  refine lv_aload_n hx hb dL_law_507 rfl (lv_at hl 2 rfl) ?_
  refine lv_aload_n hx hb dL_law_508 rfl (lv_at hl 0 rfl) ?_
  refine lv_iload_n hx hb dL_law_509 rfl (lv_at hl 3 rfl) ?_
  refine lv_iconst (v := 1) hx hb dL_law_510 (by decide) ?_
  refine lv_iadd hx hb dL_law_511 ?_
  refine va_sld hx hb hX hbl hbA hW.2.2 (ks_ix (i := i) (j := 1) (by omega) hL) dL_law_512 ?_
  refine lv_aload_n hx hb dL_law_513 rfl (lv_at hl 0 rfl) ?_
  refine lv_iload_n hx hb dL_law_514 rfl (lv_at hl 3 rfl) ?_
  refine lv_iconst (v := 2) hx hb dL_law_515 (by decide) ?_
  refine lv_iadd hx hb dL_law_516 ?_
  refine va_sld hx hb hX hbl hbA hW.2.2 (ks_ix (i := i) (j := 2) (by omega) hL) dL_law_517 ?_
  refine ks_callR (C := RX2) (ci := 1) (As := [.int (xs (nI i + 1).toNatClampNeg), .int (xs (nI i + 2).toNatClampNeg)]) (rest := [.int _]) hx hb hml hown hts hK2 (ks_PR hW.1) rfl x2_o rfl (m2_genuine l D h2 ad2 ca2 M ((xs (nI i + 1).toNatClampNeg)) ((xs (nI i + 2).toNatClampNeg)) (rl_mok R)) (cwV 2 hts (lw_V q288 q249 q250 q14 q251) rfl rfl rfl (by decide +kernel) ⟨(Nat.le_of_ble_eq_true rfl), (Nat.le_of_ble_eq_true rfl)⟩) rfl hl.1 rfl (Nat.le_of_ble_eq_true rfl) dL_law_518 ⟨(Nat.le_of_ble_eq_true rfl), (Nat.le_of_ble_eq_true rfl)⟩ ?_
  refine lv_icmp_eq (tgt := 572) hx hb dL_law_521 (by decide) (fun _ => K_ _ _ _ _ (rl_mono R) hW) (fun c9 => absurd (rl_genuine (by omega) R) c9)
set_option maxHeartbeats 4000000 in
set_option maxRecDepth 100000 in
/-- the law: rights -/
theorem lc_rights {p : Program} {l : Launch} {e : Env} {s : State} {m : MethodId} {below : List Frame} {meth : Method} {c : Code} {D : va_G} {h1 h2 : Nat} {ad1 ad2 : Nat → Nat} {ca1 ca2 : Nat → ClassId} {b L : Nat} {xs : Nat → Int32} {Q : State → Prop} {H : Heap} {locs : List Loc} {S M : ks_St} {k i : Nat} {ls : Array Slot}
    (C0 : lw_At p s m meth c b L xs) (hK1 : va_K D vwCl (t1_ ca1) s) (hK2 : va_K D vwCl (t2_ ca2) s) (hk : k < 1000) (hi : i + 5 ≤ L) (hL : L ≤ 321) (R : rl_R k S M)
    (hW : ks_W D (w1_ h1 ad1 ca1 S ++ w2_ h2 ad2 ca2 M) (fun q : Nat => s.heap.size ≤ q) s.heap H locs) (hl : lv_has ls 4 [(0, .ref b), (1, .ref h1), (2, .ref h2), (3, .int (nI i))])
    (K_ : ∀ (S2 M2 : ks_St) (H : Heap) (locs : List Loc), rl_R (k + 1) S2 M2 → ks_W D (w1_ h1 ad1 ca1 S2 ++ w2_ h2 ad2 ca2 M2) (fun q : Nat => s.heap.size ≤ q) s.heap H locs → W p l e room_1 s m #[Value.ref b] below meth c H locs 28 256 Q (F0 m 572 ls [])) :
    W p l e room_1 s m #[Value.ref b] below meth c H locs 28 256 Q (F0 m 526 ls []) := by
  obtain ⟨hx, hb, hr, hml, hown, hts0, hX, hbl, hlocks, hgv⟩ := C0
  have hts : ∀ w ∈ lw_all, w.before #[Value.ref b] s = true := fun w h => hts0 w (lw_all_tbl h)
  have hA : ∀ q : Nat, s.heap.size ≤ q → (fun q : Nat => s.heap.size ≤ q) q := fun _ h => h
  have hbA : ¬ (fun q : Nat => s.heap.size ≤ q) b := Nat.not_le.mpr hbl
  refine lv_aload_n hx hb dL_law_526 rfl (lv_at hl 1 rfl) ?_
  refine lv_aload_n hx hb dL_law_527 rfl (lv_at hl 0 rfl) ?_
  refine lv_iload_n hx hb dL_law_528 rfl (lv_at hl 3 rfl) ?_
  refine lv_iconst (v := 1) hx hb dL_law_529 (by decide) ?_
  refine lv_iadd hx hb dL_law_530 ?_
  refine va_sld hx hb hX hbl hbA hW.2.2 (ks_ix (i := i) (j := 1) (by omega) hL) dL_law_531 ?_
  refine lv_aload_n hx hb dL_law_532 rfl (lv_at hl 0 rfl) ?_
  refine lv_iload_n hx hb dL_law_533 rfl (lv_at hl 3 rfl) ?_
  refine lv_iconst (v := 2) hx hb dL_law_534 (by decide) ?_
  refine lv_iadd hx hb dL_law_535 ?_
  refine va_sld hx hb hX hbl hbA hW.2.2 (ks_ix (i := i) (j := 2) (by omega) hL) dL_law_536 ?_
  refine ks_callR (C := RX1) (ci := 0) (As := [.int (xs (nI i + 1).toNatClampNeg), .int (xs (nI i + 2).toNatClampNeg)]) (rest := []) hx hb hml hown hts hK1 (ks_PL hW.1) rfl x1_o rfl (m1_rights l D h1 ad1 ca1 S ((xs (nI i + 1).toNatClampNeg)) ((xs (nI i + 2).toNatClampNeg)) ) (cwV 2 hts (lw_V q173 q174 q175 q13 q176) rfl rfl rfl (by decide +kernel) ⟨(Nat.le_of_ble_eq_true rfl), (Nat.le_of_ble_eq_true rfl)⟩) rfl hl.1 rfl (Nat.le_of_ble_eq_true rfl) dL_law_537 ⟨(Nat.le_of_ble_eq_true rfl), (Nat.le_of_ble_eq_true rfl)⟩ ?_
  refine lv_aload_n hx hb dL_law_540 rfl (lv_at hl 2 rfl) ?_
  refine lv_aload_n hx hb dL_law_541 rfl (lv_at hl 0 rfl) ?_
  refine lv_iload_n hx hb dL_law_542 rfl (lv_at hl 3 rfl) ?_
  refine lv_iconst (v := 1) hx hb dL_law_543 (by decide) ?_
  refine lv_iadd hx hb dL_law_544 ?_
  refine va_sld hx hb hX hbl hbA hW.2.2 (ks_ix (i := i) (j := 1) (by omega) hL) dL_law_545 ?_
  refine lv_aload_n hx hb dL_law_546 rfl (lv_at hl 0 rfl) ?_
  refine lv_iload_n hx hb dL_law_547 rfl (lv_at hl 3 rfl) ?_
  refine lv_iconst (v := 2) hx hb dL_law_548 (by decide) ?_
  refine lv_iadd hx hb dL_law_549 ?_
  refine va_sld hx hb hX hbl hbA hW.2.2 (ks_ix (i := i) (j := 2) (by omega) hL) dL_law_550 ?_
  refine ks_callR (C := RX2) (ci := 1) (As := [.int (xs (nI i + 1).toNatClampNeg), .int (xs (nI i + 2).toNatClampNeg)]) (rest := [.int _]) hx hb hml hown hts hK2 (ks_PR hW.1) rfl x2_o rfl (m2_rights l D h2 ad2 ca2 M ((xs (nI i + 1).toNatClampNeg)) ((xs (nI i + 2).toNatClampNeg)) ) (cwV 2 hts (lw_V q289 q290 q291 q14 q292) rfl rfl rfl (by decide +kernel) ⟨(Nat.le_of_ble_eq_true rfl), (Nat.le_of_ble_eq_true rfl)⟩) rfl hl.1 rfl (Nat.le_of_ble_eq_true rfl) dL_law_551 ⟨(Nat.le_of_ble_eq_true rfl), (Nat.le_of_ble_eq_true rfl)⟩ ?_
  refine lv_icmp_eq (tgt := 572) hx hb dL_law_554 (by decide) (fun _ => K_ _ _ _ _ (rl_mono R) hW) (fun c9 => absurd (rl_rights R) c9)
set_option maxHeartbeats 4000000 in
set_option maxRecDepth 100000 in
/-- the law: alive -/
theorem lc_alive {p : Program} {l : Launch} {e : Env} {s : State} {m : MethodId} {below : List Frame} {meth : Method} {c : Code} {D : va_G} {h1 h2 : Nat} {ad1 ad2 : Nat → Nat} {ca1 ca2 : Nat → ClassId} {b L : Nat} {xs : Nat → Int32} {Q : State → Prop} {H : Heap} {locs : List Loc} {S M : ks_St} {k i : Nat} {ls : Array Slot}
    (C0 : lw_At p s m meth c b L xs) (hK1 : va_K D vwCl (t1_ ca1) s) (hK2 : va_K D vwCl (t2_ ca2) s) (hk : k < 1000) (hi : i + 5 ≤ L) (hL : L ≤ 321) (R : rl_R k S M)
    (hW : ks_W D (w1_ h1 ad1 ca1 S ++ w2_ h2 ad2 ca2 M) (fun q : Nat => s.heap.size ≤ q) s.heap H locs) (hl : lv_has ls 4 [(0, .ref b), (1, .ref h1), (2, .ref h2), (3, .int (nI i))])
    (K_ : ∀ (S2 M2 : ks_St) (H : Heap) (locs : List Loc), rl_R (k + 1) S2 M2 → ks_W D (w1_ h1 ad1 ca1 S2 ++ w2_ h2 ad2 ca2 M2) (fun q : Nat => s.heap.size ≤ q) s.heap H locs → W p l e room_1 s m #[Value.ref b] below meth c H locs 28 256 Q (F0 m 572 ls [])) :
    W p l e room_1 s m #[Value.ref b] below meth c H locs 28 256 Q (F0 m 559 ls []) := by
  obtain ⟨hx, hb, hr, hml, hown, hts0, hX, hbl, hlocks, hgv⟩ := C0
  have hts : ∀ w ∈ lw_all, w.before #[Value.ref b] s = true := fun w h => hts0 w (lw_all_tbl h)
  have hA : ∀ q : Nat, s.heap.size ≤ q → (fun q : Nat => s.heap.size ≤ q) q := fun _ h => h
  have hbA : ¬ (fun q : Nat => s.heap.size ≤ q) b := Nat.not_le.mpr hbl
  refine lv_aload_n hx hb dL_law_559 rfl (lv_at hl 1 rfl) ?_
  refine ks_callR (C := RX1) (ci := 0) (As := []) (rest := []) hx hb hml hown hts hK1 (ks_PL hW.1) rfl x1_o rfl (m1_alive l D h1 ad1 ca1 S  ) (cwV 0 hts (lw_V q177 q178 q179 q13 q180) rfl rfl rfl (by decide +kernel) ⟨(Nat.le_of_ble_eq_true rfl), (Nat.le_of_ble_eq_true rfl)⟩) rfl hl.1 rfl (Nat.le_of_ble_eq_true rfl) dL_law_560 ⟨(Nat.le_of_ble_eq_true rfl), (Nat.le_of_ble_eq_true rfl)⟩ ?_
  refine lv_aload_n hx hb dL_law_563 rfl (lv_at hl 2 rfl) ?_
  refine ks_callR (C := RX2) (ci := 1) (As := []) (rest := [.int _]) hx hb hml hown hts hK2 (ks_PR hW.1) rfl x2_o rfl (m2_alive l D h2 ad2 ca2 M  ) (cwV 0 hts (lw_V q293 q294 q295 q14 q296) rfl rfl rfl (by decide +kernel) ⟨(Nat.le_of_ble_eq_true rfl), (Nat.le_of_ble_eq_true rfl)⟩) rfl hl.1 rfl (Nat.le_of_ble_eq_true rfl) dL_law_564 ⟨(Nat.le_of_ble_eq_true rfl), (Nat.le_of_ble_eq_true rfl)⟩ ?_
  refine lv_icmp_eq (tgt := 572) hx hb dL_law_567 (by decide) (fun _ => K_ _ _ _ _ (rl_mono R) hW) (fun c9 => absurd (rl_alive R) c9)
end
section
/-! part 23: the law: its loop, its start -/
set_option maxHeartbeats 4000000 in
set_option maxRecDepth 100000 in
/-- THE LAW'S LOOP, at its head after k calls -/
theorem law_loop {p : Program} {l : Launch} {e : Env} {s : State} {m : MethodId} {below : List Frame} {meth : Method} {c : Code} {D : va_G} {h1 h2 : Nat} {ad1 ad2 : Nat → Nat} {ca1 ca2 : Nat → ClassId} {b L : Nat} {xs : Nat → Int32}
    (C0 : lw_At p s m meth c b L xs) (hK1 : va_K D vwCl (t1_ ca1) s) (hK2 : va_K D vwCl (t2_ ca2) s) (hL : L ≤ 321) :
    ∀ (n k : Nat), 5 * k ≤ L → L + 5 ≤ 5 * (k + n) → ∀ (S M : ks_St), rl_R k S M → ∀ (H : Heap) (locs : List Loc), ks_W D (w1_ h1 ad1 ca1 S ++ w2_ h2 ad2 ca2 M) (fun q : Nat => s.heap.size ≤ q) s.heap H locs → ∀ (ls : Array Slot), lv_has ls 4 [(0, .ref b), (1, .ref h1), (2, .ref h2), (3, .int (nI (1 + 5 * k)))] →
      W p l e room_1 s m #[Value.ref b] below meth c H locs 28 256 (lw_Z below #[Value.ref b] s) (F0 m 28 ls []) := by
  obtain ⟨hx, hb, hr, hml, hown, hts0, hX, hbl, hlocks, hgv⟩ := id C0
  have hbA : ¬ (fun q : Nat => s.heap.size ≤ q) b := Nat.not_le.mpr hbl
  intro n
  induction n with
  | zero =>
    intro k h1 h2
    exact absurd h2 (by omega)
  | succ n ih =>
    intro k hk1 hk2 S M R H locs hW ls hl
    refine lv_iload_n hx hb dL_law_28 rfl (lv_at hl 3 rfl) ?_
    refine lv_aload_n hx hb dL_law_29 rfl (lv_at hl 0 rfl) ?_
    refine va_slen hx hb hX hbl hbA hW.2.2 dL_law_30 ?_
    refine lv_iconst (v := 5) hx hb dL_law_31 (by decide) ?_
    refine lv_isub hx hb dL_law_32 ?_
    refine lv_icmp_gt (tgt := 578) hx hb dL_law_33 (by decide) (fun c_1 => ?_) (fun c_1 => ?_)
    · refine lv_iconst (v := 1) hx hb dL_law_578 (by decide) ?_
      refine va_forget (fun q hq => hW.2.2.2.2 q hq) ?_
      refine W.widen (k := 600000) (n := 7290000) (Nat.le_of_ble_eq_true rfl) (Nat.le_of_ble_eq_true rfl) ?_
      exact lw_ret hx hb hr hlocks dL_law_579
    · have hi := ks_go hL (by omega) c_1
      have Kx : ∀ (S2 M2 : ks_St) (H : Heap) (locs : List Loc), rl_R (k + 1) S2 M2 → ks_W D (w1_ h1 ad1 ca1 S2 ++ w2_ h2 ad2 ca2 M2) (fun q : Nat => s.heap.size ≤ q) s.heap H locs → W p l e room_1 s m #[Value.ref b] below meth c H locs 28 256 (lw_Z below #[Value.ref b] s) (F0 m 572 ls []) := by
        intro S2 M2 H locs R2 hW2
        refine lv_iinc (v := nI (1 + 5 * (k + 1))) (lv' := [(3, .int (nI (1 + 5 * (k + 1)))), (0, .ref b), (1, .ref h1), (2, .ref h2)]) hx hb dL_law_572 hl (k := 3) rfl (by rw [show 1 + 5 * (k + 1) = (1 + 5 * k) + 5 by omega, ← nI_add (1 + 5 * k) 5]; rfl) (by decide) rfl (fun ls hl => ?_)
        refine lv_goto (tgt := 28) hx hb dL_law_575 (by decide) ?_
        exact ih (k + 1) (by omega) (by omega) S2 M2 R2 H locs hW2 ls (lv_sub hl [1, 2, 3, 0] rfl)
      refine lv_aload_n hx hb dL_law_36 rfl (lv_at hl 0 rfl) ?_
      refine lv_iload_n hx hb dL_law_37 rfl (lv_at hl 3 rfl) ?_
      refine va_sld hx hb hX hbl hbA hW.2.2 (vp_in_nI (by omega) (by omega)) dL_law_38 ?_
      refine lv_bipush (v := 15) hx hb dL_law_39 (by decide) ?_
      refine lv_iand hx hb dL_law_41 ?_
      refine lv_topi (fun w ew => ?_)
      obtain ⟨j, hj, ej⟩ := pk_andE (xs (nI (1 + 5 * k)).toNatClampNeg) (m := 15) 4 rfl
      rw [ej] at ew
      have hj : j < 16 := hj
      have hkk : k < 1000 := by omega
      rcases (show j = 0 ∨ j = 1 ∨ j = 2 ∨ j = 3 ∨ j = 4 ∨ j = 5 ∨ j = 6 ∨ j = 7 ∨ j = 8 ∨ j = 9 ∨ j = 10 ∨ j = 11 ∨ j = 12 ∨ j = 13 ∨ j = 14 ∨ j = 15 by omega) with rfl | rfl | rfl | rfl | rfl | rfl | rfl | rfl | rfl | rfl | rfl | rfl | rfl | rfl | rfl | rfl
      · refine lv_tableIn (off := 70) (tgt := 112) hx hb dL_law_42 (by rw [ew]; decide) (by rw [ew]; decide) (by rw [ew]; decide) (by decide) ?_
        exact lc_create C0 hK1 hK2 hkk hi hL R hW hl Kx
      · refine lv_tableIn (off := 103) (tgt := 145) hx hb dL_law_42 (by rw [ew]; decide) (by rw [ew]; decide) (by rw [ew]; decide) (by decide) ?_
        exact lc_read C0 hK1 hK2 hkk hi hL R hW hl Kx
      · refine lv_tableIn (off := 136) (tgt := 178) hx hb dL_law_42 (by rw [ew]; decide) (by rw [ew]; decide) (by rw [ew]; decide) (by decide) ?_
        exact lc_add C0 hK1 hK2 hkk hi hL R hW hl Kx
      · refine lv_tableIn (off := 179) (tgt := 221) hx hb dL_law_42 (by rw [ew]; decide) (by rw [ew]; decide) (by rw [ew]; decide) (by decide) ?_
        exact lc_destroy C0 hK1 hK2 hkk hi hL R hW hl Kx
      · refine lv_tableIn (off := 212) (tgt := 254) hx hb dL_law_42 (by rw [ew]; decide) (by rw [ew]; decide) (by rw [ew]; decide) (by decide) ?_
        exact lc_revoke C0 hK1 hK2 hkk hi hL R hW hl Kx
      · refine lv_tableIn (off := 245) (tgt := 287) hx hb dL_law_42 (by rw [ew]; decide) (by rw [ew]; decide) (by rw [ew]; decide) (by decide) ?_
        exact lc_restrict C0 hK1 hK2 hkk hi hL R hW hl Kx
      · refine lv_tableIn (off := 298) (tgt := 340) hx hb dL_law_42 (by rw [ew]; decide) (by rw [ew]; decide) (by rw [ew]; decide) (by decide) ?_
        exact lc_again C0 hK1 hK2 hkk hi hL R hW hl Kx
      · refine lv_tableIn (off := 321) (tgt := 363) hx hb dL_law_42 (by rw [ew]; decide) (by rw [ew]; decide) (by rw [ew]; decide) (by decide) ?_
        exact lc_copy C0 hK1 hK2 hkk hi hL R hW hl Kx
      · refine lv_tableIn (off := 364) (tgt := 406) hx hb dL_law_42 (by rw [ew]; decide) (by rw [ew]; decide) (by rw [ew]; decide) (by decide) ?_
        exact lc_tamper C0 hK1 hK2 hkk hi hL R hW hl Kx
      · refine lv_tableIn (off := 407) (tgt := 449) hx hb dL_law_42 (by rw [ew]; decide) (by rw [ew]; decide) (by rw [ew]; decide) (by decide) ?_
        exact lc_clear C0 hK1 hK2 hkk hi hL R hW hl Kx
      · refine lv_tableIn (off := 440) (tgt := 482) hx hb dL_law_42 (by rw [ew]; decide) (by rw [ew]; decide) (by rw [ew]; decide) (by decide) ?_
        exact lc_restart C0 hK1 hK2 hkk hi hL R hW hl Kx
      · refine lv_tableIn (off := 451) (tgt := 493) hx hb dL_law_42 (by rw [ew]; decide) (by rw [ew]; decide) (by rw [ew]; decide) (by decide) ?_
        exact lc_genuine C0 hK1 hK2 hkk hi hL R hW hl Kx
      · refine lv_tableIn (off := 484) (tgt := 526) hx hb dL_law_42 (by rw [ew]; decide) (by rw [ew]; decide) (by rw [ew]; decide) (by decide) ?_
        exact lc_rights C0 hK1 hK2 hkk hi hL R hW hl Kx
      · refine lv_tableIn (off := 517) (tgt := 559) hx hb dL_law_42 (by rw [ew]; decide) (by rw [ew]; decide) (by rw [ew]; decide) (by decide) ?_
        exact lc_alive C0 hK1 hK2 hkk hi hL R hW hl Kx
      · refine lv_tableOut (tgt := 572) hx hb dL_law_42 (Or.inr (by rw [ew]; decide)) (by decide) ?_
        exact Kx S M H locs (rl_mono R) hW
      · refine lv_tableOut (tgt := 572) hx hb dL_law_42 (Or.inr (by rw [ew]; decide)) (by decide) ?_
        exact Kx S M H locs (rl_mono R) hW
/-- a call of cell(script, 0) -/
theorem ks_cell {p : Program} {l : Launch} {e : Env} {s : State} {m : MethodId} {below : List Frame} {meth : Method} {c : Code} {b L : Nat} {xs : Nat → Int32} {H : Heap} {locs : List Loc} {cells slots pc : Nat} {Q : State → Prop} {ls : Array Slot} {rest : List Value}
    (C0 : lw_At p s m meth c b L xs) (hS : va_S (fun q : Nat => s.heap.size ≤ q) s.heap H locs) (hsize : ls.size = 4) (hroom : (rest.map fun v => v.category).sum ≤ 8) (hdg : decode cL_law pc = .ok (.invokestatic 9, 3)) (hf : cells ≤ room_1.cells ∧ slots ≤ room_1.slots)
    (kk : W p l e room_1 s m #[Value.ref b] below meth c H locs cells slots Q (F0 m (pc + 3) ls (.int (ks_seed L xs) :: rest))) : W p l e room_1 s m #[Value.ref b] below meth c H locs cells slots Q (F0 m pc ls (.int 0 :: .ref b :: rest)) := by
  obtain ⟨hx, hb, hr, hml, hown, hts0, hX, hbl, hlocks, hgv⟩ := C0
  have hts : ∀ w ∈ lw_all, w.before #[Value.ref b] s = true := fun w h => hts0 w (lw_all_tbl h)
  have hX1 : va_X b L xs s H := hX.kept (hS.2.1 b hbl (Nat.not_le.mpr hbl))
  exact W.callR (W.runS (Ts := lw_all) (As := [.ref b, .int 0]) (rest := rest) (g := F0 m pc ls (.int 0 :: .ref b :: rest)) ⟨hx, hb, hml, hown, hts⟩ (m0_cell l b L xs) (va_cwS 2 hts (lw_S q181 q182 q12 q183) rfl rfl rfl (by decide +kernel) ⟨(Nat.le_of_ble_eq_true rfl), (Nat.le_of_ble_eq_true rfl)⟩) ⟨fun a U g mk z => ⟨z.1, va_X.moved (u := U) (U := U.calling g mk a) (Vm.Alike.refl U.vm) z.2⟩, fun U hU hWm => ⟨rfl, by show va_X b L xs U U.heap; rw [hU]; exact va_X.moved hWm.alike hX1⟩⟩ rfl rfl hsize rfl (lv_room hroom) hdg hf) kk
set_option maxHeartbeats 8000000 in
set_option maxRecDepth 100000 in
theorem whole_start {p : Program} {e : Env} {s : State} {m : MethodId} {below : List Frame} {meth : Method} {c : Code} (l : Launch) {b L : Nat} {xs : Nat → Int32} (hL : L ≤ 321) (C0 : lw_At p s m meth c b L xs) : W p l e room_1 s m #[Value.ref b] below meth c s.heap [] 0 0 (lw_Z below #[Value.ref b] s) (entryFrame m ([Value.ref b] : List Value).toArray 4) := by
  obtain ⟨hx, hb, hr, hml, hown, hts0, hX, hbl, hlocks, hgv⟩ := id C0
  have hts : ∀ w ∈ lw_all, w.before #[Value.ref b] s = true := fun w h => hts0 w (lw_all_tbl h)
  have hA : ∀ q : Nat, s.heap.size ≤ q → (fun q : Nat => s.heap.size ≤ q) q := fun _ h => h
  obtain ⟨c0, iS0, hKn0⟩ := u_known (C := RX1) (T := TX1) (N := 17) (n := 17) hts in_X1 (hts _ q16)
  obtain ⟨c1, iS1, hKn1⟩ := u_known (C := RX2) (T := TX2) (N := 11) (n := 11) hts in_X2 (hts _ q185)
  obtain ⟨D, hKc⟩ : ∃ D : va_G, ∀ (k : Nat) (q : vw_C), vwCl[k]? = some q → u_Kn s q.1 q.2.1 q.2.2 (D.1 k) (D.2 k) := by
    refine ⟨(fun k => if k = 0 then c0 else c1, fun k => if k = 0 then iS0 else iS1), ?_⟩
    intro k q hq
    match k, hq with
    | 0, hq => cases hq; exact hKn0
    | 1, hq => cases hq; exact hKn1
    | k + 2, hq => simp [vwCl] at hq
  have hS : va_S (fun q : Nat => s.heap.size ≤ q) s.heap s.heap [] := va_S.rf
  have hK : va_K D vwCl [] s := ⟨hKc, fun k q h => by simp at h⟩
  have hP : va_P D vwCl [] s.heap := fun k q h => by simp at h
  have hD : va_D (fun q : Nat => s.heap.size ≤ q) [] := ⟨fun i j p q h => by simp at h, fun k q h => by simp at h⟩
  have hl := lv_entry ([.ref b]) (n := 4) (Nat.le_of_ble_eq_true rfl)
  rw [lg_entry_eq]
  generalize (lg_sl ([.ref b]) ++ List.replicate (4 - (lg_sl ([.ref b])).length) Slot.unset).toArray = ls at hl ⊢
  have hl : lv_has ls 4 [(0, .ref b)] := hl
  refine va_new (D := D) (cl := vwCl) (ci := 0) (fs := x1_f0) (C := RX1) (T := TX1) (N := 17) hx hb hts in_X1 tyX1 tyX1_ok hown (hts _ q15) (hts _ q16) (hts _ q13) hK hP hD hS hA rfl x1_def (Nat.le_of_ble_eq_true rfl) (Nat.le_of_ble_eq_true rfl) dL_law_0 (fun h1 H hP hD hS => ?_)
  have hP : va_P D vwCl [(h1, .inr (0, x1_f0))] H := hP
  have hD : va_D (fun q : Nat => s.heap.size ≤ q) [(h1, .inr (0, x1_f0))] := hD
  refine W.widen (k := 1) (n := 17) (Nat.le_of_ble_eq_true rfl) (Nat.le_of_ble_eq_true rfl) ?_
  refine lv_dup hx hb dL_law_3 rfl ?_
  refine lv_aload_n hx hb dL_law_4 rfl (lv_at hl 0 rfl) ?_
  refine lv_iconst (v := 0) hx hb dL_law_5 (by decide) ?_
  refine ks_cell C0 hS hl.1 (Nat.le_of_ble_eq_true rfl) dL_law_6 ⟨(Nat.le_of_ble_eq_true rfl), (Nat.le_of_ble_eq_true rfl)⟩ ?_
  have hFc := ks_free hD hS hA
  refine va_callv (va_runI (Ts := lw_all) (As := [.int (ks_seed L xs)]) (rest := [.ref h1]) ⟨hx, hb, hml, hown, hts⟩ (m1_init l D h1 H.size (ks_seed L xs)) (cwI 1 hts (lw_meth q19) rfl rfl rfl (hts _ q13) (hts _ q17) (hts _ q18) rfl (by decide +kernel) ⟨(Nat.le_of_ble_eq_true rfl), (Nat.le_of_ble_eq_true rfl)⟩) ⟨ks_blind, fun U hU hWm => ⟨rfl, by rw [hU], by rw [hU]; exact hP, va_K.moved hWm.alike hK, hD.weaken (fun _ _ _ _ => trivial)⟩⟩ rfl rfl hl.1 rfl (lv_room (Nat.le_of_ble_eq_true rfl)) dL_law_9 ⟨(Nat.le_of_ble_eq_true rfl), (Nat.le_of_ble_eq_true rfl)⟩) hS (fun q _ h => hFc q h) hFc (fun u t H1 locs ht hvm hw hB hz hk hS => ?_)
  obtain ⟨ad1, ca1⟩ := u
  obtain ⟨hP1, hKa, hD1⟩ := hB
  rw [ht] at hP1
  have hK1 : va_K D vwCl (t1_ ca1) s := va_K.moved hvm.symm hKa
  have hP : va_P D vwCl (w1_ h1 ad1 ca1 (sv_init (ks_seed L xs))) H1 := hP1
  have hD : va_D (fun q : Nat => s.heap.size ≤ q) (w1_ h1 ad1 ca1 (sv_init (ks_seed L xs))) := hD1.weaken (fun k q _ h => hFc q.1 h)
  clear hP1 hD1 hFc hk hz ht hKa
  generalize H1 = H at hP hS ⊢
  refine W.widen (k := 16) (n := 121) (Nat.le_of_ble_eq_true rfl) (Nat.le_of_ble_eq_true rfl) ?_
  refine lv_astore_n (lv' := [(1, .ref h1), (0, .ref b)]) hx hb dL_law_12 rfl hl (by decide) rfl (fun ls hl => ?_)
  refine va_new (D := D) (cl := vwCl) (ci := 1) (fs := x2_f0) (C := RX2) (T := TX2) (N := 11) hx hb hts in_X2 tyX2 tyX2_ok hown (hts _ q184) (hts _ q185) (hts _ q14) hK hP hD hS hA rfl x2_def (Nat.le_of_ble_eq_true rfl) (Nat.le_of_ble_eq_true rfl) dL_law_13 (fun h2 H hP hD hS => ?_)
  refine W.widen (k := 17) (n := 132) (Nat.le_of_ble_eq_true rfl) (Nat.le_of_ble_eq_true rfl) ?_
  refine lv_dup hx hb dL_law_16 rfl ?_
  refine lv_aload_n hx hb dL_law_17 rfl (lv_at hl 1 rfl) ?_
  refine lv_iconst (v := 0) hx hb dL_law_18 (by decide) ?_
  refine ks_cell C0 hS hl.1 (Nat.le_of_ble_eq_true rfl) dL_law_19 ⟨(Nat.le_of_ble_eq_true rfl), (Nat.le_of_ble_eq_true rfl)⟩ ?_
  have hPc := ks_PR hP
  have hDc := ks_DR hD
  have hFc := ks_free hDc hS hA
  refine va_callv (va_runI (Ts := lw_all) (As := [.int (ks_seed L xs)]) (rest := [.ref h2]) ⟨hx, hb, hml, hown, hts⟩ (m2_init l D h2 H.size (ks_seed L xs)) (cwI 1 hts (lw_meth q188) rfl rfl rfl (hts _ q14) (hts _ q186) (hts _ q187) rfl (by decide +kernel) ⟨(Nat.le_of_ble_eq_true rfl), (Nat.le_of_ble_eq_true rfl)⟩) ⟨ks_blind, fun U hU hWm => ⟨rfl, by rw [hU], by rw [hU]; exact hPc, va_K.moved hWm.alike hK, hDc.weaken (fun _ _ _ _ => trivial)⟩⟩ rfl rfl hl.1 rfl (lv_room (Nat.le_of_ble_eq_true rfl)) dL_law_22 ⟨(Nat.le_of_ble_eq_true rfl), (Nat.le_of_ble_eq_true rfl)⟩) hS (fun q _ h => hFc q h) hFc (fun u t H1 locs ht hvm hw hB hz hk hS => ?_)
  obtain ⟨ad2, ca2⟩ := u
  obtain ⟨hP1, hKa, hD1⟩ := hB
  rw [ht] at hP1
  have hK2 : va_K D vwCl (t2_ ca2) s := va_K.moved hvm.symm hKa
  obtain ⟨hP2, hD2⟩ := ks_joinR hP hD hk hFc hP1 hD1
  have hW : ks_W D (w1_ h1 ad1 ca1 (sv_init (ks_seed L xs)) ++ w2_ h2 ad2 ca2 mo_init) (fun q : Nat => s.heap.size ≤ q) s.heap H1 locs := ⟨hP2, hD2, hS⟩
  refine W.widen (k := 28) (n := 256) (Nat.le_of_ble_eq_true rfl) (Nat.le_of_ble_eq_true rfl) ?_
  refine lv_astore_n (lv' := [(2, .ref h2), (1, .ref h1), (0, .ref b)]) hx hb dL_law_25 rfl hl (by decide) rfl (fun ls hl => ?_)
  refine lv_iconst (v := 1) hx hb dL_law_26 (by decide) ?_
  refine lv_istore_n (lv' := [(3, .int 1), (2, .ref h2), (1, .ref h1), (0, .ref b)]) hx hb dL_law_27 rfl hl (by decide) rfl (fun ls hl => ?_)
  exact law_loop C0 hK1 hK2 hL 100 0 (by omega) (by omega) _ _ (rl_start _) H1 locs hW ls (lv_sub hl [3, 2, 1, 0] rfl)
end
section
/-! part 24: the claim (the skeleton's end) -/
set_option maxHeartbeats 4000000 in
theorem lw_walk (l : Launch) (b : Addr) (xs : List Int32) : MetFree l x (headSpec (Jvm.Cond.code x code maxLocals ret :: tables_1) room_1) (lw_P b xs) (fun _ _ _ _ _ => True) lw_Q := by
  refine MetFree.of_bodyS (code := code) (maxLocals := maxLocals) (ret := ret) (by decide) ?_ ?_
  · intro args s m h hn
    obtain ⟨meth, c, h1, h2, h3, h4, h5, h6, -, -⟩ := Cond.code_spec hn (atoms_spec (ws := Jvm.Cond.code x code maxLocals ret :: tables_1) h _ List.mem_cons_self)
    exact ⟨meth, c, h1, h2, h3, h4, h5, h6⟩
  · intro p e s m args below meth c s₁ B hml0 hP _
    obtain ⟨rfl, hx, hbd, hgv⟩ := hP
    obtain ⟨scr, harrAt, hlist, hof, hsmall⟩ := hx
    obtain ⟨hcb, hkn, -, -⟩ := State.arrayAt?_spec harrAt
    have hown : s.vm.findClass R_law = some m.cls := findClass_of_methodNamed B.named
    have hts0 : ∀ c ∈ (Jvm.Cond.code x code maxLocals ret :: tables_1), c.before #[Value.ref b] s = true := atoms_spec (ws := Jvm.Cond.code x code maxLocals ret :: tables_1) B.pre
    have hts : ∀ w ∈ lw_tbl, w.before #[Value.ref b] s = true := k2_hts_sels lw_privs (fun w hw => hts0 w (List.mem_cons_of_mem _ hw)) lw_privs_ok
    have hml : c.maxLocals = 4 := B.maxLocals_eq (hts0 _ List.mem_cons_self)
    have X₀ : Stand p l e room_1 s m #[Value.ref b] below meth c s₁ [] 0 0 := Stand.of_body B
    have hh0 : s₁.heap = s.heap := by rw [B.state]; rfl
    have hsz : scr.slots.size = xs.length := by rw [← Array.length_toList, hlist, List.length_map]
    have hval : ∀ j : Nat, j < xs.length → scr.slots[j]? = some (.int (xs.getD j 0)) := fun j hj => by
      rw [← Array.getElem?_toList, hlist]
      simp [hj]
    have hbl : b < s.heap.size := (Array.getElem?_eq_some_iff.mp hcb).1
    have hX : va_X b xs.length (fun j => xs.getD j 0) s s.heap := ⟨scr, hcb, hof, hkn, hsz, hval⟩
    have K : W p l e room_1 s m #[Value.ref b] below meth c s₁.heap [] 0 0 (lw_Z below #[Value.ref b] s) (entryFrame m ([Value.ref b] : List Value).toArray 4) := by
      rw [hh0]
      exact whole_start l hbd ⟨B.exec, B.bytes, B.returns, hml, hown, hts, hX, hbl, B.notSynchronized, hgv⟩
    obtain ⟨t, a1, o, b1, b2, b3⟩ := K s₁ rfl X₀
    exact ⟨t, o, a1, b1, b2, b3⟩
theorem lw_pre_spec {args : Array Value} {s : State} (h : (Jvm.Cond.and given_1 narrow_1).before args s = true) (hr : rest_1_c.before args s = true) : ∃ (b : Addr) (xs : List Int32), lw_P b xs args s := by
  have hs := flat_of_before _ h
  have hq := flat_of_before _ hr
  have hc : (Cond.count 1).before args s = true := hs _ (by decide +kernel)
  have harr : (Cond.arrayOf (.arg 0) .int).before args s = true := hs _ (by decide +kernel)
  have hle : (Cond.le (.length (.arg 0)) (.int 321)).before args s = true := hs _ (by decide +kernel)
  have hlen : (Cond.isInt (.length (.arg 0))).before args s = true := hq _ (by decide +kernel)
  have hall : (Cond.all (.arg 0) (.isInt (.elem (.arg 0) (.index 0)))).before args s = true := hq _ (by decide +kernel)
  obtain ⟨b, xs, hb, hx⟩ := State.ints_of_pre rfl harr hlen hall
  have hsm : xs.length < 2 ^ 31 := hx.choose_spec.2.2.2
  have hev : (Term.length (.arg 0)).eval args s none [] s = some (.int xs.length.toInt32) := hx.length_eval hb
  have hv := Cond.le_ints hev (show (Term.int 321).eval args s none [] s = some (.int 321) from rfl)
  have hd : xs.length.toInt32 ≤ 321 := by
    simpa [Cond.before, Cond.holds, hv] using hle
  have hN : xs.length ≤ 321 := (Int32.ofNat_le_ofNat hsm (by decide)).mp (show Int32.ofNat xs.length ≤ Int32.ofNat 321 from hd)
  exact ⟨b, xs, Cond.one_arg hc (show args[0]? = some (.ref b) from hb), hx, hN, h⟩
theorem lw_comes (l : Launch) : Comes l x (Jvm.Cond.code x code maxLocals ret :: tables_1) room_1 (fun tb e args s => Calls_1 tb e args s ∧ rest_1 tb e args s ∧ Pre_1 tb e args s)
    (fun _ _ args s o t => lw_Q args s o t) := by
  intro p e ha hc hk s m args below hf hfit hheap happ hpre
  obtain ⟨b, xs, hP⟩ := lw_pre_spec hpre.2.2 hpre.2.1
  obtain ⟨k, o, h1, h2, h3, hQ⟩ := lw_walk l b xs p e ha hc hk s m args below hf ((Spec.applies_iff_loose hf).mp happ).1 hP trivial
  exact ⟨k, o, h1, h2, h3, hQ⟩
theorem lw_frame {s t : State} {o : Outcome} {args : Array Value} (h : Framed s o t [] 600000 7290000) :
    Framed s o t (fieldLocs frame_1_writes args s ++ arrayLocs frame_1_arrays args s ++ staticLocs frame_1_statics s) 600000 7290000 := h
theorem lw_limb (L : Cond) (hL : ∀ (args : Array Value) (s t : State), L.after args s (.returned (some (.int 1))) t = true) :
    ArmFor flags0 classFile x code maxLocals ret World_1 tables_1 room_1 Calls_1 rest_1 Pre_1
      (fun tb e a s o t => postC L tb e a s o t ∧ Framed s o t (fieldLocs frame_1_writes a s ++ arrayLocs frame_1_arrays a s ++ staticLocs frame_1_statics s) 600000 7290000) := by
  intro l _ _ _ p e ha hc hk s m args below hf hfit hheap happ hpre
  obtain ⟨k, o, h1, h2, h3, rfl, hF⟩ := lw_comes l p e ha hc hk s m args below hf hfit hheap happ hpre
  exact ⟨k, _, h1, h2, h3, hL args s _, lw_frame hF⟩
theorem i_vc : Claimed_1_1 ∧ Claimed_1_2 := ⟨lw_limb limb_1_1 (fun args s t => by simp [limb_1_1, Cond.after, Cond.holds, Cond.value]), lw_limb limb_1_2 (fun args s t => Cond.after_iff.mpr (by
  first | (rw [show limb_1_2 = Cond.eq .result (.int 1) from rfl, Cond.eq_ints (x := 1) (y := 1) rfl rfl]; simp; done) | (simp [limb_1_2, Cond.value, Term.eval]; done)))⟩
end
