section
-- ===== PART A: goes FIRST, ahead of the names: the tables' words, and 'selects' of the private methods out of them =====
/-- a private method of a class that the tables say can be made, by its rows of tables_1 -/
def lw_okq (q : MethodName × Nat) : Prop := (q.1.cls ≠ "java/lang/invoke/MethodHandle" ∧ q.1.cls ≠ "java/lang/invoke/VarHandle") ∧ Cond.instantiable q.1.cls q.2 ∈ tables_1 ∧ Cond.privateMethod q.1 ∈ tables_1 ∧ Cond.instanceMethod q.1 ∈ tables_1
set_option maxRecDepth 100000
theorem lw_t1 {w : Cond} (h : w ∈ tables_1_1) : w ∈ tables_1 := List.mem_append_left _ h
theorem lw_t2 {w : Cond} (h : w ∈ tables_1_2) : w ∈ tables_1 := List.mem_append_right _ h
theorem lw_p0 : lw_okq (⟨"RoleSessions", "missing", "()I"⟩, 13) := ⟨⟨by decide +kernel, by decide +kernel⟩, lw_t1 (List.mem_of_getElem? (i := 4) rfl), lw_t1 (List.mem_of_getElem? (i := 65) rfl), lw_t1 (List.mem_of_getElem? (i := 66) rfl)⟩
theorem lw_p1 : lw_okq (⟨"RoleSessions", "change", "()V"⟩, 13) := ⟨⟨by decide +kernel, by decide +kernel⟩, lw_t1 (List.mem_of_getElem? (i := 4) rfl), lw_t1 (List.mem_of_getElem? (i := 72) rfl), lw_t1 (List.mem_of_getElem? (i := 73) rfl)⟩
theorem lw_p2 : lw_okq (⟨"RoleSessions", "learn", "()Z"⟩, 13) := ⟨⟨by decide +kernel, by decide +kernel⟩, lw_t1 (List.mem_of_getElem? (i := 4) rfl), lw_t1 (List.mem_of_getElem? (i := 88) rfl), lw_t1 (List.mem_of_getElem? (i := 89) rfl)⟩
theorem lw_p3 : lw_okq (⟨"RoleSessions", "project", "(III)I"⟩, 13) := ⟨⟨by decide +kernel, by decide +kernel⟩, lw_t1 (List.mem_of_getElem? (i := 4) rfl), lw_t1 (List.mem_of_getElem? (i := 92) rfl), lw_t1 (List.mem_of_getElem? (i := 93) rfl)⟩
theorem lw_p4 : lw_okq (⟨"RoleSessions", "partFor", "(IIII)I"⟩, 13) := ⟨⟨by decide +kernel, by decide +kernel⟩, lw_t1 (List.mem_of_getElem? (i := 4) rfl), lw_t1 (List.mem_of_getElem? (i := 102) rfl), lw_t1 (List.mem_of_getElem? (i := 103) rfl)⟩
theorem lw_p5 : lw_okq (⟨"RoleSessionsModel", "sender", "(I)I"⟩, 9) := ⟨⟨by decide +kernel, by decide +kernel⟩, lw_t1 (List.mem_of_getElem? (i := 157) rfl), lw_t1 (List.mem_of_getElem? (i := 195) rfl), lw_t1 (List.mem_of_getElem? (i := 196) rfl)⟩
theorem lw_p6 : lw_okq (⟨"RoleSessionsModel", "receiver", "(I)I"⟩, 9) := ⟨⟨by decide +kernel, by decide +kernel⟩, lw_t1 (List.mem_of_getElem? (i := 157) rfl), lw_t1 (List.mem_of_getElem? (i := 199) rfl), lw_t1 (List.mem_of_getElem? (i := 200) rfl)⟩
theorem lw_p7 : lw_okq (⟨"RoleSessionsModel", "plans", "(I)I"⟩, 9) := ⟨⟨by decide +kernel, by decide +kernel⟩, lw_t1 (List.mem_of_getElem? (i := 157) rfl), lw_t1 (List.mem_of_getElem? (i := 207) rfl), lw_t1 (List.mem_of_getElem? (i := 208) rfl)⟩
theorem lw_p8 : lw_okq (⟨"RoleSessionsModel", "role", "(I)Z"⟩, 9) := ⟨⟨by decide +kernel, by decide +kernel⟩, lw_t1 (List.mem_of_getElem? (i := 157) rfl), lw_t1 (List.mem_of_getElem? (i := 220) rfl), lw_t1 (List.mem_of_getElem? (i := 221) rfl)⟩
theorem lw_p9 : lw_okq (⟨"RoleSessionsModel", "read", "(II)Z"⟩, 9) := ⟨⟨by decide +kernel, by decide +kernel⟩, lw_t1 (List.mem_of_getElem? (i := 157) rfl), lw_t1 (List.mem_of_getElem? (i := 224) rfl), lw_t1 (List.mem_of_getElem? (i := 225) rfl)⟩
theorem lw_p10 : lw_okq (⟨"RoleSessionsModel", "front", "(II)V"⟩, 9) := ⟨⟨by decide +kernel, by decide +kernel⟩, lw_t1 (List.mem_of_getElem? (i := 157) rfl), lw_t1 (List.mem_of_getElem? (i := 228) rfl), lw_t1 (List.mem_of_getElem? (i := 229) rfl)⟩
theorem lw_p11 : lw_okq (⟨"RoleSessionsModel", "join", "()Z"⟩, 9) := ⟨⟨by decide +kernel, by decide +kernel⟩, lw_t1 (List.mem_of_getElem? (i := 157) rfl), lw_t1 (List.mem_of_getElem? (i := 232) rfl), lw_t1 (List.mem_of_getElem? (i := 233) rfl)⟩
theorem lw_p12 : lw_okq (⟨"RoleSessionsModel", "measure", "()I"⟩, 9) := ⟨⟨by decide +kernel, by decide +kernel⟩, lw_t1 (List.mem_of_getElem? (i := 157) rfl), lw_t2 (List.mem_of_getElem? (i := 5) rfl), lw_t2 (List.mem_of_getElem? (i := 6) rfl)⟩
theorem lw_p13 : lw_okq (⟨"RoleSessionsModel", "behind", "(I)I"⟩, 9) := ⟨⟨by decide +kernel, by decide +kernel⟩, lw_t1 (List.mem_of_getElem? (i := 157) rfl), lw_t2 (List.mem_of_getElem? (i := 22) rfl), lw_t2 (List.mem_of_getElem? (i := 23) rfl)⟩
theorem lw_p14 : lw_okq (⟨"RoleSessionsModel", "first", "(I)I"⟩, 9) := ⟨⟨by decide +kernel, by decide +kernel⟩, lw_t1 (List.mem_of_getElem? (i := 157) rfl), lw_t2 (List.mem_of_getElem? (i := 35) rfl), lw_t2 (List.mem_of_getElem? (i := 36) rfl)⟩
def lw_privs_1 : List (MethodName × Nat) := [(⟨"RoleSessions", "missing", "()I"⟩, 13), (⟨"RoleSessions", "change", "()V"⟩, 13), (⟨"RoleSessions", "learn", "()Z"⟩, 13), (⟨"RoleSessions", "project", "(III)I"⟩, 13), (⟨"RoleSessions", "partFor", "(IIII)I"⟩, 13), (⟨"RoleSessionsModel", "sender", "(I)I"⟩, 9), (⟨"RoleSessionsModel", "receiver", "(I)I"⟩, 9), (⟨"RoleSessionsModel", "plans", "(I)I"⟩, 9), (⟨"RoleSessionsModel", "role", "(I)Z"⟩, 9), (⟨"RoleSessionsModel", "read", "(II)Z"⟩, 9), (⟨"RoleSessionsModel", "front", "(II)V"⟩, 9), (⟨"RoleSessionsModel", "join", "()Z"⟩, 9), (⟨"RoleSessionsModel", "measure", "()I"⟩, 9), (⟨"RoleSessionsModel", "behind", "(I)I"⟩, 9), (⟨"RoleSessionsModel", "first", "(I)I"⟩, 9)]
theorem lw_r1 : ∀ q ∈ lw_privs_1, lw_okq q := List.forall_mem_cons.mpr ⟨lw_p0, List.forall_mem_cons.mpr ⟨lw_p1, List.forall_mem_cons.mpr ⟨lw_p2, List.forall_mem_cons.mpr ⟨lw_p3, List.forall_mem_cons.mpr ⟨lw_p4, List.forall_mem_cons.mpr ⟨lw_p5, List.forall_mem_cons.mpr ⟨lw_p6, List.forall_mem_cons.mpr ⟨lw_p7, List.forall_mem_cons.mpr ⟨lw_p8, List.forall_mem_cons.mpr ⟨lw_p9, List.forall_mem_cons.mpr ⟨lw_p10, List.forall_mem_cons.mpr ⟨lw_p11, List.forall_mem_cons.mpr ⟨lw_p12, List.forall_mem_cons.mpr ⟨lw_p13, List.forall_mem_cons.mpr ⟨lw_p14, fun _ h => absurd h List.not_mem_nil⟩⟩⟩⟩⟩⟩⟩⟩⟩⟩⟩⟩⟩⟩⟩
def lw_privs : List (MethodName × Nat) := lw_privs_1
def lw_tbl : List Cond := k2_sels lw_privs ++ tables_1
theorem lw_privs_ok : ∀ q ∈ lw_privs, lw_okq q := lw_r1
-- ===== ONE list of words for every method: the tables' words that hold all through a run =====
def lw_all : List Cond := lw_tbl.filter goodWord
/-- a word of the tables by its place: claim/WORDS.tsv -/
theorem lw_w {w : Cond} (i : Nat) (h : lw_tbl[i]? = some w) (g : goodWord w = true) : w ∈ lw_all := List.mem_filter.mpr ⟨List.mem_of_getElem? h, g⟩
theorem lw_all_tbl {w : Cond} (h : w ∈ lw_all) : w ∈ lw_tbl := (List.mem_filter.mp h).1
theorem lw_self : GoodIn lw_all lw_all := fun w h => ⟨h, good_of_word (List.mem_filter.mp h).2⟩
/-- a class's field words, by their places -/
theorem lw_in (ws : List Cond) (ps : List Nat) (hp : ws = ps.filterMap (fun i => lw_tbl[i]?)) (hg : ws.all goodWord = true) : ∀ w ∈ ws, w ∈ lw_all := by
  intro w h
  have h1 := List.all_eq_true.mp hg w h
  rw [hp] at h
  obtain ⟨i, -, hi⟩ := List.mem_filterMap.mp h
  exact lw_w i hi h1
/-- the words of a contract for the method y with code b, L locals, answer r -/
abbrev ws_ (y : MethodName) (b : ByteArray) (L : Nat) (r : Option FieldType) : List Cond := Cond.code y b L r :: lw_all
theorem lw_meth {y : MethodName} {b : ByteArray} {L : Nat} {r : Option FieldType} (h : Cond.code y b L r ∈ lw_all) : GoodIn lw_all (ws_ y b L r) := by
  intro w hw
  rcases List.mem_cons.mp hw with e | e
  · rw [e]
    exact lw_self _ h
  · exact lw_self _ e
theorem lw_app {a c : List Cond} (ha : ∀ w ∈ a, w ∈ lw_all) (hc : GoodIn lw_all c) : GoodIn lw_all (a ++ c) := by
  intro w hw
  rcases List.mem_append.mp hw with e | e
  · exact lw_self w (ha w e)
  · exact hc w e
/-- what a call through an object asks: cwV n hts (lw_V ..) -/
theorem lw_V {own : String} {idx : Nat} {C : String} {y : MethodName} {b : ByteArray} {L : Nat} {r : Option FieldType} (h1 : Cond.methodLink own idx y ∈ lw_all) (h2 : Cond.instanceMethod y ∈ lw_all) (h3 : Cond.selects C y y ∈ lw_all) (h4 : Cond.initialized C ∈ lw_all) (h5 : Cond.code y b L r ∈ lw_all) : GoodIn lw_all (wsV own idx C y (ws_ y b L r)) := by
  refine lw_app ?_ (lw_meth h5)
  intro w hw
  simp only [List.mem_cons, List.not_mem_nil, or_false] at hw
  rcases hw with e | e | e | e
  · rw [e]; exact h1
  · rw [e]; exact h2
  · rw [e]; exact h3
  · rw [e]; exact h4
/-- what a static call asks: va_cwS n hts (lw_S ..) -/
theorem lw_S {own : String} {idx : Nat} {y : MethodName} {b : ByteArray} {L : Nat} {r : Option FieldType} (h1 : Cond.methodLink own idx y ∈ lw_all) (h2 : Cond.static y ∈ lw_all) (h3 : Cond.initialized y.cls ∈ lw_all) (h4 : Cond.code y b L r ∈ lw_all) : GoodIn lw_all (va_wsS own idx y (ws_ y b L r)) := by
  refine lw_app ?_ (lw_meth h4)
  intro w hw
  simp only [List.mem_cons, List.not_mem_nil, or_false] at hw
  rcases hw with e | e | e
  · rw [e]; exact h1
  · rw [e]; exact h2
  · rw [e]; exact h3
/-- the words of a contract for a method WITH HANDLERS (hh: its table) -/
abbrev wsW_ (y : MethodName) (b : ByteArray) (L : Nat) (r : Option FieldType) (hh : List (Nat × Nat × Nat × Nat)) : List Cond := Cond.codeWith y b L r hh :: lw_all
theorem lw_methW {y : MethodName} {b : ByteArray} {L : Nat} {r : Option FieldType} {hh : List (Nat × Nat × Nat × Nat)} (h : Cond.codeWith y b L r hh ∈ lw_all) : GoodIn lw_all (wsW_ y b L r hh) := by
  intro w hw
  rcases List.mem_cons.mp hw with e | e
  · rw [e]
    exact lw_self _ h
  · exact lw_self _ e
/-- any list of words by their places (lw_in), good -/
theorem lw_good {ws : List Cond} (h : ∀ w ∈ ws, w ∈ lw_all) : GoodIn lw_all ws := fun w hw => lw_self w (h w hw)
/-- what a call of a method with handlers asks: vx_cwVW n hts (lw_VW ..), vx_cwSW n hts (lw_SW ..) -/
theorem lw_VW {own : String} {idx : Nat} {C : String} {y : MethodName} {b : ByteArray} {L : Nat} {r : Option FieldType} {hh : List (Nat × Nat × Nat × Nat)} (h1 : Cond.methodLink own idx y ∈ lw_all) (h2 : Cond.instanceMethod y ∈ lw_all) (h3 : Cond.selects C y y ∈ lw_all) (h4 : Cond.initialized C ∈ lw_all) (h5 : Cond.codeWith y b L r hh ∈ lw_all) : GoodIn lw_all (wsV own idx C y (wsW_ y b L r hh)) := by
  refine lw_app ?_ (lw_methW h5)
  intro w hw
  simp only [List.mem_cons, List.not_mem_nil, or_false] at hw
  rcases hw with e | e | e | e
  · rw [e]; exact h1
  · rw [e]; exact h2
  · rw [e]; exact h3
  · rw [e]; exact h4
theorem lw_SW {own : String} {idx : Nat} {y : MethodName} {b : ByteArray} {L : Nat} {r : Option FieldType} {hh : List (Nat × Nat × Nat × Nat)} (h1 : Cond.methodLink own idx y ∈ lw_all) (h2 : Cond.static y ∈ lw_all) (h3 : Cond.initialized y.cls ∈ lw_all) (h4 : Cond.codeWith y b L r hh ∈ lw_all) : GoodIn lw_all (va_wsS own idx y (wsW_ y b L r hh)) := by
  refine lw_app ?_ (lw_methW h4)
  intro w hw
  simp only [List.mem_cons, List.not_mem_nil, or_false] at hw
  rcases hw with e | e | e
  · rw [e]; exact h1
  · rw [e]; exact h2
  · rw [e]; exact h3
/-- a word by its place in its run of the tables -/
theorem lw_at {r : List Cond} (hr : ∀ w ∈ r, w ∈ lw_tbl) {w : Cond} (i : Nat) (h : r[i]? = some w) : w ∈ lw_tbl := hr w (List.mem_of_getElem? h)
theorem lw_g {w : Cond} (h : w ∈ lw_tbl) (g : goodWord w = true) : w ∈ lw_all := List.mem_filter.mpr ⟨h, g⟩
theorem lw_ms : ∀ w ∈ k2_sels lw_privs, w ∈ lw_tbl := fun w h => show w ∈ k2_sels lw_privs ++ tables_1 from List.mem_append_left _ h
theorem lw_m1 : ∀ w ∈ tables_1_1, w ∈ lw_tbl := fun w h => show w ∈ k2_sels lw_privs ++ tables_1 from List.mem_append_right (k2_sels lw_privs) (show w ∈ tables_1 from List.mem_append_left _ h)
theorem lw_m2 : ∀ w ∈ tables_1_2, w ∈ lw_tbl := fun w h => show w ∈ k2_sels lw_privs ++ tables_1 from List.mem_append_right (k2_sels lw_privs) (show w ∈ tables_1 from List.mem_append_right _ h)
theorem qs0 : (Cond.selects "RoleSessions" ⟨"RoleSessions", "missing", "()I"⟩ ⟨"RoleSessions", "missing", "()I"⟩) ∈ lw_all := lw_g (lw_at lw_ms 0 rfl) rfl
theorem qs1 : (Cond.selects "RoleSessions" ⟨"RoleSessions", "change", "()V"⟩ ⟨"RoleSessions", "change", "()V"⟩) ∈ lw_all := lw_g (lw_at lw_ms 1 rfl) rfl
theorem qs2 : (Cond.selects "RoleSessions" ⟨"RoleSessions", "learn", "()Z"⟩ ⟨"RoleSessions", "learn", "()Z"⟩) ∈ lw_all := lw_g (lw_at lw_ms 2 rfl) rfl
theorem qs3 : (Cond.selects "RoleSessions" ⟨"RoleSessions", "project", "(III)I"⟩ ⟨"RoleSessions", "project", "(III)I"⟩) ∈ lw_all := lw_g (lw_at lw_ms 3 rfl) rfl
theorem qs4 : (Cond.selects "RoleSessions" ⟨"RoleSessions", "partFor", "(IIII)I"⟩ ⟨"RoleSessions", "partFor", "(IIII)I"⟩) ∈ lw_all := lw_g (lw_at lw_ms 4 rfl) rfl
theorem qs5 : (Cond.selects "RoleSessionsModel" ⟨"RoleSessionsModel", "sender", "(I)I"⟩ ⟨"RoleSessionsModel", "sender", "(I)I"⟩) ∈ lw_all := lw_g (lw_at lw_ms 5 rfl) rfl
theorem qs6 : (Cond.selects "RoleSessionsModel" ⟨"RoleSessionsModel", "receiver", "(I)I"⟩ ⟨"RoleSessionsModel", "receiver", "(I)I"⟩) ∈ lw_all := lw_g (lw_at lw_ms 6 rfl) rfl
theorem qs7 : (Cond.selects "RoleSessionsModel" ⟨"RoleSessionsModel", "plans", "(I)I"⟩ ⟨"RoleSessionsModel", "plans", "(I)I"⟩) ∈ lw_all := lw_g (lw_at lw_ms 7 rfl) rfl
theorem qs8 : (Cond.selects "RoleSessionsModel" ⟨"RoleSessionsModel", "role", "(I)Z"⟩ ⟨"RoleSessionsModel", "role", "(I)Z"⟩) ∈ lw_all := lw_g (lw_at lw_ms 8 rfl) rfl
theorem qs9 : (Cond.selects "RoleSessionsModel" ⟨"RoleSessionsModel", "read", "(II)Z"⟩ ⟨"RoleSessionsModel", "read", "(II)Z"⟩) ∈ lw_all := lw_g (lw_at lw_ms 9 rfl) rfl
theorem qs10 : (Cond.selects "RoleSessionsModel" ⟨"RoleSessionsModel", "front", "(II)V"⟩ ⟨"RoleSessionsModel", "front", "(II)V"⟩) ∈ lw_all := lw_g (lw_at lw_ms 10 rfl) rfl
theorem qs11 : (Cond.selects "RoleSessionsModel" ⟨"RoleSessionsModel", "join", "()Z"⟩ ⟨"RoleSessionsModel", "join", "()Z"⟩) ∈ lw_all := lw_g (lw_at lw_ms 11 rfl) rfl
theorem qs12 : (Cond.selects "RoleSessionsModel" ⟨"RoleSessionsModel", "measure", "()I"⟩ ⟨"RoleSessionsModel", "measure", "()I"⟩) ∈ lw_all := lw_g (lw_at lw_ms 12 rfl) rfl
theorem qs13 : (Cond.selects "RoleSessionsModel" ⟨"RoleSessionsModel", "behind", "(I)I"⟩ ⟨"RoleSessionsModel", "behind", "(I)I"⟩) ∈ lw_all := lw_g (lw_at lw_ms 13 rfl) rfl
theorem qs14 : (Cond.selects "RoleSessionsModel" ⟨"RoleSessionsModel", "first", "(I)I"⟩ ⟨"RoleSessionsModel", "first", "(I)I"⟩) ∈ lw_all := lw_g (lw_at lw_ms 14 rfl) rfl
end
section
/-! RoleSessions -/
set_option maxRecDepth 100000
def RX0 : String := "RoleSessions"
def TX0 : u_T := fun k => match k with
  | 0 => ("RoleSessions", "count", "I", false)
  | 1 => ("RoleSessions", "tokens", "[B", true)
  | 2 => ("RoleSessions", "known", "Z", false)
  | 3 => ("RoleSessions", "spans", "[B", true)
  | 4 => ("RoleSessions", "parts", "[B", true)
  | 5 => ("RoleSessions", "partCount", "I", false)
  | 6 => ("RoleSessions", "duties", "[B", true)
  | 7 => ("RoleSessions", "labelCounts", "[B", true)
  | 8 => ("RoleSessions", "followers", "[B", true)
  | 9 => ("RoleSessions", "sizes", "[I", true)
  | 10 => ("RoleSessions", "running", "Z", false)
  | 11 => ("RoleSessions", "present", "[B", true)
  | _ => ("RoleSessions", "sentCount", "I", false)
def tyX0 : Nat → FieldType := fun k => match k with
  | 0 => .int
  | 1 => .array .byte
  | 2 => .boolean
  | 3 => .array .byte
  | 4 => .array .byte
  | 5 => .int
  | 6 => .array .byte
  | 7 => .array .byte
  | 8 => .array .byte
  | 9 => .array .int
  | 10 => .boolean
  | 11 => .array .byte
  | _ => .int
abbrev wsX00 : List Cond := u_ws RX0 TX0 13
set_option maxRecDepth 100000 in
theorem nmX0 : ∀ a, a < 13 → ∀ b, b < 13 → a ≠ b → (TX0 a).2.1 ≠ (TX0 b).2.1 := by decide +kernel
set_option maxRecDepth 100000 in
theorem tyX0_ok : ∀ k, k < 13 → parseFieldDescriptor (TX0 k).2.2.1 = some (tyX0 k) := by decide +kernel
abbrev cX0_init : ByteArray := prog_1_method_1_code
def yX0_init : MethodName := ⟨RX0, "<init>", "()V"⟩
theorem dX0_init_0 : decode cX0_init 0 = .ok (.aload_n 0, 1) := by decide +kernel
theorem dX0_init_1 : decode cX0_init 1 = .ok (.invokespecial 1, 3) := by decide +kernel
theorem dX0_init_4 : decode cX0_init 4 = .ok (.aload_n 0, 1) := by decide +kernel
theorem dX0_init_5 : decode cX0_init 5 = .ok (.bipush 21, 2) := by decide +kernel
theorem dX0_init_7 : decode cX0_init 7 = .ok (.newarray .byte, 2) := by decide +kernel
theorem dX0_init_9 : decode cX0_init 9 = .ok (.putfield 7, 3) := by decide +kernel
theorem dX0_init_12 : decode cX0_init 12 = .ok (.aload_n 0, 1) := by decide +kernel
theorem dX0_init_13 : decode cX0_init 13 = .ok (.bipush 21, 2) := by decide +kernel
theorem dX0_init_15 : decode cX0_init 15 = .ok (.newarray .byte, 2) := by decide +kernel
theorem dX0_init_17 : decode cX0_init 17 = .ok (.putfield 13, 3) := by decide +kernel
theorem dX0_init_20 : decode cX0_init 20 = .ok (.aload_n 0, 1) := by decide +kernel
theorem dX0_init_21 : decode cX0_init 21 = .ok (.bipush 84, 2) := by decide +kernel
theorem dX0_init_23 : decode cX0_init 23 = .ok (.newarray .byte, 2) := by decide +kernel
theorem dX0_init_25 : decode cX0_init 25 = .ok (.putfield 16, 3) := by decide +kernel
theorem dX0_init_28 : decode cX0_init 28 = .ok (.aload_n 0, 1) := by decide +kernel
theorem dX0_init_29 : decode cX0_init 29 = .ok (.bipush 48, 2) := by decide +kernel
theorem dX0_init_31 : decode cX0_init 31 = .ok (.newarray .byte, 2) := by decide +kernel
theorem dX0_init_33 : decode cX0_init 33 = .ok (.putfield 19, 3) := by decide +kernel
theorem dX0_init_36 : decode cX0_init 36 = .ok (.aload_n 0, 1) := by decide +kernel
theorem dX0_init_37 : decode cX0_init 37 = .ok (.bipush 48, 2) := by decide +kernel
theorem dX0_init_39 : decode cX0_init 39 = .ok (.newarray .byte, 2) := by decide +kernel
theorem dX0_init_41 : decode cX0_init 41 = .ok (.putfield 22, 3) := by decide +kernel
theorem dX0_init_44 : decode cX0_init 44 = .ok (.aload_n 0, 1) := by decide +kernel
theorem dX0_init_45 : decode cX0_init 45 = .ok (.bipush 96, 2) := by decide +kernel
theorem dX0_init_47 : decode cX0_init 47 = .ok (.newarray .byte, 2) := by decide +kernel
theorem dX0_init_49 : decode cX0_init 49 = .ok (.putfield 25, 3) := by decide +kernel
theorem dX0_init_52 : decode cX0_init 52 = .ok (.aload_n 0, 1) := by decide +kernel
theorem dX0_init_53 : decode cX0_init 53 = .ok (.bipush 48, 2) := by decide +kernel
theorem dX0_init_55 : decode cX0_init 55 = .ok (.newarray .int, 2) := by decide +kernel
theorem dX0_init_57 : decode cX0_init 57 = .ok (.putfield 28, 3) := by decide +kernel
theorem dX0_init_60 : decode cX0_init 60 = .ok (.aload_n 0, 1) := by decide +kernel
theorem dX0_init_61 : decode cX0_init 61 = .ok (.iconst 4, 1) := by decide +kernel
theorem dX0_init_62 : decode cX0_init 62 = .ok (.newarray .byte, 2) := by decide +kernel
theorem dX0_init_64 : decode cX0_init 64 = .ok (.putfield 32, 3) := by decide +kernel
theorem dX0_init_67 : decode cX0_init 67 = .ok (.return_, 1) := by decide +kernel
abbrev cX0_write : ByteArray := prog_1_method_8_code
def yX0_write : MethodName := ⟨RX0, "write", "(I)I"⟩
theorem dX0_write_0 : decode cX0_write 0 = .ok (.iload_n 1, 1) := by decide +kernel
theorem dX0_write_1 : decode cX0_write 1 = .ok (.invokestatic 43, 3) := by decide +kernel
theorem dX0_write_4 : decode cX0_write 4 = .ok (.ifCond .ne 5, 3) := by decide +kernel
theorem dX0_write_7 : decode cX0_write 7 = .ok (.iconst (-1), 1) := by decide +kernel
theorem dX0_write_8 : decode cX0_write 8 = .ok (.ireturn, 1) := by decide +kernel
theorem dX0_write_9 : decode cX0_write 9 = .ok (.aload_n 0, 1) := by decide +kernel
theorem dX0_write_10 : decode cX0_write 10 = .ok (.invokevirtual 47, 3) := by decide +kernel
theorem dX0_write_13 : decode cX0_write 13 = .ok (.ifCond .ne 12, 3) := by decide +kernel
theorem dX0_write_16 : decode cX0_write 16 = .ok (.aload_n 0, 1) := by decide +kernel
theorem dX0_write_17 : decode cX0_write 17 = .ok (.getfield 35, 3) := by decide +kernel
theorem dX0_write_20 : decode cX0_write 20 = .ok (.bipush 21, 2) := by decide +kernel
theorem dX0_write_22 : decode cX0_write 22 = .ok (.if_icmp .lt 6, 3) := by decide +kernel
theorem dX0_write_25 : decode cX0_write 25 = .ok (.bipush (-2), 2) := by decide +kernel
theorem dX0_write_27 : decode cX0_write 27 = .ok (.ireturn, 1) := by decide +kernel
theorem dX0_write_28 : decode cX0_write 28 = .ok (.aload_n 0, 1) := by decide +kernel
theorem dX0_write_29 : decode cX0_write 29 = .ok (.getfield 7, 3) := by decide +kernel
theorem dX0_write_32 : decode cX0_write 32 = .ok (.aload_n 0, 1) := by decide +kernel
theorem dX0_write_33 : decode cX0_write 33 = .ok (.getfield 35, 3) := by decide +kernel
theorem dX0_write_36 : decode cX0_write 36 = .ok (.iload_n 1, 1) := by decide +kernel
theorem dX0_write_37 : decode cX0_write 37 = .ok (.i2b, 1) := by decide +kernel
theorem dX0_write_38 : decode cX0_write 38 = .ok (.bastore, 1) := by decide +kernel
theorem dX0_write_39 : decode cX0_write 39 = .ok (.aload_n 0, 1) := by decide +kernel
theorem dX0_write_40 : decode cX0_write 40 = .ok (.dup, 1) := by decide +kernel
theorem dX0_write_41 : decode cX0_write 41 = .ok (.getfield 35, 3) := by decide +kernel
theorem dX0_write_44 : decode cX0_write 44 = .ok (.iconst 1, 1) := by decide +kernel
theorem dX0_write_45 : decode cX0_write 45 = .ok (.iadd, 1) := by decide +kernel
theorem dX0_write_46 : decode cX0_write 46 = .ok (.putfield 35, 3) := by decide +kernel
theorem dX0_write_49 : decode cX0_write 49 = .ok (.aload_n 0, 1) := by decide +kernel
theorem dX0_write_50 : decode cX0_write 50 = .ok (.invokevirtual 51, 3) := by decide +kernel
theorem dX0_write_53 : decode cX0_write 53 = .ok (.aload_n 0, 1) := by decide +kernel
theorem dX0_write_54 : decode cX0_write 54 = .ok (.getfield 35, 3) := by decide +kernel
theorem dX0_write_57 : decode cX0_write 57 = .ok (.ireturn, 1) := by decide +kernel
abbrev cX0_isToken : ByteArray := prog_1_method_3_code
def yX0_isToken : MethodName := ⟨RX0, "isToken", "(I)Z"⟩
theorem dX0_isToken_0 : decode cX0_isToken 0 = .ok (.iload_n 0, 1) := by decide +kernel
theorem dX0_isToken_1 : decode cX0_isToken 1 = .ok (.bipush 16, 2) := by decide +kernel
theorem dX0_isToken_3 : decode cX0_isToken 3 = .ok (.if_icmp .le 10, 3) := by decide +kernel
theorem dX0_isToken_6 : decode cX0_isToken 6 = .ok (.iload_n 0, 1) := by decide +kernel
theorem dX0_isToken_7 : decode cX0_isToken 7 = .ok (.bipush 17, 2) := by decide +kernel
theorem dX0_isToken_9 : decode cX0_isToken 9 = .ok (.isub, 1) := by decide +kernel
theorem dX0_isToken_10 : decode cX0_isToken 10 = .ok (.goto 6, 3) := by decide +kernel
theorem dX0_isToken_13 : decode cX0_isToken 13 = .ok (.iload_n 0, 1) := by decide +kernel
theorem dX0_isToken_14 : decode cX0_isToken 14 = .ok (.iconst 1, 1) := by decide +kernel
theorem dX0_isToken_15 : decode cX0_isToken 15 = .ok (.isub, 1) := by decide +kernel
theorem dX0_isToken_16 : decode cX0_isToken 16 = .ok (.istore_n 1, 1) := by decide +kernel
theorem dX0_isToken_17 : decode cX0_isToken 17 = .ok (.iload_n 0, 1) := by decide +kernel
theorem dX0_isToken_18 : decode cX0_isToken 18 = .ok (.ifCond .eq 23, 3) := by decide +kernel
theorem dX0_isToken_21 : decode cX0_isToken 21 = .ok (.iload_n 0, 1) := by decide +kernel
theorem dX0_isToken_22 : decode cX0_isToken 22 = .ok (.iconst 1, 1) := by decide +kernel
theorem dX0_isToken_23 : decode cX0_isToken 23 = .ok (.if_icmp .lt 22, 3) := by decide +kernel
theorem dX0_isToken_26 : decode cX0_isToken 26 = .ok (.iload_n 0, 1) := by decide +kernel
theorem dX0_isToken_27 : decode cX0_isToken 27 = .ok (.bipush 32, 2) := by decide +kernel
theorem dX0_isToken_29 : decode cX0_isToken 29 = .ok (.if_icmp .gt 16, 3) := by decide +kernel
theorem dX0_isToken_32 : decode cX0_isToken 32 = .ok (.iload_n 1, 1) := by decide +kernel
theorem dX0_isToken_33 : decode cX0_isToken 33 = .ok (.iconst 3, 1) := by decide +kernel
theorem dX0_isToken_34 : decode cX0_isToken 34 = .ok (.iand, 1) := by decide +kernel
theorem dX0_isToken_35 : decode cX0_isToken 35 = .ok (.iload_n 1, 1) := by decide +kernel
theorem dX0_isToken_36 : decode cX0_isToken 36 = .ok (.iconst 2, 1) := by decide +kernel
theorem dX0_isToken_37 : decode cX0_isToken 37 = .ok (.ishr, 1) := by decide +kernel
theorem dX0_isToken_38 : decode cX0_isToken 38 = .ok (.if_icmp .eq 7, 3) := by decide +kernel
theorem dX0_isToken_41 : decode cX0_isToken 41 = .ok (.iconst 1, 1) := by decide +kernel
theorem dX0_isToken_42 : decode cX0_isToken 42 = .ok (.goto 4, 3) := by decide +kernel
theorem dX0_isToken_45 : decode cX0_isToken 45 = .ok (.iconst 0, 1) := by decide +kernel
theorem dX0_isToken_46 : decode cX0_isToken 46 = .ok (.ireturn, 1) := by decide +kernel
abbrev cX0_complete : ByteArray := prog_1_method_11_code
def yX0_complete : MethodName := ⟨RX0, "complete", "()Z"⟩
theorem dX0_complete_0 : decode cX0_complete 0 = .ok (.aload_n 0, 1) := by decide +kernel
theorem dX0_complete_1 : decode cX0_complete 1 = .ok (.invokevirtual 61, 3) := by decide +kernel
theorem dX0_complete_4 : decode cX0_complete 4 = .ok (.ifCond .ne 7, 3) := by decide +kernel
theorem dX0_complete_7 : decode cX0_complete 7 = .ok (.iconst 1, 1) := by decide +kernel
theorem dX0_complete_8 : decode cX0_complete 8 = .ok (.goto 4, 3) := by decide +kernel
theorem dX0_complete_11 : decode cX0_complete 11 = .ok (.iconst 0, 1) := by decide +kernel
theorem dX0_complete_12 : decode cX0_complete 12 = .ok (.ireturn, 1) := by decide +kernel
abbrev cX0_missing : ByteArray := prog_1_method_7_code
def yX0_missing : MethodName := ⟨RX0, "missing", "()I"⟩
theorem dX0_missing_0 : decode cX0_missing 0 = .ok (.iconst 1, 1) := by decide +kernel
theorem dX0_missing_1 : decode cX0_missing 1 = .ok (.istore_n 1, 1) := by decide +kernel
theorem dX0_missing_2 : decode cX0_missing 2 = .ok (.iconst 0, 1) := by decide +kernel
theorem dX0_missing_3 : decode cX0_missing 3 = .ok (.istore_n 2, 1) := by decide +kernel
theorem dX0_missing_4 : decode cX0_missing 4 = .ok (.iload_n 2, 1) := by decide +kernel
theorem dX0_missing_5 : decode cX0_missing 5 = .ok (.aload_n 0, 1) := by decide +kernel
theorem dX0_missing_6 : decode cX0_missing 6 = .ok (.getfield 35, 3) := by decide +kernel
theorem dX0_missing_9 : decode cX0_missing 9 = .ok (.if_icmp .ge 23, 3) := by decide +kernel
theorem dX0_missing_12 : decode cX0_missing 12 = .ok (.iload_n 1, 1) := by decide +kernel
theorem dX0_missing_13 : decode cX0_missing 13 = .ok (.aload_n 0, 1) := by decide +kernel
theorem dX0_missing_14 : decode cX0_missing 14 = .ok (.getfield 7, 3) := by decide +kernel
theorem dX0_missing_17 : decode cX0_missing 17 = .ok (.iload_n 2, 1) := by decide +kernel
theorem dX0_missing_18 : decode cX0_missing 18 = .ok (.baload, 1) := by decide +kernel
theorem dX0_missing_19 : decode cX0_missing 19 = .ok (.invokestatic 39, 3) := by decide +kernel
theorem dX0_missing_22 : decode cX0_missing 22 = .ok (.iconst 1, 1) := by decide +kernel
theorem dX0_missing_23 : decode cX0_missing 23 = .ok (.isub, 1) := by decide +kernel
theorem dX0_missing_24 : decode cX0_missing 24 = .ok (.iadd, 1) := by decide +kernel
theorem dX0_missing_25 : decode cX0_missing 25 = .ok (.istore_n 1, 1) := by decide +kernel
theorem dX0_missing_26 : decode cX0_missing 26 = .ok (.iinc 2 1, 3) := by decide +kernel
theorem dX0_missing_29 : decode cX0_missing 29 = .ok (.goto (-25), 3) := by decide +kernel
theorem dX0_missing_32 : decode cX0_missing 32 = .ok (.iload_n 1, 1) := by decide +kernel
theorem dX0_missing_33 : decode cX0_missing 33 = .ok (.ireturn, 1) := by decide +kernel
abbrev cX0_labelsOf : ByteArray := prog_1_method_6_code
def yX0_labelsOf : MethodName := ⟨RX0, "labelsOf", "(I)I"⟩
theorem dX0_labelsOf_0 : decode cX0_labelsOf 0 = .ok (.iload_n 0, 1) := by decide +kernel
theorem dX0_labelsOf_1 : decode cX0_labelsOf 1 = .ok (.ifCond .ne 5, 3) := by decide +kernel
theorem dX0_labelsOf_4 : decode cX0_labelsOf 4 = .ok (.iconst 0, 1) := by decide +kernel
theorem dX0_labelsOf_5 : decode cX0_labelsOf 5 = .ok (.ireturn, 1) := by decide +kernel
theorem dX0_labelsOf_6 : decode cX0_labelsOf 6 = .ok (.iload_n 0, 1) := by decide +kernel
theorem dX0_labelsOf_7 : decode cX0_labelsOf 7 = .ok (.bipush 16, 2) := by decide +kernel
theorem dX0_labelsOf_9 : decode cX0_labelsOf 9 = .ok (.if_icmp .le 7, 3) := by decide +kernel
theorem dX0_labelsOf_12 : decode cX0_labelsOf 12 = .ok (.iconst 2, 1) := by decide +kernel
theorem dX0_labelsOf_13 : decode cX0_labelsOf 13 = .ok (.goto 4, 3) := by decide +kernel
theorem dX0_labelsOf_16 : decode cX0_labelsOf 16 = .ok (.iconst 1, 1) := by decide +kernel
theorem dX0_labelsOf_17 : decode cX0_labelsOf 17 = .ok (.ireturn, 1) := by decide +kernel
abbrev cX0_change : ByteArray := prog_1_method_9_code
def yX0_change : MethodName := ⟨RX0, "change", "()V"⟩
theorem dX0_change_0 : decode cX0_change 0 = .ok (.aload_n 0, 1) := by decide +kernel
theorem dX0_change_1 : decode cX0_change 1 = .ok (.iconst 0, 1) := by decide +kernel
theorem dX0_change_2 : decode cX0_change 2 = .ok (.putfield 54, 3) := by decide +kernel
theorem dX0_change_5 : decode cX0_change 5 = .ok (.aload_n 0, 1) := by decide +kernel
theorem dX0_change_6 : decode cX0_change 6 = .ok (.iconst 0, 1) := by decide +kernel
theorem dX0_change_7 : decode cX0_change 7 = .ok (.putfield 58, 3) := by decide +kernel
theorem dX0_change_10 : decode cX0_change 10 = .ok (.return_, 1) := by decide +kernel
abbrev cX0_rub : ByteArray := prog_1_method_10_code
def yX0_rub : MethodName := ⟨RX0, "rub", "()I"⟩
theorem dX0_rub_0 : decode cX0_rub 0 = .ok (.aload_n 0, 1) := by decide +kernel
theorem dX0_rub_1 : decode cX0_rub 1 = .ok (.getfield 35, 3) := by decide +kernel
theorem dX0_rub_4 : decode cX0_rub 4 = .ok (.ifCond .ne 5, 3) := by decide +kernel
theorem dX0_rub_7 : decode cX0_rub 7 = .ok (.iconst (-1), 1) := by decide +kernel
theorem dX0_rub_8 : decode cX0_rub 8 = .ok (.ireturn, 1) := by decide +kernel
theorem dX0_rub_9 : decode cX0_rub 9 = .ok (.aload_n 0, 1) := by decide +kernel
theorem dX0_rub_10 : decode cX0_rub 10 = .ok (.dup, 1) := by decide +kernel
theorem dX0_rub_11 : decode cX0_rub 11 = .ok (.getfield 35, 3) := by decide +kernel
theorem dX0_rub_14 : decode cX0_rub 14 = .ok (.iconst 1, 1) := by decide +kernel
theorem dX0_rub_15 : decode cX0_rub 15 = .ok (.isub, 1) := by decide +kernel
theorem dX0_rub_16 : decode cX0_rub 16 = .ok (.putfield 35, 3) := by decide +kernel
theorem dX0_rub_19 : decode cX0_rub 19 = .ok (.aload_n 0, 1) := by decide +kernel
theorem dX0_rub_20 : decode cX0_rub 20 = .ok (.invokevirtual 51, 3) := by decide +kernel
theorem dX0_rub_23 : decode cX0_rub 23 = .ok (.aload_n 0, 1) := by decide +kernel
theorem dX0_rub_24 : decode cX0_rub 24 = .ok (.getfield 7, 3) := by decide +kernel
theorem dX0_rub_27 : decode cX0_rub 27 = .ok (.aload_n 0, 1) := by decide +kernel
theorem dX0_rub_28 : decode cX0_rub 28 = .ok (.getfield 35, 3) := by decide +kernel
theorem dX0_rub_31 : decode cX0_rub 31 = .ok (.baload, 1) := by decide +kernel
theorem dX0_rub_32 : decode cX0_rub 32 = .ok (.ireturn, 1) := by decide +kernel
abbrev cX0_fixed : ByteArray := prog_1_method_15_code
def yX0_fixed : MethodName := ⟨RX0, "fixed", "(I)Z"⟩
theorem dX0_fixed_0 : decode cX0_fixed 0 = .ok (.iload_n 1, 1) := by decide +kernel
theorem dX0_fixed_1 : decode cX0_fixed 1 = .ok (.invokestatic 82, 3) := by decide +kernel
theorem dX0_fixed_4 : decode cX0_fixed 4 = .ok (.ifCond .eq 24, 3) := by decide +kernel
theorem dX0_fixed_7 : decode cX0_fixed 7 = .ok (.aload_n 0, 1) := by decide +kernel
theorem dX0_fixed_8 : decode cX0_fixed 8 = .ok (.invokevirtual 85, 3) := by decide +kernel
theorem dX0_fixed_11 : decode cX0_fixed 11 = .ok (.ifCond .eq 17, 3) := by decide +kernel
theorem dX0_fixed_14 : decode cX0_fixed 14 = .ok (.aload_n 0, 1) := by decide +kernel
theorem dX0_fixed_15 : decode cX0_fixed 15 = .ok (.getfield 16, 3) := by decide +kernel
theorem dX0_fixed_18 : decode cX0_fixed 18 = .ok (.iload_n 1, 1) := by decide +kernel
theorem dX0_fixed_19 : decode cX0_fixed 19 = .ok (.baload, 1) := by decide +kernel
theorem dX0_fixed_20 : decode cX0_fixed 20 = .ok (.iconst (-1), 1) := by decide +kernel
theorem dX0_fixed_21 : decode cX0_fixed 21 = .ok (.if_icmp .eq 7, 3) := by decide +kernel
theorem dX0_fixed_24 : decode cX0_fixed 24 = .ok (.iconst 1, 1) := by decide +kernel
theorem dX0_fixed_25 : decode cX0_fixed 25 = .ok (.goto 4, 3) := by decide +kernel
theorem dX0_fixed_28 : decode cX0_fixed 28 = .ok (.iconst 0, 1) := by decide +kernel
theorem dX0_fixed_29 : decode cX0_fixed 29 = .ok (.ireturn, 1) := by decide +kernel
abbrev cX0_isRole : ByteArray := prog_1_method_2_code
def yX0_isRole : MethodName := ⟨RX0, "isRole", "(I)Z"⟩
theorem dX0_isRole_0 : decode cX0_isRole 0 = .ok (.iload_n 0, 1) := by decide +kernel
theorem dX0_isRole_1 : decode cX0_isRole 1 = .ok (.ifCond .lt 12, 3) := by decide +kernel
theorem dX0_isRole_4 : decode cX0_isRole 4 = .ok (.iload_n 0, 1) := by decide +kernel
theorem dX0_isRole_5 : decode cX0_isRole 5 = .ok (.iconst 4, 1) := by decide +kernel
theorem dX0_isRole_6 : decode cX0_isRole 6 = .ok (.if_icmp .ge 7, 3) := by decide +kernel
theorem dX0_isRole_9 : decode cX0_isRole 9 = .ok (.iconst 1, 1) := by decide +kernel
theorem dX0_isRole_10 : decode cX0_isRole 10 = .ok (.goto 4, 3) := by decide +kernel
theorem dX0_isRole_13 : decode cX0_isRole 13 = .ok (.iconst 0, 1) := by decide +kernel
theorem dX0_isRole_14 : decode cX0_isRole 14 = .ok (.ireturn, 1) := by decide +kernel
abbrev cX0_learn : ByteArray := prog_1_method_13_code
def yX0_learn : MethodName := ⟨RX0, "learn", "()Z"⟩
theorem dX0_learn_0 : decode cX0_learn 0 = .ok (.aload_n 0, 1) := by decide +kernel
theorem dX0_learn_1 : decode cX0_learn 1 = .ok (.invokevirtual 47, 3) := by decide +kernel
theorem dX0_learn_4 : decode cX0_learn 4 = .ok (.ifCond .ne 5, 3) := by decide +kernel
theorem dX0_learn_7 : decode cX0_learn 7 = .ok (.iconst 0, 1) := by decide +kernel
theorem dX0_learn_8 : decode cX0_learn 8 = .ok (.ireturn, 1) := by decide +kernel
theorem dX0_learn_9 : decode cX0_learn 9 = .ok (.aload_n 0, 1) := by decide +kernel
theorem dX0_learn_10 : decode cX0_learn 10 = .ok (.getfield 54, 3) := by decide +kernel
theorem dX0_learn_13 : decode cX0_learn 13 = .ok (.ifCond .eq 5, 3) := by decide +kernel
theorem dX0_learn_16 : decode cX0_learn 16 = .ok (.iconst 1, 1) := by decide +kernel
theorem dX0_learn_17 : decode cX0_learn 17 = .ok (.ireturn, 1) := by decide +kernel
theorem dX0_learn_18 : decode cX0_learn 18 = .ok (.aload_n 0, 1) := by decide +kernel
theorem dX0_learn_19 : decode cX0_learn 19 = .ok (.iconst 1, 1) := by decide +kernel
theorem dX0_learn_20 : decode cX0_learn 20 = .ok (.putfield 54, 3) := by decide +kernel
theorem dX0_learn_23 : decode cX0_learn 23 = .ok (.aload_n 0, 1) := by decide +kernel
theorem dX0_learn_24 : decode cX0_learn 24 = .ok (.iconst 1, 1) := by decide +kernel
theorem dX0_learn_25 : decode cX0_learn 25 = .ok (.putfield 65, 3) := by decide +kernel
theorem dX0_learn_28 : decode cX0_learn 28 = .ok (.aload_n 0, 1) := by decide +kernel
theorem dX0_learn_29 : decode cX0_learn 29 = .ok (.getfield 35, 3) := by decide +kernel
theorem dX0_learn_32 : decode cX0_learn 32 = .ok (.iconst 1, 1) := by decide +kernel
theorem dX0_learn_33 : decode cX0_learn 33 = .ok (.isub, 1) := by decide +kernel
theorem dX0_learn_34 : decode cX0_learn 34 = .ok (.istore_n 1, 1) := by decide +kernel
theorem dX0_learn_35 : decode cX0_learn 35 = .ok (.iload_n 1, 1) := by decide +kernel
theorem dX0_learn_36 : decode cX0_learn 36 = .ok (.ifCond .lt 105, 3) := by decide +kernel
theorem dX0_learn_39 : decode cX0_learn 39 = .ok (.aload_n 0, 1) := by decide +kernel
theorem dX0_learn_40 : decode cX0_learn 40 = .ok (.getfield 7, 3) := by decide +kernel
theorem dX0_learn_43 : decode cX0_learn 43 = .ok (.iload_n 1, 1) := by decide +kernel
theorem dX0_learn_44 : decode cX0_learn 44 = .ok (.baload, 1) := by decide +kernel
theorem dX0_learn_45 : decode cX0_learn 45 = .ok (.invokestatic 39, 3) := by decide +kernel
theorem dX0_learn_48 : decode cX0_learn 48 = .ok (.istore_n 2, 1) := by decide +kernel
theorem dX0_learn_49 : decode cX0_learn 49 = .ok (.iload_n 2, 1) := by decide +kernel
theorem dX0_learn_50 : decode cX0_learn 50 = .ok (.ifCond .le 14, 3) := by decide +kernel
theorem dX0_learn_53 : decode cX0_learn 53 = .ok (.aload_n 0, 1) := by decide +kernel
theorem dX0_learn_54 : decode cX0_learn 54 = .ok (.getfield 13, 3) := by decide +kernel
theorem dX0_learn_57 : decode cX0_learn 57 = .ok (.iload_n 1, 1) := by decide +kernel
theorem dX0_learn_58 : decode cX0_learn 58 = .ok (.iconst 1, 1) := by decide +kernel
theorem dX0_learn_59 : decode cX0_learn 59 = .ok (.iadd, 1) := by decide +kernel
theorem dX0_learn_60 : decode cX0_learn 60 = .ok (.baload, 1) := by decide +kernel
theorem dX0_learn_61 : decode cX0_learn 61 = .ok (.goto 4, 3) := by decide +kernel
theorem dX0_learn_64 : decode cX0_learn 64 = .ok (.iconst 0, 1) := by decide +kernel
theorem dX0_learn_65 : decode cX0_learn 65 = .ok (.istore_n 3, 1) := by decide +kernel
theorem dX0_learn_66 : decode cX0_learn 66 = .ok (.iload_n 2, 1) := by decide +kernel
theorem dX0_learn_67 : decode cX0_learn 67 = .ok (.iconst 1, 1) := by decide +kernel
theorem dX0_learn_68 : decode cX0_learn 68 = .ok (.if_icmp .le 16, 3) := by decide +kernel
theorem dX0_learn_71 : decode cX0_learn 71 = .ok (.aload_n 0, 1) := by decide +kernel
theorem dX0_learn_72 : decode cX0_learn 72 = .ok (.getfield 13, 3) := by decide +kernel
theorem dX0_learn_75 : decode cX0_learn 75 = .ok (.iload_n 1, 1) := by decide +kernel
theorem dX0_learn_76 : decode cX0_learn 76 = .ok (.iconst 1, 1) := by decide +kernel
theorem dX0_learn_77 : decode cX0_learn 77 = .ok (.iadd, 1) := by decide +kernel
theorem dX0_learn_78 : decode cX0_learn 78 = .ok (.iload_n 3, 1) := by decide +kernel
theorem dX0_learn_79 : decode cX0_learn 79 = .ok (.iadd, 1) := by decide +kernel
theorem dX0_learn_80 : decode cX0_learn 80 = .ok (.baload, 1) := by decide +kernel
theorem dX0_learn_81 : decode cX0_learn 81 = .ok (.goto 4, 3) := by decide +kernel
theorem dX0_learn_84 : decode cX0_learn 84 = .ok (.iconst 0, 1) := by decide +kernel
theorem dX0_learn_85 : decode cX0_learn 85 = .ok (.istore 4, 2) := by decide +kernel
theorem dX0_learn_87 : decode cX0_learn 87 = .ok (.aload_n 0, 1) := by decide +kernel
theorem dX0_learn_88 : decode cX0_learn 88 = .ok (.getfield 13, 3) := by decide +kernel
theorem dX0_learn_91 : decode cX0_learn 91 = .ok (.iload_n 1, 1) := by decide +kernel
theorem dX0_learn_92 : decode cX0_learn 92 = .ok (.iconst 1, 1) := by decide +kernel
theorem dX0_learn_93 : decode cX0_learn 93 = .ok (.iload_n 3, 1) := by decide +kernel
theorem dX0_learn_94 : decode cX0_learn 94 = .ok (.iadd, 1) := by decide +kernel
theorem dX0_learn_95 : decode cX0_learn 95 = .ok (.iload 4, 2) := by decide +kernel
theorem dX0_learn_97 : decode cX0_learn 97 = .ok (.iadd, 1) := by decide +kernel
theorem dX0_learn_98 : decode cX0_learn 98 = .ok (.i2b, 1) := by decide +kernel
theorem dX0_learn_99 : decode cX0_learn 99 = .ok (.bastore, 1) := by decide +kernel
theorem dX0_learn_100 : decode cX0_learn 100 = .ok (.iconst 0, 1) := by decide +kernel
theorem dX0_learn_101 : decode cX0_learn 101 = .ok (.istore 5, 2) := by decide +kernel
theorem dX0_learn_103 : decode cX0_learn 103 = .ok (.iload 5, 2) := by decide +kernel
theorem dX0_learn_105 : decode cX0_learn 105 = .ok (.iconst 4, 1) := by decide +kernel
theorem dX0_learn_106 : decode cX0_learn 106 = .ok (.if_icmp .ge 29, 3) := by decide +kernel
theorem dX0_learn_109 : decode cX0_learn 109 = .ok (.aload_n 0, 1) := by decide +kernel
theorem dX0_learn_110 : decode cX0_learn 110 = .ok (.getfield 16, 3) := by decide +kernel
theorem dX0_learn_113 : decode cX0_learn 113 = .ok (.iload_n 1, 1) := by decide +kernel
theorem dX0_learn_114 : decode cX0_learn 114 = .ok (.iconst 4, 1) := by decide +kernel
theorem dX0_learn_115 : decode cX0_learn 115 = .ok (.imul, 1) := by decide +kernel
theorem dX0_learn_116 : decode cX0_learn 116 = .ok (.iload 5, 2) := by decide +kernel
theorem dX0_learn_118 : decode cX0_learn 118 = .ok (.iadd, 1) := by decide +kernel
theorem dX0_learn_119 : decode cX0_learn 119 = .ok (.aload_n 0, 1) := by decide +kernel
theorem dX0_learn_120 : decode cX0_learn 120 = .ok (.iload_n 1, 1) := by decide +kernel
theorem dX0_learn_121 : decode cX0_learn 121 = .ok (.iload_n 2, 1) := by decide +kernel
theorem dX0_learn_122 : decode cX0_learn 122 = .ok (.iload 5, 2) := by decide +kernel
theorem dX0_learn_124 : decode cX0_learn 124 = .ok (.invokevirtual 68, 3) := by decide +kernel
theorem dX0_learn_127 : decode cX0_learn 127 = .ok (.i2b, 1) := by decide +kernel
theorem dX0_learn_128 : decode cX0_learn 128 = .ok (.bastore, 1) := by decide +kernel
theorem dX0_learn_129 : decode cX0_learn 129 = .ok (.iinc 5 1, 3) := by decide +kernel
theorem dX0_learn_132 : decode cX0_learn 132 = .ok (.goto (-29), 3) := by decide +kernel
theorem dX0_learn_135 : decode cX0_learn 135 = .ok (.iinc 1 (-1), 3) := by decide +kernel
theorem dX0_learn_138 : decode cX0_learn 138 = .ok (.goto (-103), 3) := by decide +kernel
theorem dX0_learn_141 : decode cX0_learn 141 = .ok (.iconst 1, 1) := by decide +kernel
theorem dX0_learn_142 : decode cX0_learn 142 = .ok (.ireturn, 1) := by decide +kernel
abbrev cX0_project : ByteArray := prog_1_method_14_code
def yX0_project : MethodName := ⟨RX0, "project", "(III)I"⟩
theorem dX0_project_0 : decode cX0_project 0 = .ok (.iload_n 2, 1) := by decide +kernel
theorem dX0_project_1 : decode cX0_project 1 = .ok (.ifCond .ne 5, 3) := by decide +kernel
theorem dX0_project_4 : decode cX0_project 4 = .ok (.iconst 0, 1) := by decide +kernel
theorem dX0_project_5 : decode cX0_project 5 = .ok (.ireturn, 1) := by decide +kernel
theorem dX0_project_6 : decode cX0_project 6 = .ok (.aload_n 0, 1) := by decide +kernel
theorem dX0_project_7 : decode cX0_project 7 = .ok (.getfield 16, 3) := by decide +kernel
theorem dX0_project_10 : decode cX0_project 10 = .ok (.iload_n 1, 1) := by decide +kernel
theorem dX0_project_11 : decode cX0_project 11 = .ok (.iconst 1, 1) := by decide +kernel
theorem dX0_project_12 : decode cX0_project 12 = .ok (.iadd, 1) := by decide +kernel
theorem dX0_project_13 : decode cX0_project 13 = .ok (.iconst 4, 1) := by decide +kernel
theorem dX0_project_14 : decode cX0_project 14 = .ok (.imul, 1) := by decide +kernel
theorem dX0_project_15 : decode cX0_project 15 = .ok (.iload_n 3, 1) := by decide +kernel
theorem dX0_project_16 : decode cX0_project 16 = .ok (.iadd, 1) := by decide +kernel
theorem dX0_project_17 : decode cX0_project 17 = .ok (.baload, 1) := by decide +kernel
theorem dX0_project_18 : decode cX0_project 18 = .ok (.istore 4, 2) := by decide +kernel
theorem dX0_project_20 : decode cX0_project 20 = .ok (.iload_n 2, 1) := by decide +kernel
theorem dX0_project_21 : decode cX0_project 21 = .ok (.iconst 1, 1) := by decide +kernel
theorem dX0_project_22 : decode cX0_project 22 = .ok (.if_icmp .le 27, 3) := by decide +kernel
theorem dX0_project_25 : decode cX0_project 25 = .ok (.aload_n 0, 1) := by decide +kernel
theorem dX0_project_26 : decode cX0_project 26 = .ok (.getfield 16, 3) := by decide +kernel
theorem dX0_project_29 : decode cX0_project 29 = .ok (.iload_n 1, 1) := by decide +kernel
theorem dX0_project_30 : decode cX0_project 30 = .ok (.iconst 1, 1) := by decide +kernel
theorem dX0_project_31 : decode cX0_project 31 = .ok (.iadd, 1) := by decide +kernel
theorem dX0_project_32 : decode cX0_project 32 = .ok (.aload_n 0, 1) := by decide +kernel
theorem dX0_project_33 : decode cX0_project 33 = .ok (.getfield 13, 3) := by decide +kernel
theorem dX0_project_36 : decode cX0_project 36 = .ok (.iload_n 1, 1) := by decide +kernel
theorem dX0_project_37 : decode cX0_project 37 = .ok (.iconst 1, 1) := by decide +kernel
theorem dX0_project_38 : decode cX0_project 38 = .ok (.iadd, 1) := by decide +kernel
theorem dX0_project_39 : decode cX0_project 39 = .ok (.baload, 1) := by decide +kernel
theorem dX0_project_40 : decode cX0_project 40 = .ok (.iadd, 1) := by decide +kernel
theorem dX0_project_41 : decode cX0_project 41 = .ok (.iconst 4, 1) := by decide +kernel
theorem dX0_project_42 : decode cX0_project 42 = .ok (.imul, 1) := by decide +kernel
theorem dX0_project_43 : decode cX0_project 43 = .ok (.iload_n 3, 1) := by decide +kernel
theorem dX0_project_44 : decode cX0_project 44 = .ok (.iadd, 1) := by decide +kernel
theorem dX0_project_45 : decode cX0_project 45 = .ok (.baload, 1) := by decide +kernel
theorem dX0_project_46 : decode cX0_project 46 = .ok (.goto 4, 3) := by decide +kernel
theorem dX0_project_49 : decode cX0_project 49 = .ok (.iconst 0, 1) := by decide +kernel
theorem dX0_project_50 : decode cX0_project 50 = .ok (.istore 5, 2) := by decide +kernel
theorem dX0_project_52 : decode cX0_project 52 = .ok (.iload 4, 2) := by decide +kernel
theorem dX0_project_54 : decode cX0_project 54 = .ok (.iconst (-1), 1) := by decide +kernel
theorem dX0_project_55 : decode cX0_project 55 = .ok (.if_icmp .eq 9, 3) := by decide +kernel
theorem dX0_project_58 : decode cX0_project 58 = .ok (.iload 5, 2) := by decide +kernel
theorem dX0_project_60 : decode cX0_project 60 = .ok (.iconst (-1), 1) := by decide +kernel
theorem dX0_project_61 : decode cX0_project 61 = .ok (.if_icmp .ne 5, 3) := by decide +kernel
theorem dX0_project_64 : decode cX0_project 64 = .ok (.iconst (-1), 1) := by decide +kernel
theorem dX0_project_65 : decode cX0_project 65 = .ok (.ireturn, 1) := by decide +kernel
theorem dX0_project_66 : decode cX0_project 66 = .ok (.aload_n 0, 1) := by decide +kernel
theorem dX0_project_67 : decode cX0_project 67 = .ok (.getfield 7, 3) := by decide +kernel
theorem dX0_project_70 : decode cX0_project 70 = .ok (.iload_n 1, 1) := by decide +kernel
theorem dX0_project_71 : decode cX0_project 71 = .ok (.baload, 1) := by decide +kernel
theorem dX0_project_72 : decode cX0_project 72 = .ok (.invokestatic 72, 3) := by decide +kernel
theorem dX0_project_75 : decode cX0_project 75 = .ok (.istore 6, 2) := by decide +kernel
theorem dX0_project_77 : decode cX0_project 77 = .ok (.aload_n 0, 1) := by decide +kernel
theorem dX0_project_78 : decode cX0_project 78 = .ok (.getfield 7, 3) := by decide +kernel
theorem dX0_project_81 : decode cX0_project 81 = .ok (.iload_n 1, 1) := by decide +kernel
theorem dX0_project_82 : decode cX0_project 82 = .ok (.baload, 1) := by decide +kernel
theorem dX0_project_83 : decode cX0_project 83 = .ok (.invokestatic 75, 3) := by decide +kernel
theorem dX0_project_86 : decode cX0_project 86 = .ok (.istore 7, 2) := by decide +kernel
theorem dX0_project_88 : decode cX0_project 88 = .ok (.iload_n 3, 1) := by decide +kernel
theorem dX0_project_89 : decode cX0_project 89 = .ok (.iload 6, 2) := by decide +kernel
theorem dX0_project_91 : decode cX0_project 91 = .ok (.if_icmp .ne 17, 3) := by decide +kernel
theorem dX0_project_94 : decode cX0_project 94 = .ok (.aload_n 0, 1) := by decide +kernel
theorem dX0_project_95 : decode cX0_project 95 = .ok (.iconst 1, 1) := by decide +kernel
theorem dX0_project_96 : decode cX0_project 96 = .ok (.iload 7, 2) := by decide +kernel
theorem dX0_project_98 : decode cX0_project 98 = .ok (.iadd, 1) := by decide +kernel
theorem dX0_project_99 : decode cX0_project 99 = .ok (.iload_n 2, 1) := by decide +kernel
theorem dX0_project_100 : decode cX0_project 100 = .ok (.iload 4, 2) := by decide +kernel
theorem dX0_project_102 : decode cX0_project 102 = .ok (.iload 5, 2) := by decide +kernel
theorem dX0_project_104 : decode cX0_project 104 = .ok (.invokevirtual 78, 3) := by decide +kernel
theorem dX0_project_107 : decode cX0_project 107 = .ok (.ireturn, 1) := by decide +kernel
theorem dX0_project_108 : decode cX0_project 108 = .ok (.iload_n 3, 1) := by decide +kernel
theorem dX0_project_109 : decode cX0_project 109 = .ok (.iload 7, 2) := by decide +kernel
theorem dX0_project_111 : decode cX0_project 111 = .ok (.if_icmp .ne 17, 3) := by decide +kernel
theorem dX0_project_114 : decode cX0_project 114 = .ok (.aload_n 0, 1) := by decide +kernel
theorem dX0_project_115 : decode cX0_project 115 = .ok (.iconst 5, 1) := by decide +kernel
theorem dX0_project_116 : decode cX0_project 116 = .ok (.iload 6, 2) := by decide +kernel
theorem dX0_project_118 : decode cX0_project 118 = .ok (.iadd, 1) := by decide +kernel
theorem dX0_project_119 : decode cX0_project 119 = .ok (.iload_n 2, 1) := by decide +kernel
theorem dX0_project_120 : decode cX0_project 120 = .ok (.iload 4, 2) := by decide +kernel
theorem dX0_project_122 : decode cX0_project 122 = .ok (.iload 5, 2) := by decide +kernel
theorem dX0_project_124 : decode cX0_project 124 = .ok (.invokevirtual 78, 3) := by decide +kernel
theorem dX0_project_127 : decode cX0_project 127 = .ok (.ireturn, 1) := by decide +kernel
theorem dX0_project_128 : decode cX0_project 128 = .ok (.iload_n 2, 1) := by decide +kernel
theorem dX0_project_129 : decode cX0_project 129 = .ok (.iconst 1, 1) := by decide +kernel
theorem dX0_project_130 : decode cX0_project 130 = .ok (.if_icmp .eq 10, 3) := by decide +kernel
theorem dX0_project_133 : decode cX0_project 133 = .ok (.iload 4, 2) := by decide +kernel
theorem dX0_project_135 : decode cX0_project 135 = .ok (.iload 5, 2) := by decide +kernel
theorem dX0_project_137 : decode cX0_project 137 = .ok (.if_icmp .ne 8, 3) := by decide +kernel
theorem dX0_project_140 : decode cX0_project 140 = .ok (.iload 4, 2) := by decide +kernel
theorem dX0_project_142 : decode cX0_project 142 = .ok (.goto 4, 3) := by decide +kernel
theorem dX0_project_145 : decode cX0_project 145 = .ok (.iconst (-1), 1) := by decide +kernel
theorem dX0_project_146 : decode cX0_project 146 = .ok (.ireturn, 1) := by decide +kernel
abbrev cX0_senderOf : ByteArray := prog_1_method_4_code
def yX0_senderOf : MethodName := ⟨RX0, "senderOf", "(I)I"⟩
theorem dX0_senderOf_0 : decode cX0_senderOf 0 = .ok (.iload_n 0, 1) := by decide +kernel
theorem dX0_senderOf_1 : decode cX0_senderOf 1 = .ok (.bipush 16, 2) := by decide +kernel
theorem dX0_senderOf_3 : decode cX0_senderOf 3 = .ok (.if_icmp .le 10, 3) := by decide +kernel
theorem dX0_senderOf_6 : decode cX0_senderOf 6 = .ok (.iload_n 0, 1) := by decide +kernel
theorem dX0_senderOf_7 : decode cX0_senderOf 7 = .ok (.bipush 17, 2) := by decide +kernel
theorem dX0_senderOf_9 : decode cX0_senderOf 9 = .ok (.isub, 1) := by decide +kernel
theorem dX0_senderOf_10 : decode cX0_senderOf 10 = .ok (.goto 6, 3) := by decide +kernel
theorem dX0_senderOf_13 : decode cX0_senderOf 13 = .ok (.iload_n 0, 1) := by decide +kernel
theorem dX0_senderOf_14 : decode cX0_senderOf 14 = .ok (.iconst 1, 1) := by decide +kernel
theorem dX0_senderOf_15 : decode cX0_senderOf 15 = .ok (.isub, 1) := by decide +kernel
theorem dX0_senderOf_16 : decode cX0_senderOf 16 = .ok (.iconst 3, 1) := by decide +kernel
theorem dX0_senderOf_17 : decode cX0_senderOf 17 = .ok (.iand, 1) := by decide +kernel
theorem dX0_senderOf_18 : decode cX0_senderOf 18 = .ok (.ireturn, 1) := by decide +kernel
abbrev cX0_receiverOf : ByteArray := prog_1_method_5_code
def yX0_receiverOf : MethodName := ⟨RX0, "receiverOf", "(I)I"⟩
theorem dX0_receiverOf_0 : decode cX0_receiverOf 0 = .ok (.iload_n 0, 1) := by decide +kernel
theorem dX0_receiverOf_1 : decode cX0_receiverOf 1 = .ok (.bipush 16, 2) := by decide +kernel
theorem dX0_receiverOf_3 : decode cX0_receiverOf 3 = .ok (.if_icmp .le 10, 3) := by decide +kernel
theorem dX0_receiverOf_6 : decode cX0_receiverOf 6 = .ok (.iload_n 0, 1) := by decide +kernel
theorem dX0_receiverOf_7 : decode cX0_receiverOf 7 = .ok (.bipush 17, 2) := by decide +kernel
theorem dX0_receiverOf_9 : decode cX0_receiverOf 9 = .ok (.isub, 1) := by decide +kernel
theorem dX0_receiverOf_10 : decode cX0_receiverOf 10 = .ok (.goto 6, 3) := by decide +kernel
theorem dX0_receiverOf_13 : decode cX0_receiverOf 13 = .ok (.iload_n 0, 1) := by decide +kernel
theorem dX0_receiverOf_14 : decode cX0_receiverOf 14 = .ok (.iconst 1, 1) := by decide +kernel
theorem dX0_receiverOf_15 : decode cX0_receiverOf 15 = .ok (.isub, 1) := by decide +kernel
theorem dX0_receiverOf_16 : decode cX0_receiverOf 16 = .ok (.iconst 2, 1) := by decide +kernel
theorem dX0_receiverOf_17 : decode cX0_receiverOf 17 = .ok (.ishr, 1) := by decide +kernel
theorem dX0_receiverOf_18 : decode cX0_receiverOf 18 = .ok (.ireturn, 1) := by decide +kernel
abbrev cX0_partFor : ByteArray := prog_1_method_12_code
def yX0_partFor : MethodName := ⟨RX0, "partFor", "(IIII)I"⟩
theorem dX0_partFor_0 : decode cX0_partFor 0 = .ok (.iconst 1, 1) := by decide +kernel
theorem dX0_partFor_1 : decode cX0_partFor 1 = .ok (.istore 5, 2) := by decide +kernel
theorem dX0_partFor_3 : decode cX0_partFor 3 = .ok (.iload 5, 2) := by decide +kernel
theorem dX0_partFor_5 : decode cX0_partFor 5 = .ok (.aload_n 0, 1) := by decide +kernel
theorem dX0_partFor_6 : decode cX0_partFor 6 = .ok (.getfield 65, 3) := by decide +kernel
theorem dX0_partFor_9 : decode cX0_partFor 9 = .ok (.if_icmp .ge 75, 3) := by decide +kernel
theorem dX0_partFor_12 : decode cX0_partFor 12 = .ok (.aload_n 0, 1) := by decide +kernel
theorem dX0_partFor_13 : decode cX0_partFor 13 = .ok (.getfield 19, 3) := by decide +kernel
theorem dX0_partFor_16 : decode cX0_partFor 16 = .ok (.iload 5, 2) := by decide +kernel
theorem dX0_partFor_18 : decode cX0_partFor 18 = .ok (.baload, 1) := by decide +kernel
theorem dX0_partFor_19 : decode cX0_partFor 19 = .ok (.iload_n 1, 1) := by decide +kernel
theorem dX0_partFor_20 : decode cX0_partFor 20 = .ok (.if_icmp .ne 18, 3) := by decide +kernel
theorem dX0_partFor_23 : decode cX0_partFor 23 = .ok (.aload_n 0, 1) := by decide +kernel
theorem dX0_partFor_24 : decode cX0_partFor 24 = .ok (.getfield 22, 3) := by decide +kernel
theorem dX0_partFor_27 : decode cX0_partFor 27 = .ok (.iload 5, 2) := by decide +kernel
theorem dX0_partFor_29 : decode cX0_partFor 29 = .ok (.baload, 1) := by decide +kernel
theorem dX0_partFor_30 : decode cX0_partFor 30 = .ok (.iload_n 2, 1) := by decide +kernel
theorem dX0_partFor_31 : decode cX0_partFor 31 = .ok (.if_icmp .ne 7, 3) := by decide +kernel
theorem dX0_partFor_34 : decode cX0_partFor 34 = .ok (.iconst 1, 1) := by decide +kernel
theorem dX0_partFor_35 : decode cX0_partFor 35 = .ok (.goto 4, 3) := by decide +kernel
theorem dX0_partFor_38 : decode cX0_partFor 38 = .ok (.iconst 0, 1) := by decide +kernel
theorem dX0_partFor_39 : decode cX0_partFor 39 = .ok (.istore 6, 2) := by decide +kernel
theorem dX0_partFor_41 : decode cX0_partFor 41 = .ok (.iload 6, 2) := by decide +kernel
theorem dX0_partFor_43 : decode cX0_partFor 43 = .ok (.ifCond .eq 35, 3) := by decide +kernel
theorem dX0_partFor_46 : decode cX0_partFor 46 = .ok (.aload_n 0, 1) := by decide +kernel
theorem dX0_partFor_47 : decode cX0_partFor 47 = .ok (.getfield 25, 3) := by decide +kernel
theorem dX0_partFor_50 : decode cX0_partFor 50 = .ok (.iconst 2, 1) := by decide +kernel
theorem dX0_partFor_51 : decode cX0_partFor 51 = .ok (.iload 5, 2) := by decide +kernel
theorem dX0_partFor_53 : decode cX0_partFor 53 = .ok (.imul, 1) := by decide +kernel
theorem dX0_partFor_54 : decode cX0_partFor 54 = .ok (.baload, 1) := by decide +kernel
theorem dX0_partFor_55 : decode cX0_partFor 55 = .ok (.iload_n 3, 1) := by decide +kernel
theorem dX0_partFor_56 : decode cX0_partFor 56 = .ok (.if_icmp .ne 22, 3) := by decide +kernel
theorem dX0_partFor_59 : decode cX0_partFor 59 = .ok (.aload_n 0, 1) := by decide +kernel
theorem dX0_partFor_60 : decode cX0_partFor 60 = .ok (.getfield 25, 3) := by decide +kernel
theorem dX0_partFor_63 : decode cX0_partFor 63 = .ok (.iconst 2, 1) := by decide +kernel
theorem dX0_partFor_64 : decode cX0_partFor 64 = .ok (.iload 5, 2) := by decide +kernel
theorem dX0_partFor_66 : decode cX0_partFor 66 = .ok (.imul, 1) := by decide +kernel
theorem dX0_partFor_67 : decode cX0_partFor 67 = .ok (.iconst 1, 1) := by decide +kernel
theorem dX0_partFor_68 : decode cX0_partFor 68 = .ok (.iadd, 1) := by decide +kernel
theorem dX0_partFor_69 : decode cX0_partFor 69 = .ok (.baload, 1) := by decide +kernel
theorem dX0_partFor_70 : decode cX0_partFor 70 = .ok (.iload 4, 2) := by decide +kernel
theorem dX0_partFor_72 : decode cX0_partFor 72 = .ok (.if_icmp .ne 6, 3) := by decide +kernel
theorem dX0_partFor_75 : decode cX0_partFor 75 = .ok (.iload 5, 2) := by decide +kernel
theorem dX0_partFor_77 : decode cX0_partFor 77 = .ok (.ireturn, 1) := by decide +kernel
theorem dX0_partFor_78 : decode cX0_partFor 78 = .ok (.iinc 5 1, 3) := by decide +kernel
theorem dX0_partFor_81 : decode cX0_partFor 81 = .ok (.goto (-78), 3) := by decide +kernel
theorem dX0_partFor_84 : decode cX0_partFor 84 = .ok (.aload_n 0, 1) := by decide +kernel
theorem dX0_partFor_85 : decode cX0_partFor 85 = .ok (.getfield 65, 3) := by decide +kernel
theorem dX0_partFor_88 : decode cX0_partFor 88 = .ok (.istore 5, 2) := by decide +kernel
theorem dX0_partFor_90 : decode cX0_partFor 90 = .ok (.aload_n 0, 1) := by decide +kernel
theorem dX0_partFor_91 : decode cX0_partFor 91 = .ok (.getfield 19, 3) := by decide +kernel
theorem dX0_partFor_94 : decode cX0_partFor 94 = .ok (.iload 5, 2) := by decide +kernel
theorem dX0_partFor_96 : decode cX0_partFor 96 = .ok (.iload_n 1, 1) := by decide +kernel
theorem dX0_partFor_97 : decode cX0_partFor 97 = .ok (.i2b, 1) := by decide +kernel
theorem dX0_partFor_98 : decode cX0_partFor 98 = .ok (.bastore, 1) := by decide +kernel
theorem dX0_partFor_99 : decode cX0_partFor 99 = .ok (.aload_n 0, 1) := by decide +kernel
theorem dX0_partFor_100 : decode cX0_partFor 100 = .ok (.getfield 22, 3) := by decide +kernel
theorem dX0_partFor_103 : decode cX0_partFor 103 = .ok (.iload 5, 2) := by decide +kernel
theorem dX0_partFor_105 : decode cX0_partFor 105 = .ok (.iload_n 2, 1) := by decide +kernel
theorem dX0_partFor_106 : decode cX0_partFor 106 = .ok (.i2b, 1) := by decide +kernel
theorem dX0_partFor_107 : decode cX0_partFor 107 = .ok (.bastore, 1) := by decide +kernel
theorem dX0_partFor_108 : decode cX0_partFor 108 = .ok (.aload_n 0, 1) := by decide +kernel
theorem dX0_partFor_109 : decode cX0_partFor 109 = .ok (.getfield 25, 3) := by decide +kernel
theorem dX0_partFor_112 : decode cX0_partFor 112 = .ok (.iconst 2, 1) := by decide +kernel
theorem dX0_partFor_113 : decode cX0_partFor 113 = .ok (.iload 5, 2) := by decide +kernel
theorem dX0_partFor_115 : decode cX0_partFor 115 = .ok (.imul, 1) := by decide +kernel
theorem dX0_partFor_116 : decode cX0_partFor 116 = .ok (.iload_n 3, 1) := by decide +kernel
theorem dX0_partFor_117 : decode cX0_partFor 117 = .ok (.i2b, 1) := by decide +kernel
theorem dX0_partFor_118 : decode cX0_partFor 118 = .ok (.bastore, 1) := by decide +kernel
theorem dX0_partFor_119 : decode cX0_partFor 119 = .ok (.aload_n 0, 1) := by decide +kernel
theorem dX0_partFor_120 : decode cX0_partFor 120 = .ok (.getfield 25, 3) := by decide +kernel
theorem dX0_partFor_123 : decode cX0_partFor 123 = .ok (.iconst 2, 1) := by decide +kernel
theorem dX0_partFor_124 : decode cX0_partFor 124 = .ok (.iload 5, 2) := by decide +kernel
theorem dX0_partFor_126 : decode cX0_partFor 126 = .ok (.imul, 1) := by decide +kernel
theorem dX0_partFor_127 : decode cX0_partFor 127 = .ok (.iconst 1, 1) := by decide +kernel
theorem dX0_partFor_128 : decode cX0_partFor 128 = .ok (.iadd, 1) := by decide +kernel
theorem dX0_partFor_129 : decode cX0_partFor 129 = .ok (.iload 4, 2) := by decide +kernel
theorem dX0_partFor_131 : decode cX0_partFor 131 = .ok (.i2b, 1) := by decide +kernel
theorem dX0_partFor_132 : decode cX0_partFor 132 = .ok (.bastore, 1) := by decide +kernel
theorem dX0_partFor_133 : decode cX0_partFor 133 = .ok (.aload_n 0, 1) := by decide +kernel
theorem dX0_partFor_134 : decode cX0_partFor 134 = .ok (.getfield 28, 3) := by decide +kernel
theorem dX0_partFor_137 : decode cX0_partFor 137 = .ok (.iload 5, 2) := by decide +kernel
theorem dX0_partFor_139 : decode cX0_partFor 139 = .ok (.iconst 1, 1) := by decide +kernel
theorem dX0_partFor_140 : decode cX0_partFor 140 = .ok (.aload_n 0, 1) := by decide +kernel
theorem dX0_partFor_141 : decode cX0_partFor 141 = .ok (.getfield 28, 3) := by decide +kernel
theorem dX0_partFor_144 : decode cX0_partFor 144 = .ok (.iload_n 3, 1) := by decide +kernel
theorem dX0_partFor_145 : decode cX0_partFor 145 = .ok (.iaload, 1) := by decide +kernel
theorem dX0_partFor_146 : decode cX0_partFor 146 = .ok (.iadd, 1) := by decide +kernel
theorem dX0_partFor_147 : decode cX0_partFor 147 = .ok (.aload_n 0, 1) := by decide +kernel
theorem dX0_partFor_148 : decode cX0_partFor 148 = .ok (.getfield 28, 3) := by decide +kernel
theorem dX0_partFor_151 : decode cX0_partFor 151 = .ok (.iload 4, 2) := by decide +kernel
theorem dX0_partFor_153 : decode cX0_partFor 153 = .ok (.iaload, 1) := by decide +kernel
theorem dX0_partFor_154 : decode cX0_partFor 154 = .ok (.iadd, 1) := by decide +kernel
theorem dX0_partFor_155 : decode cX0_partFor 155 = .ok (.iastore, 1) := by decide +kernel
theorem dX0_partFor_156 : decode cX0_partFor 156 = .ok (.aload_n 0, 1) := by decide +kernel
theorem dX0_partFor_157 : decode cX0_partFor 157 = .ok (.dup, 1) := by decide +kernel
theorem dX0_partFor_158 : decode cX0_partFor 158 = .ok (.getfield 65, 3) := by decide +kernel
theorem dX0_partFor_161 : decode cX0_partFor 161 = .ok (.iconst 1, 1) := by decide +kernel
theorem dX0_partFor_162 : decode cX0_partFor 162 = .ok (.iadd, 1) := by decide +kernel
theorem dX0_partFor_163 : decode cX0_partFor 163 = .ok (.putfield 65, 3) := by decide +kernel
theorem dX0_partFor_166 : decode cX0_partFor 166 = .ok (.iload 5, 2) := by decide +kernel
theorem dX0_partFor_168 : decode cX0_partFor 168 = .ok (.ireturn, 1) := by decide +kernel
abbrev cX0_fit : ByteArray := prog_1_method_16_code
def yX0_fit : MethodName := ⟨RX0, "fit", "()Z"⟩
theorem dX0_fit_0 : decode cX0_fit 0 = .ok (.aload_n 0, 1) := by decide +kernel
theorem dX0_fit_1 : decode cX0_fit 1 = .ok (.iconst 0, 1) := by decide +kernel
theorem dX0_fit_2 : decode cX0_fit 2 = .ok (.invokevirtual 88, 3) := by decide +kernel
theorem dX0_fit_5 : decode cX0_fit 5 = .ok (.ifCond .eq 31, 3) := by decide +kernel
theorem dX0_fit_8 : decode cX0_fit 8 = .ok (.aload_n 0, 1) := by decide +kernel
theorem dX0_fit_9 : decode cX0_fit 9 = .ok (.iconst 1, 1) := by decide +kernel
theorem dX0_fit_10 : decode cX0_fit 10 = .ok (.invokevirtual 88, 3) := by decide +kernel
theorem dX0_fit_13 : decode cX0_fit 13 = .ok (.ifCond .eq 23, 3) := by decide +kernel
theorem dX0_fit_16 : decode cX0_fit 16 = .ok (.aload_n 0, 1) := by decide +kernel
theorem dX0_fit_17 : decode cX0_fit 17 = .ok (.iconst 2, 1) := by decide +kernel
theorem dX0_fit_18 : decode cX0_fit 18 = .ok (.invokevirtual 88, 3) := by decide +kernel
theorem dX0_fit_21 : decode cX0_fit 21 = .ok (.ifCond .eq 15, 3) := by decide +kernel
theorem dX0_fit_24 : decode cX0_fit 24 = .ok (.aload_n 0, 1) := by decide +kernel
theorem dX0_fit_25 : decode cX0_fit 25 = .ok (.iconst 3, 1) := by decide +kernel
theorem dX0_fit_26 : decode cX0_fit 26 = .ok (.invokevirtual 88, 3) := by decide +kernel
theorem dX0_fit_29 : decode cX0_fit 29 = .ok (.ifCond .eq 7, 3) := by decide +kernel
theorem dX0_fit_32 : decode cX0_fit 32 = .ok (.iconst 1, 1) := by decide +kernel
theorem dX0_fit_33 : decode cX0_fit 33 = .ok (.goto 4, 3) := by decide +kernel
theorem dX0_fit_36 : decode cX0_fit 36 = .ok (.iconst 0, 1) := by decide +kernel
theorem dX0_fit_37 : decode cX0_fit 37 = .ok (.ireturn, 1) := by decide +kernel
abbrev cX0_size : ByteArray := prog_1_method_17_code
def yX0_size : MethodName := ⟨RX0, "size", "(I)I"⟩
theorem dX0_size_0 : decode cX0_size 0 = .ok (.aload_n 0, 1) := by decide +kernel
theorem dX0_size_1 : decode cX0_size 1 = .ok (.iload_n 1, 1) := by decide +kernel
theorem dX0_size_2 : decode cX0_size 2 = .ok (.invokevirtual 88, 3) := by decide +kernel
theorem dX0_size_5 : decode cX0_size 5 = .ok (.ifCond .eq 17, 3) := by decide +kernel
theorem dX0_size_8 : decode cX0_size 8 = .ok (.aload_n 0, 1) := by decide +kernel
theorem dX0_size_9 : decode cX0_size 9 = .ok (.getfield 28, 3) := by decide +kernel
theorem dX0_size_12 : decode cX0_size 12 = .ok (.aload_n 0, 1) := by decide +kernel
theorem dX0_size_13 : decode cX0_size 13 = .ok (.getfield 16, 3) := by decide +kernel
theorem dX0_size_16 : decode cX0_size 16 = .ok (.iload_n 1, 1) := by decide +kernel
theorem dX0_size_17 : decode cX0_size 17 = .ok (.baload, 1) := by decide +kernel
theorem dX0_size_18 : decode cX0_size 18 = .ok (.iaload, 1) := by decide +kernel
theorem dX0_size_19 : decode cX0_size 19 = .ok (.goto 4, 3) := by decide +kernel
theorem dX0_size_22 : decode cX0_size 22 = .ok (.iconst (-1), 1) := by decide +kernel
theorem dX0_size_23 : decode cX0_size 23 = .ok (.ireturn, 1) := by decide +kernel
abbrev cX0_start : ByteArray := prog_1_method_18_code
def yX0_start : MethodName := ⟨RX0, "start", "()Z"⟩
theorem dX0_start_0 : decode cX0_start 0 = .ok (.aload_n 0, 1) := by decide +kernel
theorem dX0_start_1 : decode cX0_start 1 = .ok (.invokevirtual 91, 3) := by decide +kernel
theorem dX0_start_4 : decode cX0_start 4 = .ok (.ifCond .ne 5, 3) := by decide +kernel
theorem dX0_start_7 : decode cX0_start 7 = .ok (.iconst 0, 1) := by decide +kernel
theorem dX0_start_8 : decode cX0_start 8 = .ok (.ireturn, 1) := by decide +kernel
theorem dX0_start_9 : decode cX0_start 9 = .ok (.aload_n 0, 1) := by decide +kernel
theorem dX0_start_10 : decode cX0_start 10 = .ok (.iconst 1, 1) := by decide +kernel
theorem dX0_start_11 : decode cX0_start 11 = .ok (.putfield 58, 3) := by decide +kernel
theorem dX0_start_14 : decode cX0_start 14 = .ok (.aload_n 0, 1) := by decide +kernel
theorem dX0_start_15 : decode cX0_start 15 = .ok (.iconst 0, 1) := by decide +kernel
theorem dX0_start_16 : decode cX0_start 16 = .ok (.putfield 94, 3) := by decide +kernel
theorem dX0_start_19 : decode cX0_start 19 = .ok (.iconst 0, 1) := by decide +kernel
theorem dX0_start_20 : decode cX0_start 20 = .ok (.istore_n 1, 1) := by decide +kernel
theorem dX0_start_21 : decode cX0_start 21 = .ok (.iload_n 1, 1) := by decide +kernel
theorem dX0_start_22 : decode cX0_start 22 = .ok (.iconst 4, 1) := by decide +kernel
theorem dX0_start_23 : decode cX0_start 23 = .ok (.if_icmp .ge 21, 3) := by decide +kernel
theorem dX0_start_26 : decode cX0_start 26 = .ok (.aload_n 0, 1) := by decide +kernel
theorem dX0_start_27 : decode cX0_start 27 = .ok (.getfield 32, 3) := by decide +kernel
theorem dX0_start_30 : decode cX0_start 30 = .ok (.iload_n 1, 1) := by decide +kernel
theorem dX0_start_31 : decode cX0_start 31 = .ok (.aload_n 0, 1) := by decide +kernel
theorem dX0_start_32 : decode cX0_start 32 = .ok (.getfield 16, 3) := by decide +kernel
theorem dX0_start_35 : decode cX0_start 35 = .ok (.iload_n 1, 1) := by decide +kernel
theorem dX0_start_36 : decode cX0_start 36 = .ok (.baload, 1) := by decide +kernel
theorem dX0_start_37 : decode cX0_start 37 = .ok (.bastore, 1) := by decide +kernel
theorem dX0_start_38 : decode cX0_start 38 = .ok (.iinc 1 1, 3) := by decide +kernel
theorem dX0_start_41 : decode cX0_start 41 = .ok (.goto (-20), 3) := by decide +kernel
theorem dX0_start_44 : decode cX0_start 44 = .ok (.iconst 1, 1) := by decide +kernel
theorem dX0_start_45 : decode cX0_start 45 = .ok (.ireturn, 1) := by decide +kernel
abbrev cX0_runs : ByteArray := prog_1_method_19_code
def yX0_runs : MethodName := ⟨RX0, "runs", "()Z"⟩
theorem dX0_runs_0 : decode cX0_runs 0 = .ok (.aload_n 0, 1) := by decide +kernel
theorem dX0_runs_1 : decode cX0_runs 1 = .ok (.getfield 58, 3) := by decide +kernel
theorem dX0_runs_4 : decode cX0_runs 4 = .ok (.ireturn, 1) := by decide +kernel
abbrev cX0_possible : ByteArray := prog_1_method_20_code
def yX0_possible : MethodName := ⟨RX0, "possible", "(III)Z"⟩
theorem dX0_possible_0 : decode cX0_possible 0 = .ok (.aload_n 0, 1) := by decide +kernel
theorem dX0_possible_1 : decode cX0_possible 1 = .ok (.getfield 58, 3) := by decide +kernel
theorem dX0_possible_4 : decode cX0_possible 4 = .ok (.ifCond .eq 21, 3) := by decide +kernel
theorem dX0_possible_7 : decode cX0_possible 7 = .ok (.iload_n 1, 1) := by decide +kernel
theorem dX0_possible_8 : decode cX0_possible 8 = .ok (.invokestatic 82, 3) := by decide +kernel
theorem dX0_possible_11 : decode cX0_possible 11 = .ok (.ifCond .eq 14, 3) := by decide +kernel
theorem dX0_possible_14 : decode cX0_possible 14 = .ok (.iload_n 2, 1) := by decide +kernel
theorem dX0_possible_15 : decode cX0_possible 15 = .ok (.invokestatic 82, 3) := by decide +kernel
theorem dX0_possible_18 : decode cX0_possible 18 = .ok (.ifCond .eq 7, 3) := by decide +kernel
theorem dX0_possible_21 : decode cX0_possible 21 = .ok (.iload_n 3, 1) := by decide +kernel
theorem dX0_possible_22 : decode cX0_possible 22 = .ok (.ifCond .ge 5, 3) := by decide +kernel
theorem dX0_possible_25 : decode cX0_possible 25 = .ok (.iconst 0, 1) := by decide +kernel
theorem dX0_possible_26 : decode cX0_possible 26 = .ok (.ireturn, 1) := by decide +kernel
theorem dX0_possible_27 : decode cX0_possible 27 = .ok (.aload_n 0, 1) := by decide +kernel
theorem dX0_possible_28 : decode cX0_possible 28 = .ok (.getfield 32, 3) := by decide +kernel
theorem dX0_possible_31 : decode cX0_possible 31 = .ok (.iload_n 1, 1) := by decide +kernel
theorem dX0_possible_32 : decode cX0_possible 32 = .ok (.baload, 1) := by decide +kernel
theorem dX0_possible_33 : decode cX0_possible 33 = .ok (.istore 4, 2) := by decide +kernel
theorem dX0_possible_35 : decode cX0_possible 35 = .ok (.aload_n 0, 1) := by decide +kernel
theorem dX0_possible_36 : decode cX0_possible 36 = .ok (.getfield 32, 3) := by decide +kernel
theorem dX0_possible_39 : decode cX0_possible 39 = .ok (.iload_n 2, 1) := by decide +kernel
theorem dX0_possible_40 : decode cX0_possible 40 = .ok (.baload, 1) := by decide +kernel
theorem dX0_possible_41 : decode cX0_possible 41 = .ok (.istore 5, 2) := by decide +kernel
theorem dX0_possible_43 : decode cX0_possible 43 = .ok (.iload 4, 2) := by decide +kernel
theorem dX0_possible_45 : decode cX0_possible 45 = .ok (.ifCond .eq 38, 3) := by decide +kernel
theorem dX0_possible_48 : decode cX0_possible 48 = .ok (.aload_n 0, 1) := by decide +kernel
theorem dX0_possible_49 : decode cX0_possible 49 = .ok (.getfield 19, 3) := by decide +kernel
theorem dX0_possible_52 : decode cX0_possible 52 = .ok (.iload 4, 2) := by decide +kernel
theorem dX0_possible_54 : decode cX0_possible 54 = .ok (.baload, 1) := by decide +kernel
theorem dX0_possible_55 : decode cX0_possible 55 = .ok (.iconst 1, 1) := by decide +kernel
theorem dX0_possible_56 : decode cX0_possible 56 = .ok (.iload_n 2, 1) := by decide +kernel
theorem dX0_possible_57 : decode cX0_possible 57 = .ok (.iadd, 1) := by decide +kernel
theorem dX0_possible_58 : decode cX0_possible 58 = .ok (.if_icmp .ne 25, 3) := by decide +kernel
theorem dX0_possible_61 : decode cX0_possible 61 = .ok (.iload 5, 2) := by decide +kernel
theorem dX0_possible_63 : decode cX0_possible 63 = .ok (.ifCond .eq 20, 3) := by decide +kernel
theorem dX0_possible_66 : decode cX0_possible 66 = .ok (.aload_n 0, 1) := by decide +kernel
theorem dX0_possible_67 : decode cX0_possible 67 = .ok (.getfield 19, 3) := by decide +kernel
theorem dX0_possible_70 : decode cX0_possible 70 = .ok (.iload 5, 2) := by decide +kernel
theorem dX0_possible_72 : decode cX0_possible 72 = .ok (.baload, 1) := by decide +kernel
theorem dX0_possible_73 : decode cX0_possible 73 = .ok (.iconst 5, 1) := by decide +kernel
theorem dX0_possible_74 : decode cX0_possible 74 = .ok (.iload_n 1, 1) := by decide +kernel
theorem dX0_possible_75 : decode cX0_possible 75 = .ok (.iadd, 1) := by decide +kernel
theorem dX0_possible_76 : decode cX0_possible 76 = .ok (.if_icmp .ne 7, 3) := by decide +kernel
theorem dX0_possible_79 : decode cX0_possible 79 = .ok (.iconst 1, 1) := by decide +kernel
theorem dX0_possible_80 : decode cX0_possible 80 = .ok (.goto 4, 3) := by decide +kernel
theorem dX0_possible_83 : decode cX0_possible 83 = .ok (.iconst 0, 1) := by decide +kernel
theorem dX0_possible_84 : decode cX0_possible 84 = .ok (.istore 6, 2) := by decide +kernel
theorem dX0_possible_86 : decode cX0_possible 86 = .ok (.iload 6, 2) := by decide +kernel
theorem dX0_possible_88 : decode cX0_possible 88 = .ok (.ifCond .eq 29, 3) := by decide +kernel
theorem dX0_possible_91 : decode cX0_possible 91 = .ok (.iload_n 3, 1) := by decide +kernel
theorem dX0_possible_92 : decode cX0_possible 92 = .ok (.aload_n 0, 1) := by decide +kernel
theorem dX0_possible_93 : decode cX0_possible 93 = .ok (.getfield 22, 3) := by decide +kernel
theorem dX0_possible_96 : decode cX0_possible 96 = .ok (.iload 4, 2) := by decide +kernel
theorem dX0_possible_98 : decode cX0_possible 98 = .ok (.baload, 1) := by decide +kernel
theorem dX0_possible_99 : decode cX0_possible 99 = .ok (.if_icmp .ge 18, 3) := by decide +kernel
theorem dX0_possible_102 : decode cX0_possible 102 = .ok (.iload_n 3, 1) := by decide +kernel
theorem dX0_possible_103 : decode cX0_possible 103 = .ok (.aload_n 0, 1) := by decide +kernel
theorem dX0_possible_104 : decode cX0_possible 104 = .ok (.getfield 22, 3) := by decide +kernel
theorem dX0_possible_107 : decode cX0_possible 107 = .ok (.iload 5, 2) := by decide +kernel
theorem dX0_possible_109 : decode cX0_possible 109 = .ok (.baload, 1) := by decide +kernel
theorem dX0_possible_110 : decode cX0_possible 110 = .ok (.if_icmp .ge 7, 3) := by decide +kernel
theorem dX0_possible_113 : decode cX0_possible 113 = .ok (.iconst 1, 1) := by decide +kernel
theorem dX0_possible_114 : decode cX0_possible 114 = .ok (.goto 4, 3) := by decide +kernel
theorem dX0_possible_117 : decode cX0_possible 117 = .ok (.iconst 0, 1) := by decide +kernel
theorem dX0_possible_118 : decode cX0_possible 118 = .ok (.ireturn, 1) := by decide +kernel
abbrev cX0_send : ByteArray := prog_1_method_21_code
def yX0_send : MethodName := ⟨RX0, "send", "(III)Z"⟩
theorem dX0_send_0 : decode cX0_send 0 = .ok (.aload_n 0, 1) := by decide +kernel
theorem dX0_send_1 : decode cX0_send 1 = .ok (.iload_n 1, 1) := by decide +kernel
theorem dX0_send_2 : decode cX0_send 2 = .ok (.iload_n 2, 1) := by decide +kernel
theorem dX0_send_3 : decode cX0_send 3 = .ok (.iload_n 3, 1) := by decide +kernel
theorem dX0_send_4 : decode cX0_send 4 = .ok (.invokevirtual 97, 3) := by decide +kernel
theorem dX0_send_7 : decode cX0_send 7 = .ok (.ifCond .ne 5, 3) := by decide +kernel
theorem dX0_send_10 : decode cX0_send 10 = .ok (.iconst 0, 1) := by decide +kernel
theorem dX0_send_11 : decode cX0_send 11 = .ok (.ireturn, 1) := by decide +kernel
theorem dX0_send_12 : decode cX0_send 12 = .ok (.aload_n 0, 1) := by decide +kernel
theorem dX0_send_13 : decode cX0_send 13 = .ok (.getfield 32, 3) := by decide +kernel
theorem dX0_send_16 : decode cX0_send 16 = .ok (.iload_n 1, 1) := by decide +kernel
theorem dX0_send_17 : decode cX0_send 17 = .ok (.aload_n 0, 1) := by decide +kernel
theorem dX0_send_18 : decode cX0_send 18 = .ok (.getfield 25, 3) := by decide +kernel
theorem dX0_send_21 : decode cX0_send 21 = .ok (.iconst 2, 1) := by decide +kernel
theorem dX0_send_22 : decode cX0_send 22 = .ok (.aload_n 0, 1) := by decide +kernel
theorem dX0_send_23 : decode cX0_send 23 = .ok (.getfield 32, 3) := by decide +kernel
theorem dX0_send_26 : decode cX0_send 26 = .ok (.iload_n 1, 1) := by decide +kernel
theorem dX0_send_27 : decode cX0_send 27 = .ok (.baload, 1) := by decide +kernel
theorem dX0_send_28 : decode cX0_send 28 = .ok (.imul, 1) := by decide +kernel
theorem dX0_send_29 : decode cX0_send 29 = .ok (.iload_n 3, 1) := by decide +kernel
theorem dX0_send_30 : decode cX0_send 30 = .ok (.iadd, 1) := by decide +kernel
theorem dX0_send_31 : decode cX0_send 31 = .ok (.baload, 1) := by decide +kernel
theorem dX0_send_32 : decode cX0_send 32 = .ok (.bastore, 1) := by decide +kernel
theorem dX0_send_33 : decode cX0_send 33 = .ok (.aload_n 0, 1) := by decide +kernel
theorem dX0_send_34 : decode cX0_send 34 = .ok (.getfield 32, 3) := by decide +kernel
theorem dX0_send_37 : decode cX0_send 37 = .ok (.iload_n 2, 1) := by decide +kernel
theorem dX0_send_38 : decode cX0_send 38 = .ok (.aload_n 0, 1) := by decide +kernel
theorem dX0_send_39 : decode cX0_send 39 = .ok (.getfield 25, 3) := by decide +kernel
theorem dX0_send_42 : decode cX0_send 42 = .ok (.iconst 2, 1) := by decide +kernel
theorem dX0_send_43 : decode cX0_send 43 = .ok (.aload_n 0, 1) := by decide +kernel
theorem dX0_send_44 : decode cX0_send 44 = .ok (.getfield 32, 3) := by decide +kernel
theorem dX0_send_47 : decode cX0_send 47 = .ok (.iload_n 2, 1) := by decide +kernel
theorem dX0_send_48 : decode cX0_send 48 = .ok (.baload, 1) := by decide +kernel
theorem dX0_send_49 : decode cX0_send 49 = .ok (.imul, 1) := by decide +kernel
theorem dX0_send_50 : decode cX0_send 50 = .ok (.iload_n 3, 1) := by decide +kernel
theorem dX0_send_51 : decode cX0_send 51 = .ok (.iadd, 1) := by decide +kernel
theorem dX0_send_52 : decode cX0_send 52 = .ok (.baload, 1) := by decide +kernel
theorem dX0_send_53 : decode cX0_send 53 = .ok (.bastore, 1) := by decide +kernel
theorem dX0_send_54 : decode cX0_send 54 = .ok (.aload_n 0, 1) := by decide +kernel
theorem dX0_send_55 : decode cX0_send 55 = .ok (.dup, 1) := by decide +kernel
theorem dX0_send_56 : decode cX0_send 56 = .ok (.getfield 94, 3) := by decide +kernel
theorem dX0_send_59 : decode cX0_send 59 = .ok (.iconst 1, 1) := by decide +kernel
theorem dX0_send_60 : decode cX0_send 60 = .ok (.iadd, 1) := by decide +kernel
theorem dX0_send_61 : decode cX0_send 61 = .ok (.putfield 94, 3) := by decide +kernel
theorem dX0_send_64 : decode cX0_send 64 = .ok (.iconst 1, 1) := by decide +kernel
theorem dX0_send_65 : decode cX0_send 65 = .ok (.ireturn, 1) := by decide +kernel
abbrev cX0_duty : ByteArray := prog_1_method_22_code
def yX0_duty : MethodName := ⟨RX0, "duty", "(I)I"⟩
theorem dX0_duty_0 : decode cX0_duty 0 = .ok (.aload_n 0, 1) := by decide +kernel
theorem dX0_duty_1 : decode cX0_duty 1 = .ok (.getfield 58, 3) := by decide +kernel
theorem dX0_duty_4 : decode cX0_duty 4 = .ok (.ifCond .eq 10, 3) := by decide +kernel
theorem dX0_duty_7 : decode cX0_duty 7 = .ok (.iload_n 1, 1) := by decide +kernel
theorem dX0_duty_8 : decode cX0_duty 8 = .ok (.invokestatic 82, 3) := by decide +kernel
theorem dX0_duty_11 : decode cX0_duty 11 = .ok (.ifCond .ne 5, 3) := by decide +kernel
theorem dX0_duty_14 : decode cX0_duty 14 = .ok (.iconst (-1), 1) := by decide +kernel
theorem dX0_duty_15 : decode cX0_duty 15 = .ok (.ireturn, 1) := by decide +kernel
theorem dX0_duty_16 : decode cX0_duty 16 = .ok (.aload_n 0, 1) := by decide +kernel
theorem dX0_duty_17 : decode cX0_duty 17 = .ok (.getfield 32, 3) := by decide +kernel
theorem dX0_duty_20 : decode cX0_duty 20 = .ok (.iload_n 1, 1) := by decide +kernel
theorem dX0_duty_21 : decode cX0_duty 21 = .ok (.baload, 1) := by decide +kernel
theorem dX0_duty_22 : decode cX0_duty 22 = .ok (.ifCond .ne 7, 3) := by decide +kernel
theorem dX0_duty_25 : decode cX0_duty 25 = .ok (.iconst 0, 1) := by decide +kernel
theorem dX0_duty_26 : decode cX0_duty 26 = .ok (.goto 14, 3) := by decide +kernel
theorem dX0_duty_29 : decode cX0_duty 29 = .ok (.aload_n 0, 1) := by decide +kernel
theorem dX0_duty_30 : decode cX0_duty 30 = .ok (.getfield 19, 3) := by decide +kernel
theorem dX0_duty_33 : decode cX0_duty 33 = .ok (.aload_n 0, 1) := by decide +kernel
theorem dX0_duty_34 : decode cX0_duty 34 = .ok (.getfield 32, 3) := by decide +kernel
theorem dX0_duty_37 : decode cX0_duty 37 = .ok (.iload_n 1, 1) := by decide +kernel
theorem dX0_duty_38 : decode cX0_duty 38 = .ok (.baload, 1) := by decide +kernel
theorem dX0_duty_39 : decode cX0_duty 39 = .ok (.baload, 1) := by decide +kernel
theorem dX0_duty_40 : decode cX0_duty 40 = .ok (.ireturn, 1) := by decide +kernel
abbrev cX0_labels : ByteArray := prog_1_method_23_code
def yX0_labels : MethodName := ⟨RX0, "labels", "(I)I"⟩
theorem dX0_labels_0 : decode cX0_labels 0 = .ok (.aload_n 0, 1) := by decide +kernel
theorem dX0_labels_1 : decode cX0_labels 1 = .ok (.getfield 58, 3) := by decide +kernel
theorem dX0_labels_4 : decode cX0_labels 4 = .ok (.ifCond .eq 10, 3) := by decide +kernel
theorem dX0_labels_7 : decode cX0_labels 7 = .ok (.iload_n 1, 1) := by decide +kernel
theorem dX0_labels_8 : decode cX0_labels 8 = .ok (.invokestatic 82, 3) := by decide +kernel
theorem dX0_labels_11 : decode cX0_labels 11 = .ok (.ifCond .ne 5, 3) := by decide +kernel
theorem dX0_labels_14 : decode cX0_labels 14 = .ok (.iconst (-1), 1) := by decide +kernel
theorem dX0_labels_15 : decode cX0_labels 15 = .ok (.ireturn, 1) := by decide +kernel
theorem dX0_labels_16 : decode cX0_labels 16 = .ok (.aload_n 0, 1) := by decide +kernel
theorem dX0_labels_17 : decode cX0_labels 17 = .ok (.getfield 32, 3) := by decide +kernel
theorem dX0_labels_20 : decode cX0_labels 20 = .ok (.iload_n 1, 1) := by decide +kernel
theorem dX0_labels_21 : decode cX0_labels 21 = .ok (.baload, 1) := by decide +kernel
theorem dX0_labels_22 : decode cX0_labels 22 = .ok (.ifCond .ne 7, 3) := by decide +kernel
theorem dX0_labels_25 : decode cX0_labels 25 = .ok (.iconst 0, 1) := by decide +kernel
theorem dX0_labels_26 : decode cX0_labels 26 = .ok (.goto 14, 3) := by decide +kernel
theorem dX0_labels_29 : decode cX0_labels 29 = .ok (.aload_n 0, 1) := by decide +kernel
theorem dX0_labels_30 : decode cX0_labels 30 = .ok (.getfield 22, 3) := by decide +kernel
theorem dX0_labels_33 : decode cX0_labels 33 = .ok (.aload_n 0, 1) := by decide +kernel
theorem dX0_labels_34 : decode cX0_labels 34 = .ok (.getfield 32, 3) := by decide +kernel
theorem dX0_labels_37 : decode cX0_labels 37 = .ok (.iload_n 1, 1) := by decide +kernel
theorem dX0_labels_38 : decode cX0_labels 38 = .ok (.baload, 1) := by decide +kernel
theorem dX0_labels_39 : decode cX0_labels 39 = .ok (.baload, 1) := by decide +kernel
theorem dX0_labels_40 : decode cX0_labels 40 = .ok (.ireturn, 1) := by decide +kernel
abbrev cX0_rest : ByteArray := prog_1_method_24_code
def yX0_rest : MethodName := ⟨RX0, "rest", "(I)I"⟩
theorem dX0_rest_0 : decode cX0_rest 0 = .ok (.aload_n 0, 1) := by decide +kernel
theorem dX0_rest_1 : decode cX0_rest 1 = .ok (.getfield 58, 3) := by decide +kernel
theorem dX0_rest_4 : decode cX0_rest 4 = .ok (.ifCond .eq 24, 3) := by decide +kernel
theorem dX0_rest_7 : decode cX0_rest 7 = .ok (.iload_n 1, 1) := by decide +kernel
theorem dX0_rest_8 : decode cX0_rest 8 = .ok (.invokestatic 82, 3) := by decide +kernel
theorem dX0_rest_11 : decode cX0_rest 11 = .ok (.ifCond .eq 17, 3) := by decide +kernel
theorem dX0_rest_14 : decode cX0_rest 14 = .ok (.aload_n 0, 1) := by decide +kernel
theorem dX0_rest_15 : decode cX0_rest 15 = .ok (.getfield 28, 3) := by decide +kernel
theorem dX0_rest_18 : decode cX0_rest 18 = .ok (.aload_n 0, 1) := by decide +kernel
theorem dX0_rest_19 : decode cX0_rest 19 = .ok (.getfield 32, 3) := by decide +kernel
theorem dX0_rest_22 : decode cX0_rest 22 = .ok (.iload_n 1, 1) := by decide +kernel
theorem dX0_rest_23 : decode cX0_rest 23 = .ok (.baload, 1) := by decide +kernel
theorem dX0_rest_24 : decode cX0_rest 24 = .ok (.iaload, 1) := by decide +kernel
theorem dX0_rest_25 : decode cX0_rest 25 = .ok (.goto 4, 3) := by decide +kernel
theorem dX0_rest_28 : decode cX0_rest 28 = .ok (.iconst (-1), 1) := by decide +kernel
theorem dX0_rest_29 : decode cX0_rest 29 = .ok (.ireturn, 1) := by decide +kernel
abbrev cX0_choices : ByteArray := prog_1_method_25_code
def yX0_choices : MethodName := ⟨RX0, "choices", "()I"⟩
theorem dX0_choices_0 : decode cX0_choices 0 = .ok (.iconst 0, 1) := by decide +kernel
theorem dX0_choices_1 : decode cX0_choices 1 = .ok (.istore_n 1, 1) := by decide +kernel
theorem dX0_choices_2 : decode cX0_choices 2 = .ok (.iconst 0, 1) := by decide +kernel
theorem dX0_choices_3 : decode cX0_choices 3 = .ok (.istore_n 2, 1) := by decide +kernel
theorem dX0_choices_4 : decode cX0_choices 4 = .ok (.iload_n 2, 1) := by decide +kernel
theorem dX0_choices_5 : decode cX0_choices 5 = .ok (.iconst 4, 1) := by decide +kernel
theorem dX0_choices_6 : decode cX0_choices 6 = .ok (.if_icmp .ge 58, 3) := by decide +kernel
theorem dX0_choices_9 : decode cX0_choices 9 = .ok (.iconst 0, 1) := by decide +kernel
theorem dX0_choices_10 : decode cX0_choices 10 = .ok (.istore_n 3, 1) := by decide +kernel
theorem dX0_choices_11 : decode cX0_choices 11 = .ok (.iload_n 3, 1) := by decide +kernel
theorem dX0_choices_12 : decode cX0_choices 12 = .ok (.iconst 4, 1) := by decide +kernel
theorem dX0_choices_13 : decode cX0_choices 13 = .ok (.if_icmp .ge 45, 3) := by decide +kernel
theorem dX0_choices_16 : decode cX0_choices 16 = .ok (.iload_n 1, 1) := by decide +kernel
theorem dX0_choices_17 : decode cX0_choices 17 = .ok (.aload_n 0, 1) := by decide +kernel
theorem dX0_choices_18 : decode cX0_choices 18 = .ok (.iload_n 2, 1) := by decide +kernel
theorem dX0_choices_19 : decode cX0_choices 19 = .ok (.iload_n 3, 1) := by decide +kernel
theorem dX0_choices_20 : decode cX0_choices 20 = .ok (.iconst 0, 1) := by decide +kernel
theorem dX0_choices_21 : decode cX0_choices 21 = .ok (.invokevirtual 97, 3) := by decide +kernel
theorem dX0_choices_24 : decode cX0_choices 24 = .ok (.ifCond .eq 7, 3) := by decide +kernel
theorem dX0_choices_27 : decode cX0_choices 27 = .ok (.iconst 1, 1) := by decide +kernel
theorem dX0_choices_28 : decode cX0_choices 28 = .ok (.goto 4, 3) := by decide +kernel
theorem dX0_choices_31 : decode cX0_choices 31 = .ok (.iconst 0, 1) := by decide +kernel
theorem dX0_choices_32 : decode cX0_choices 32 = .ok (.iadd, 1) := by decide +kernel
theorem dX0_choices_33 : decode cX0_choices 33 = .ok (.istore_n 1, 1) := by decide +kernel
theorem dX0_choices_34 : decode cX0_choices 34 = .ok (.iload_n 1, 1) := by decide +kernel
theorem dX0_choices_35 : decode cX0_choices 35 = .ok (.aload_n 0, 1) := by decide +kernel
theorem dX0_choices_36 : decode cX0_choices 36 = .ok (.iload_n 2, 1) := by decide +kernel
theorem dX0_choices_37 : decode cX0_choices 37 = .ok (.iload_n 3, 1) := by decide +kernel
theorem dX0_choices_38 : decode cX0_choices 38 = .ok (.iconst 1, 1) := by decide +kernel
theorem dX0_choices_39 : decode cX0_choices 39 = .ok (.invokevirtual 97, 3) := by decide +kernel
theorem dX0_choices_42 : decode cX0_choices 42 = .ok (.ifCond .eq 7, 3) := by decide +kernel
theorem dX0_choices_45 : decode cX0_choices 45 = .ok (.iconst 1, 1) := by decide +kernel
theorem dX0_choices_46 : decode cX0_choices 46 = .ok (.goto 4, 3) := by decide +kernel
theorem dX0_choices_49 : decode cX0_choices 49 = .ok (.iconst 0, 1) := by decide +kernel
theorem dX0_choices_50 : decode cX0_choices 50 = .ok (.iadd, 1) := by decide +kernel
theorem dX0_choices_51 : decode cX0_choices 51 = .ok (.istore_n 1, 1) := by decide +kernel
theorem dX0_choices_52 : decode cX0_choices 52 = .ok (.iinc 3 1, 3) := by decide +kernel
theorem dX0_choices_55 : decode cX0_choices 55 = .ok (.goto (-44), 3) := by decide +kernel
theorem dX0_choices_58 : decode cX0_choices 58 = .ok (.iinc 2 1, 3) := by decide +kernel
theorem dX0_choices_61 : decode cX0_choices 61 = .ok (.goto (-57), 3) := by decide +kernel
theorem dX0_choices_64 : decode cX0_choices 64 = .ok (.iload_n 1, 1) := by decide +kernel
theorem dX0_choices_65 : decode cX0_choices 65 = .ok (.ireturn, 1) := by decide +kernel
abbrev cX0_sent : ByteArray := prog_1_method_26_code
def yX0_sent : MethodName := ⟨RX0, "sent", "()I"⟩
theorem dX0_sent_0 : decode cX0_sent 0 = .ok (.aload_n 0, 1) := by decide +kernel
theorem dX0_sent_1 : decode cX0_sent 1 = .ok (.getfield 58, 3) := by decide +kernel
theorem dX0_sent_4 : decode cX0_sent 4 = .ok (.ifCond .eq 10, 3) := by decide +kernel
theorem dX0_sent_7 : decode cX0_sent 7 = .ok (.aload_n 0, 1) := by decide +kernel
theorem dX0_sent_8 : decode cX0_sent 8 = .ok (.getfield 94, 3) := by decide +kernel
theorem dX0_sent_11 : decode cX0_sent 11 = .ok (.goto 4, 3) := by decide +kernel
theorem dX0_sent_14 : decode cX0_sent 14 = .ok (.iconst (-1), 1) := by decide +kernel
theorem dX0_sent_15 : decode cX0_sent 15 = .ok (.ireturn, 1) := by decide +kernel
abbrev cX0_over : ByteArray := prog_1_method_27_code
def yX0_over : MethodName := ⟨RX0, "over", "()Z"⟩
theorem dX0_over_0 : decode cX0_over 0 = .ok (.aload_n 0, 1) := by decide +kernel
theorem dX0_over_1 : decode cX0_over 1 = .ok (.getfield 58, 3) := by decide +kernel
theorem dX0_over_4 : decode cX0_over 4 = .ok (.ifCond .ne 5, 3) := by decide +kernel
theorem dX0_over_7 : decode cX0_over 7 = .ok (.iconst 0, 1) := by decide +kernel
theorem dX0_over_8 : decode cX0_over 8 = .ok (.ireturn, 1) := by decide +kernel
theorem dX0_over_9 : decode cX0_over 9 = .ok (.iconst 0, 1) := by decide +kernel
theorem dX0_over_10 : decode cX0_over 10 = .ok (.istore_n 1, 1) := by decide +kernel
theorem dX0_over_11 : decode cX0_over 11 = .ok (.iload_n 1, 1) := by decide +kernel
theorem dX0_over_12 : decode cX0_over 12 = .ok (.iconst 4, 1) := by decide +kernel
theorem dX0_over_13 : decode cX0_over 13 = .ok (.if_icmp .ge 20, 3) := by decide +kernel
theorem dX0_over_16 : decode cX0_over 16 = .ok (.aload_n 0, 1) := by decide +kernel
theorem dX0_over_17 : decode cX0_over 17 = .ok (.getfield 32, 3) := by decide +kernel
theorem dX0_over_20 : decode cX0_over 20 = .ok (.iload_n 1, 1) := by decide +kernel
theorem dX0_over_21 : decode cX0_over 21 = .ok (.baload, 1) := by decide +kernel
theorem dX0_over_22 : decode cX0_over 22 = .ok (.ifCond .eq 5, 3) := by decide +kernel
theorem dX0_over_25 : decode cX0_over 25 = .ok (.iconst 0, 1) := by decide +kernel
theorem dX0_over_26 : decode cX0_over 26 = .ok (.ireturn, 1) := by decide +kernel
theorem dX0_over_27 : decode cX0_over 27 = .ok (.iinc 1 1, 3) := by decide +kernel
theorem dX0_over_30 : decode cX0_over 30 = .ok (.goto (-19), 3) := by decide +kernel
theorem dX0_over_33 : decode cX0_over 33 = .ok (.iconst 1, 1) := by decide +kernel
theorem dX0_over_34 : decode cX0_over 34 = .ok (.ireturn, 1) := by decide +kernel
theorem q16 : (Jvm.Cond.initialized "RoleSessions") ∈ lw_all := lw_g (lw_at lw_m1 1 rfl) rfl
theorem q19 : (Jvm.Cond.instantiable "RoleSessions" (13 : Nat)) ∈ lw_all := lw_g (lw_at lw_m1 4 rfl) rfl
theorem q21 : (Jvm.Cond.instanceMethod ({ cls := "RoleSessions", name := "<init>", desc := "()V" } : Jvm.MethodName)) ∈ lw_all := lw_g (lw_at lw_m1 6 rfl) rfl
theorem q22 : (Jvm.Cond.code ({ cls := "RoleSessions", name := "<init>", desc := "()V" } : Jvm.MethodName) prog_1_method_1_code (1 : Nat) (Option.none : Option Jvm.ClassFile.FieldType)) ∈ lw_all := lw_g (lw_at lw_m1 7 rfl) rfl
theorem q23 : (Jvm.Cond.methodLink "RoleSessions" (1 : Nat) ({ cls := "java/lang/Object", name := "<init>", desc := "()V" } : Jvm.MethodName)) ∈ lw_all := lw_g (lw_at lw_m1 8 rfl) rfl
theorem q26 : (Jvm.Cond.fieldLink "RoleSessions" (35 : Nat) "RoleSessions" "count" "I") ∈ lw_all := lw_g (lw_at lw_m1 11 rfl) rfl
theorem q27 : (Jvm.Cond.fieldLink "RoleSessions" (7 : Nat) "RoleSessions" "tokens" "[B") ∈ lw_all := lw_g (lw_at lw_m1 12 rfl) rfl
theorem q28 : (Jvm.Cond.fieldLink "RoleSessions" (54 : Nat) "RoleSessions" "known" "Z") ∈ lw_all := lw_g (lw_at lw_m1 13 rfl) rfl
theorem q29 : (Jvm.Cond.fieldLink "RoleSessions" (13 : Nat) "RoleSessions" "spans" "[B") ∈ lw_all := lw_g (lw_at lw_m1 14 rfl) rfl
theorem q30 : (Jvm.Cond.fieldLink "RoleSessions" (16 : Nat) "RoleSessions" "parts" "[B") ∈ lw_all := lw_g (lw_at lw_m1 15 rfl) rfl
theorem q31 : (Jvm.Cond.fieldLink "RoleSessions" (65 : Nat) "RoleSessions" "partCount" "I") ∈ lw_all := lw_g (lw_at lw_m1 16 rfl) rfl
theorem q32 : (Jvm.Cond.fieldLink "RoleSessions" (19 : Nat) "RoleSessions" "duties" "[B") ∈ lw_all := lw_g (lw_at lw_m1 17 rfl) rfl
theorem q33 : (Jvm.Cond.fieldLink "RoleSessions" (22 : Nat) "RoleSessions" "labelCounts" "[B") ∈ lw_all := lw_g (lw_at lw_m1 18 rfl) rfl
theorem q34 : (Jvm.Cond.fieldLink "RoleSessions" (25 : Nat) "RoleSessions" "followers" "[B") ∈ lw_all := lw_g (lw_at lw_m1 19 rfl) rfl
theorem q35 : (Jvm.Cond.fieldLink "RoleSessions" (28 : Nat) "RoleSessions" "sizes" "[I") ∈ lw_all := lw_g (lw_at lw_m1 20 rfl) rfl
theorem q36 : (Jvm.Cond.fieldLink "RoleSessions" (58 : Nat) "RoleSessions" "running" "Z") ∈ lw_all := lw_g (lw_at lw_m1 21 rfl) rfl
theorem q37 : (Jvm.Cond.fieldLink "RoleSessions" (32 : Nat) "RoleSessions" "present" "[B") ∈ lw_all := lw_g (lw_at lw_m1 22 rfl) rfl
theorem q38 : (Jvm.Cond.fieldLink "RoleSessions" (94 : Nat) "RoleSessions" "sentCount" "I") ∈ lw_all := lw_g (lw_at lw_m1 23 rfl) rfl
theorem q39 : (Jvm.Cond.lays "RoleSessions" "RoleSessions" "count" "I") ∈ lw_all := lw_g (lw_at lw_m1 24 rfl) rfl
theorem q40 : (Jvm.Cond.soleField "RoleSessions" "count") ∈ lw_all := lw_g (lw_at lw_m1 25 rfl) rfl
theorem q41 : (Jvm.Cond.laysFinal "RoleSessions" "RoleSessions" "tokens" "[B") ∈ lw_all := lw_g (lw_at lw_m1 26 rfl) rfl
theorem q42 : (Jvm.Cond.soleField "RoleSessions" "tokens") ∈ lw_all := lw_g (lw_at lw_m1 27 rfl) rfl
theorem q43 : (Jvm.Cond.lays "RoleSessions" "RoleSessions" "known" "Z") ∈ lw_all := lw_g (lw_at lw_m1 28 rfl) rfl
theorem q44 : (Jvm.Cond.soleField "RoleSessions" "known") ∈ lw_all := lw_g (lw_at lw_m1 29 rfl) rfl
theorem q45 : (Jvm.Cond.laysFinal "RoleSessions" "RoleSessions" "spans" "[B") ∈ lw_all := lw_g (lw_at lw_m1 30 rfl) rfl
theorem q46 : (Jvm.Cond.soleField "RoleSessions" "spans") ∈ lw_all := lw_g (lw_at lw_m1 31 rfl) rfl
theorem q47 : (Jvm.Cond.laysFinal "RoleSessions" "RoleSessions" "parts" "[B") ∈ lw_all := lw_g (lw_at lw_m1 32 rfl) rfl
theorem q48 : (Jvm.Cond.soleField "RoleSessions" "parts") ∈ lw_all := lw_g (lw_at lw_m1 33 rfl) rfl
theorem q49 : (Jvm.Cond.lays "RoleSessions" "RoleSessions" "partCount" "I") ∈ lw_all := lw_g (lw_at lw_m1 34 rfl) rfl
theorem q50 : (Jvm.Cond.soleField "RoleSessions" "partCount") ∈ lw_all := lw_g (lw_at lw_m1 35 rfl) rfl
theorem q51 : (Jvm.Cond.laysFinal "RoleSessions" "RoleSessions" "duties" "[B") ∈ lw_all := lw_g (lw_at lw_m1 36 rfl) rfl
theorem q52 : (Jvm.Cond.soleField "RoleSessions" "duties") ∈ lw_all := lw_g (lw_at lw_m1 37 rfl) rfl
theorem q53 : (Jvm.Cond.laysFinal "RoleSessions" "RoleSessions" "labelCounts" "[B") ∈ lw_all := lw_g (lw_at lw_m1 38 rfl) rfl
theorem q54 : (Jvm.Cond.soleField "RoleSessions" "labelCounts") ∈ lw_all := lw_g (lw_at lw_m1 39 rfl) rfl
theorem q55 : (Jvm.Cond.laysFinal "RoleSessions" "RoleSessions" "followers" "[B") ∈ lw_all := lw_g (lw_at lw_m1 40 rfl) rfl
theorem q56 : (Jvm.Cond.soleField "RoleSessions" "followers") ∈ lw_all := lw_g (lw_at lw_m1 41 rfl) rfl
theorem q57 : (Jvm.Cond.laysFinal "RoleSessions" "RoleSessions" "sizes" "[I") ∈ lw_all := lw_g (lw_at lw_m1 42 rfl) rfl
theorem q58 : (Jvm.Cond.soleField "RoleSessions" "sizes") ∈ lw_all := lw_g (lw_at lw_m1 43 rfl) rfl
theorem q59 : (Jvm.Cond.lays "RoleSessions" "RoleSessions" "running" "Z") ∈ lw_all := lw_g (lw_at lw_m1 44 rfl) rfl
theorem q60 : (Jvm.Cond.soleField "RoleSessions" "running") ∈ lw_all := lw_g (lw_at lw_m1 45 rfl) rfl
theorem q61 : (Jvm.Cond.laysFinal "RoleSessions" "RoleSessions" "present" "[B") ∈ lw_all := lw_g (lw_at lw_m1 46 rfl) rfl
theorem q62 : (Jvm.Cond.soleField "RoleSessions" "present") ∈ lw_all := lw_g (lw_at lw_m1 47 rfl) rfl
theorem q63 : (Jvm.Cond.lays "RoleSessions" "RoleSessions" "sentCount" "I") ∈ lw_all := lw_g (lw_at lw_m1 48 rfl) rfl
theorem q64 : (Jvm.Cond.soleField "RoleSessions" "sentCount") ∈ lw_all := lw_g (lw_at lw_m1 49 rfl) rfl
theorem q65 : (Jvm.Cond.superclass "RoleSessions" "java/lang/Object") ∈ lw_all := lw_g (lw_at lw_m1 50 rfl) rfl
theorem q69 : (Jvm.Cond.instanceMethod ({ cls := "RoleSessions", name := "write", desc := "(I)I" } : Jvm.MethodName)) ∈ lw_all := lw_g (lw_at lw_m1 54 rfl) rfl
theorem q70 : (Jvm.Cond.selects "RoleSessions" ({ cls := "RoleSessions", name := "write", desc := "(I)I" } : Jvm.MethodName) ({ cls := "RoleSessions", name := "write", desc := "(I)I" } : Jvm.MethodName)) ∈ lw_all := lw_g (lw_at lw_m1 55 rfl) rfl
theorem q71 : (Jvm.Cond.code ({ cls := "RoleSessions", name := "write", desc := "(I)I" } : Jvm.MethodName) prog_1_method_8_code (2 : Nat) (Option.some Jvm.ClassFile.FieldType.int)) ∈ lw_all := lw_g (lw_at lw_m1 56 rfl) rfl
theorem q72 : (Jvm.Cond.methodLink "RoleSessions" (43 : Nat) ({ cls := "RoleSessions", name := "isToken", desc := "(I)Z" } : Jvm.MethodName)) ∈ lw_all := lw_g (lw_at lw_m1 57 rfl) rfl
theorem q73 : (Jvm.Cond.static ({ cls := "RoleSessions", name := "isToken", desc := "(I)Z" } : Jvm.MethodName)) ∈ lw_all := lw_g (lw_at lw_m1 58 rfl) rfl
theorem q74 : (Jvm.Cond.code ({ cls := "RoleSessions", name := "isToken", desc := "(I)Z" } : Jvm.MethodName) prog_1_method_3_code (2 : Nat) (Option.some Jvm.ClassFile.FieldType.boolean)) ∈ lw_all := lw_g (lw_at lw_m1 59 rfl) rfl
theorem q75 : (Jvm.Cond.methodLink "RoleSessions" (47 : Nat) ({ cls := "RoleSessions", name := "complete", desc := "()Z" } : Jvm.MethodName)) ∈ lw_all := lw_g (lw_at lw_m1 60 rfl) rfl
theorem q76 : (Jvm.Cond.instanceMethod ({ cls := "RoleSessions", name := "complete", desc := "()Z" } : Jvm.MethodName)) ∈ lw_all := lw_g (lw_at lw_m1 61 rfl) rfl
theorem q77 : (Jvm.Cond.selects "RoleSessions" ({ cls := "RoleSessions", name := "complete", desc := "()Z" } : Jvm.MethodName) ({ cls := "RoleSessions", name := "complete", desc := "()Z" } : Jvm.MethodName)) ∈ lw_all := lw_g (lw_at lw_m1 62 rfl) rfl
theorem q78 : (Jvm.Cond.code ({ cls := "RoleSessions", name := "complete", desc := "()Z" } : Jvm.MethodName) prog_1_method_11_code (1 : Nat) (Option.some Jvm.ClassFile.FieldType.boolean)) ∈ lw_all := lw_g (lw_at lw_m1 63 rfl) rfl
theorem q79 : (Jvm.Cond.methodLink "RoleSessions" (61 : Nat) ({ cls := "RoleSessions", name := "missing", desc := "()I" } : Jvm.MethodName)) ∈ lw_all := lw_g (lw_at lw_m1 64 rfl) rfl
theorem q80 : (Jvm.Cond.privateMethod ({ cls := "RoleSessions", name := "missing", desc := "()I" } : Jvm.MethodName)) ∈ lw_tbl := lw_at lw_m1 65 rfl
theorem q81 : (Jvm.Cond.instanceMethod ({ cls := "RoleSessions", name := "missing", desc := "()I" } : Jvm.MethodName)) ∈ lw_all := lw_g (lw_at lw_m1 66 rfl) rfl
theorem q82 : (Jvm.Cond.code ({ cls := "RoleSessions", name := "missing", desc := "()I" } : Jvm.MethodName) prog_1_method_7_code (3 : Nat) (Option.some Jvm.ClassFile.FieldType.int)) ∈ lw_all := lw_g (lw_at lw_m1 67 rfl) rfl
theorem q83 : (Jvm.Cond.methodLink "RoleSessions" (39 : Nat) ({ cls := "RoleSessions", name := "labelsOf", desc := "(I)I" } : Jvm.MethodName)) ∈ lw_all := lw_g (lw_at lw_m1 68 rfl) rfl
theorem q84 : (Jvm.Cond.static ({ cls := "RoleSessions", name := "labelsOf", desc := "(I)I" } : Jvm.MethodName)) ∈ lw_all := lw_g (lw_at lw_m1 69 rfl) rfl
theorem q85 : (Jvm.Cond.code ({ cls := "RoleSessions", name := "labelsOf", desc := "(I)I" } : Jvm.MethodName) prog_1_method_6_code (1 : Nat) (Option.some Jvm.ClassFile.FieldType.int)) ∈ lw_all := lw_g (lw_at lw_m1 70 rfl) rfl
theorem q86 : (Jvm.Cond.methodLink "RoleSessions" (51 : Nat) ({ cls := "RoleSessions", name := "change", desc := "()V" } : Jvm.MethodName)) ∈ lw_all := lw_g (lw_at lw_m1 71 rfl) rfl
theorem q87 : (Jvm.Cond.privateMethod ({ cls := "RoleSessions", name := "change", desc := "()V" } : Jvm.MethodName)) ∈ lw_tbl := lw_at lw_m1 72 rfl
theorem q88 : (Jvm.Cond.instanceMethod ({ cls := "RoleSessions", name := "change", desc := "()V" } : Jvm.MethodName)) ∈ lw_all := lw_g (lw_at lw_m1 73 rfl) rfl
theorem q89 : (Jvm.Cond.code ({ cls := "RoleSessions", name := "change", desc := "()V" } : Jvm.MethodName) prog_1_method_9_code (1 : Nat) (Option.none : Option Jvm.ClassFile.FieldType)) ∈ lw_all := lw_g (lw_at lw_m1 74 rfl) rfl
theorem q91 : (Jvm.Cond.instanceMethod ({ cls := "RoleSessions", name := "rub", desc := "()I" } : Jvm.MethodName)) ∈ lw_all := lw_g (lw_at lw_m1 76 rfl) rfl
theorem q92 : (Jvm.Cond.selects "RoleSessions" ({ cls := "RoleSessions", name := "rub", desc := "()I" } : Jvm.MethodName) ({ cls := "RoleSessions", name := "rub", desc := "()I" } : Jvm.MethodName)) ∈ lw_all := lw_g (lw_at lw_m1 77 rfl) rfl
theorem q93 : (Jvm.Cond.code ({ cls := "RoleSessions", name := "rub", desc := "()I" } : Jvm.MethodName) prog_1_method_10_code (1 : Nat) (Option.some Jvm.ClassFile.FieldType.int)) ∈ lw_all := lw_g (lw_at lw_m1 78 rfl) rfl
theorem q96 : (Jvm.Cond.instanceMethod ({ cls := "RoleSessions", name := "fixed", desc := "(I)Z" } : Jvm.MethodName)) ∈ lw_all := lw_g (lw_at lw_m1 81 rfl) rfl
theorem q97 : (Jvm.Cond.selects "RoleSessions" ({ cls := "RoleSessions", name := "fixed", desc := "(I)Z" } : Jvm.MethodName) ({ cls := "RoleSessions", name := "fixed", desc := "(I)Z" } : Jvm.MethodName)) ∈ lw_all := lw_g (lw_at lw_m1 82 rfl) rfl
theorem q98 : (Jvm.Cond.code ({ cls := "RoleSessions", name := "fixed", desc := "(I)Z" } : Jvm.MethodName) prog_1_method_15_code (2 : Nat) (Option.some Jvm.ClassFile.FieldType.boolean)) ∈ lw_all := lw_g (lw_at lw_m1 83 rfl) rfl
theorem q99 : (Jvm.Cond.methodLink "RoleSessions" (82 : Nat) ({ cls := "RoleSessions", name := "isRole", desc := "(I)Z" } : Jvm.MethodName)) ∈ lw_all := lw_g (lw_at lw_m1 84 rfl) rfl
theorem q100 : (Jvm.Cond.static ({ cls := "RoleSessions", name := "isRole", desc := "(I)Z" } : Jvm.MethodName)) ∈ lw_all := lw_g (lw_at lw_m1 85 rfl) rfl
theorem q101 : (Jvm.Cond.code ({ cls := "RoleSessions", name := "isRole", desc := "(I)Z" } : Jvm.MethodName) prog_1_method_2_code (1 : Nat) (Option.some Jvm.ClassFile.FieldType.boolean)) ∈ lw_all := lw_g (lw_at lw_m1 86 rfl) rfl
theorem q102 : (Jvm.Cond.methodLink "RoleSessions" (85 : Nat) ({ cls := "RoleSessions", name := "learn", desc := "()Z" } : Jvm.MethodName)) ∈ lw_all := lw_g (lw_at lw_m1 87 rfl) rfl
theorem q103 : (Jvm.Cond.privateMethod ({ cls := "RoleSessions", name := "learn", desc := "()Z" } : Jvm.MethodName)) ∈ lw_tbl := lw_at lw_m1 88 rfl
theorem q104 : (Jvm.Cond.instanceMethod ({ cls := "RoleSessions", name := "learn", desc := "()Z" } : Jvm.MethodName)) ∈ lw_all := lw_g (lw_at lw_m1 89 rfl) rfl
theorem q105 : (Jvm.Cond.code ({ cls := "RoleSessions", name := "learn", desc := "()Z" } : Jvm.MethodName) prog_1_method_13_code (6 : Nat) (Option.some Jvm.ClassFile.FieldType.boolean)) ∈ lw_all := lw_g (lw_at lw_m1 90 rfl) rfl
theorem q106 : (Jvm.Cond.methodLink "RoleSessions" (68 : Nat) ({ cls := "RoleSessions", name := "project", desc := "(III)I" } : Jvm.MethodName)) ∈ lw_all := lw_g (lw_at lw_m1 91 rfl) rfl
theorem q107 : (Jvm.Cond.privateMethod ({ cls := "RoleSessions", name := "project", desc := "(III)I" } : Jvm.MethodName)) ∈ lw_tbl := lw_at lw_m1 92 rfl
theorem q108 : (Jvm.Cond.instanceMethod ({ cls := "RoleSessions", name := "project", desc := "(III)I" } : Jvm.MethodName)) ∈ lw_all := lw_g (lw_at lw_m1 93 rfl) rfl
theorem q109 : (Jvm.Cond.code ({ cls := "RoleSessions", name := "project", desc := "(III)I" } : Jvm.MethodName) prog_1_method_14_code (8 : Nat) (Option.some Jvm.ClassFile.FieldType.int)) ∈ lw_all := lw_g (lw_at lw_m1 94 rfl) rfl
theorem q110 : (Jvm.Cond.methodLink "RoleSessions" (72 : Nat) ({ cls := "RoleSessions", name := "senderOf", desc := "(I)I" } : Jvm.MethodName)) ∈ lw_all := lw_g (lw_at lw_m1 95 rfl) rfl
theorem q111 : (Jvm.Cond.static ({ cls := "RoleSessions", name := "senderOf", desc := "(I)I" } : Jvm.MethodName)) ∈ lw_all := lw_g (lw_at lw_m1 96 rfl) rfl
theorem q112 : (Jvm.Cond.code ({ cls := "RoleSessions", name := "senderOf", desc := "(I)I" } : Jvm.MethodName) prog_1_method_4_code (1 : Nat) (Option.some Jvm.ClassFile.FieldType.int)) ∈ lw_all := lw_g (lw_at lw_m1 97 rfl) rfl
theorem q113 : (Jvm.Cond.methodLink "RoleSessions" (75 : Nat) ({ cls := "RoleSessions", name := "receiverOf", desc := "(I)I" } : Jvm.MethodName)) ∈ lw_all := lw_g (lw_at lw_m1 98 rfl) rfl
theorem q114 : (Jvm.Cond.static ({ cls := "RoleSessions", name := "receiverOf", desc := "(I)I" } : Jvm.MethodName)) ∈ lw_all := lw_g (lw_at lw_m1 99 rfl) rfl
theorem q115 : (Jvm.Cond.code ({ cls := "RoleSessions", name := "receiverOf", desc := "(I)I" } : Jvm.MethodName) prog_1_method_5_code (1 : Nat) (Option.some Jvm.ClassFile.FieldType.int)) ∈ lw_all := lw_g (lw_at lw_m1 100 rfl) rfl
theorem q116 : (Jvm.Cond.methodLink "RoleSessions" (78 : Nat) ({ cls := "RoleSessions", name := "partFor", desc := "(IIII)I" } : Jvm.MethodName)) ∈ lw_all := lw_g (lw_at lw_m1 101 rfl) rfl
theorem q117 : (Jvm.Cond.privateMethod ({ cls := "RoleSessions", name := "partFor", desc := "(IIII)I" } : Jvm.MethodName)) ∈ lw_tbl := lw_at lw_m1 102 rfl
theorem q118 : (Jvm.Cond.instanceMethod ({ cls := "RoleSessions", name := "partFor", desc := "(IIII)I" } : Jvm.MethodName)) ∈ lw_all := lw_g (lw_at lw_m1 103 rfl) rfl
theorem q119 : (Jvm.Cond.code ({ cls := "RoleSessions", name := "partFor", desc := "(IIII)I" } : Jvm.MethodName) prog_1_method_12_code (7 : Nat) (Option.some Jvm.ClassFile.FieldType.int)) ∈ lw_all := lw_g (lw_at lw_m1 104 rfl) rfl
theorem q121 : (Jvm.Cond.instanceMethod ({ cls := "RoleSessions", name := "fit", desc := "()Z" } : Jvm.MethodName)) ∈ lw_all := lw_g (lw_at lw_m1 106 rfl) rfl
theorem q122 : (Jvm.Cond.selects "RoleSessions" ({ cls := "RoleSessions", name := "fit", desc := "()Z" } : Jvm.MethodName) ({ cls := "RoleSessions", name := "fit", desc := "()Z" } : Jvm.MethodName)) ∈ lw_all := lw_g (lw_at lw_m1 107 rfl) rfl
theorem q123 : (Jvm.Cond.code ({ cls := "RoleSessions", name := "fit", desc := "()Z" } : Jvm.MethodName) prog_1_method_16_code (1 : Nat) (Option.some Jvm.ClassFile.FieldType.boolean)) ∈ lw_all := lw_g (lw_at lw_m1 108 rfl) rfl
theorem q124 : (Jvm.Cond.methodLink "RoleSessions" (88 : Nat) ({ cls := "RoleSessions", name := "fixed", desc := "(I)Z" } : Jvm.MethodName)) ∈ lw_all := lw_g (lw_at lw_m1 109 rfl) rfl
theorem q126 : (Jvm.Cond.instanceMethod ({ cls := "RoleSessions", name := "size", desc := "(I)I" } : Jvm.MethodName)) ∈ lw_all := lw_g (lw_at lw_m1 111 rfl) rfl
theorem q127 : (Jvm.Cond.selects "RoleSessions" ({ cls := "RoleSessions", name := "size", desc := "(I)I" } : Jvm.MethodName) ({ cls := "RoleSessions", name := "size", desc := "(I)I" } : Jvm.MethodName)) ∈ lw_all := lw_g (lw_at lw_m1 112 rfl) rfl
theorem q128 : (Jvm.Cond.code ({ cls := "RoleSessions", name := "size", desc := "(I)I" } : Jvm.MethodName) prog_1_method_17_code (2 : Nat) (Option.some Jvm.ClassFile.FieldType.int)) ∈ lw_all := lw_g (lw_at lw_m1 113 rfl) rfl
theorem q130 : (Jvm.Cond.instanceMethod ({ cls := "RoleSessions", name := "start", desc := "()Z" } : Jvm.MethodName)) ∈ lw_all := lw_g (lw_at lw_m1 115 rfl) rfl
theorem q131 : (Jvm.Cond.selects "RoleSessions" ({ cls := "RoleSessions", name := "start", desc := "()Z" } : Jvm.MethodName) ({ cls := "RoleSessions", name := "start", desc := "()Z" } : Jvm.MethodName)) ∈ lw_all := lw_g (lw_at lw_m1 116 rfl) rfl
theorem q132 : (Jvm.Cond.code ({ cls := "RoleSessions", name := "start", desc := "()Z" } : Jvm.MethodName) prog_1_method_18_code (2 : Nat) (Option.some Jvm.ClassFile.FieldType.boolean)) ∈ lw_all := lw_g (lw_at lw_m1 117 rfl) rfl
theorem q133 : (Jvm.Cond.methodLink "RoleSessions" (91 : Nat) ({ cls := "RoleSessions", name := "fit", desc := "()Z" } : Jvm.MethodName)) ∈ lw_all := lw_g (lw_at lw_m1 118 rfl) rfl
theorem q135 : (Jvm.Cond.instanceMethod ({ cls := "RoleSessions", name := "runs", desc := "()Z" } : Jvm.MethodName)) ∈ lw_all := lw_g (lw_at lw_m1 120 rfl) rfl
theorem q136 : (Jvm.Cond.selects "RoleSessions" ({ cls := "RoleSessions", name := "runs", desc := "()Z" } : Jvm.MethodName) ({ cls := "RoleSessions", name := "runs", desc := "()Z" } : Jvm.MethodName)) ∈ lw_all := lw_g (lw_at lw_m1 121 rfl) rfl
theorem q137 : (Jvm.Cond.code ({ cls := "RoleSessions", name := "runs", desc := "()Z" } : Jvm.MethodName) prog_1_method_19_code (1 : Nat) (Option.some Jvm.ClassFile.FieldType.boolean)) ∈ lw_all := lw_g (lw_at lw_m1 122 rfl) rfl
theorem q139 : (Jvm.Cond.instanceMethod ({ cls := "RoleSessions", name := "possible", desc := "(III)Z" } : Jvm.MethodName)) ∈ lw_all := lw_g (lw_at lw_m1 124 rfl) rfl
theorem q140 : (Jvm.Cond.selects "RoleSessions" ({ cls := "RoleSessions", name := "possible", desc := "(III)Z" } : Jvm.MethodName) ({ cls := "RoleSessions", name := "possible", desc := "(III)Z" } : Jvm.MethodName)) ∈ lw_all := lw_g (lw_at lw_m1 125 rfl) rfl
theorem q141 : (Jvm.Cond.code ({ cls := "RoleSessions", name := "possible", desc := "(III)Z" } : Jvm.MethodName) prog_1_method_20_code (7 : Nat) (Option.some Jvm.ClassFile.FieldType.boolean)) ∈ lw_all := lw_g (lw_at lw_m1 126 rfl) rfl
theorem q143 : (Jvm.Cond.instanceMethod ({ cls := "RoleSessions", name := "send", desc := "(III)Z" } : Jvm.MethodName)) ∈ lw_all := lw_g (lw_at lw_m1 128 rfl) rfl
theorem q144 : (Jvm.Cond.selects "RoleSessions" ({ cls := "RoleSessions", name := "send", desc := "(III)Z" } : Jvm.MethodName) ({ cls := "RoleSessions", name := "send", desc := "(III)Z" } : Jvm.MethodName)) ∈ lw_all := lw_g (lw_at lw_m1 129 rfl) rfl
theorem q145 : (Jvm.Cond.code ({ cls := "RoleSessions", name := "send", desc := "(III)Z" } : Jvm.MethodName) prog_1_method_21_code (4 : Nat) (Option.some Jvm.ClassFile.FieldType.boolean)) ∈ lw_all := lw_g (lw_at lw_m1 130 rfl) rfl
theorem q146 : (Jvm.Cond.methodLink "RoleSessions" (97 : Nat) ({ cls := "RoleSessions", name := "possible", desc := "(III)Z" } : Jvm.MethodName)) ∈ lw_all := lw_g (lw_at lw_m1 131 rfl) rfl
theorem q148 : (Jvm.Cond.instanceMethod ({ cls := "RoleSessions", name := "duty", desc := "(I)I" } : Jvm.MethodName)) ∈ lw_all := lw_g (lw_at lw_m1 133 rfl) rfl
theorem q149 : (Jvm.Cond.selects "RoleSessions" ({ cls := "RoleSessions", name := "duty", desc := "(I)I" } : Jvm.MethodName) ({ cls := "RoleSessions", name := "duty", desc := "(I)I" } : Jvm.MethodName)) ∈ lw_all := lw_g (lw_at lw_m1 134 rfl) rfl
theorem q150 : (Jvm.Cond.code ({ cls := "RoleSessions", name := "duty", desc := "(I)I" } : Jvm.MethodName) prog_1_method_22_code (2 : Nat) (Option.some Jvm.ClassFile.FieldType.int)) ∈ lw_all := lw_g (lw_at lw_m1 135 rfl) rfl
theorem q152 : (Jvm.Cond.instanceMethod ({ cls := "RoleSessions", name := "labels", desc := "(I)I" } : Jvm.MethodName)) ∈ lw_all := lw_g (lw_at lw_m1 137 rfl) rfl
theorem q153 : (Jvm.Cond.selects "RoleSessions" ({ cls := "RoleSessions", name := "labels", desc := "(I)I" } : Jvm.MethodName) ({ cls := "RoleSessions", name := "labels", desc := "(I)I" } : Jvm.MethodName)) ∈ lw_all := lw_g (lw_at lw_m1 138 rfl) rfl
theorem q154 : (Jvm.Cond.code ({ cls := "RoleSessions", name := "labels", desc := "(I)I" } : Jvm.MethodName) prog_1_method_23_code (2 : Nat) (Option.some Jvm.ClassFile.FieldType.int)) ∈ lw_all := lw_g (lw_at lw_m1 139 rfl) rfl
theorem q156 : (Jvm.Cond.instanceMethod ({ cls := "RoleSessions", name := "rest", desc := "(I)I" } : Jvm.MethodName)) ∈ lw_all := lw_g (lw_at lw_m1 141 rfl) rfl
theorem q157 : (Jvm.Cond.selects "RoleSessions" ({ cls := "RoleSessions", name := "rest", desc := "(I)I" } : Jvm.MethodName) ({ cls := "RoleSessions", name := "rest", desc := "(I)I" } : Jvm.MethodName)) ∈ lw_all := lw_g (lw_at lw_m1 142 rfl) rfl
theorem q158 : (Jvm.Cond.code ({ cls := "RoleSessions", name := "rest", desc := "(I)I" } : Jvm.MethodName) prog_1_method_24_code (2 : Nat) (Option.some Jvm.ClassFile.FieldType.int)) ∈ lw_all := lw_g (lw_at lw_m1 143 rfl) rfl
theorem q160 : (Jvm.Cond.instanceMethod ({ cls := "RoleSessions", name := "choices", desc := "()I" } : Jvm.MethodName)) ∈ lw_all := lw_g (lw_at lw_m1 145 rfl) rfl
theorem q161 : (Jvm.Cond.selects "RoleSessions" ({ cls := "RoleSessions", name := "choices", desc := "()I" } : Jvm.MethodName) ({ cls := "RoleSessions", name := "choices", desc := "()I" } : Jvm.MethodName)) ∈ lw_all := lw_g (lw_at lw_m1 146 rfl) rfl
theorem q162 : (Jvm.Cond.code ({ cls := "RoleSessions", name := "choices", desc := "()I" } : Jvm.MethodName) prog_1_method_25_code (4 : Nat) (Option.some Jvm.ClassFile.FieldType.int)) ∈ lw_all := lw_g (lw_at lw_m1 147 rfl) rfl
theorem q164 : (Jvm.Cond.instanceMethod ({ cls := "RoleSessions", name := "sent", desc := "()I" } : Jvm.MethodName)) ∈ lw_all := lw_g (lw_at lw_m1 149 rfl) rfl
theorem q165 : (Jvm.Cond.selects "RoleSessions" ({ cls := "RoleSessions", name := "sent", desc := "()I" } : Jvm.MethodName) ({ cls := "RoleSessions", name := "sent", desc := "()I" } : Jvm.MethodName)) ∈ lw_all := lw_g (lw_at lw_m1 150 rfl) rfl
theorem q166 : (Jvm.Cond.code ({ cls := "RoleSessions", name := "sent", desc := "()I" } : Jvm.MethodName) prog_1_method_26_code (1 : Nat) (Option.some Jvm.ClassFile.FieldType.int)) ∈ lw_all := lw_g (lw_at lw_m1 151 rfl) rfl
theorem q168 : (Jvm.Cond.instanceMethod ({ cls := "RoleSessions", name := "over", desc := "()Z" } : Jvm.MethodName)) ∈ lw_all := lw_g (lw_at lw_m1 153 rfl) rfl
theorem q169 : (Jvm.Cond.selects "RoleSessions" ({ cls := "RoleSessions", name := "over", desc := "()Z" } : Jvm.MethodName) ({ cls := "RoleSessions", name := "over", desc := "()Z" } : Jvm.MethodName)) ∈ lw_all := lw_g (lw_at lw_m1 154 rfl) rfl
theorem q170 : (Jvm.Cond.code ({ cls := "RoleSessions", name := "over", desc := "()Z" } : Jvm.MethodName) prog_1_method_27_code (2 : Nat) (Option.some Jvm.ClassFile.FieldType.boolean)) ∈ lw_all := lw_g (lw_at lw_m1 155 rfl) rfl
theorem in_X0 : ∀ w ∈ wsX00, w ∈ lw_all := lw_in wsX00 [39, 41, 43, 45, 47, 49, 51, 53, 55, 57, 59, 61, 63] (by decide +kernel) (by decide +kernel)
end
section
/-! RoleSessionsModel -/
set_option maxRecDepth 100000
def RX1 : String := "RoleSessionsModel"
def TX1 : u_T := fun k => match k with
  | 0 => ("RoleSessionsModel", "tokens", "[I", false)
  | 1 => ("RoleSessionsModel", "sizes", "[I", false)
  | 2 => ("RoleSessionsModel", "running", "Z", false)
  | 3 => ("RoleSessionsModel", "count", "I", false)
  | 4 => ("RoleSessionsModel", "from", "I", false)
  | 5 => ("RoleSessionsModel", "local", "[I", false)
  | 6 => ("RoleSessionsModel", "parts", "I", false)
  | 7 => ("RoleSessionsModel", "lengths", "[I", false)
  | _ => ("RoleSessionsModel", "next", "[I", false)
def tyX1 : Nat → FieldType := fun k => match k with
  | 0 => .array .int
  | 1 => .array .int
  | 2 => .boolean
  | 3 => .int
  | 4 => .int
  | 5 => .array .int
  | 6 => .int
  | 7 => .array .int
  | _ => .array .int
abbrev wsX10 : List Cond := u_ws RX1 TX1 9
theorem nmX1 : ∀ a, a < 9 → ∀ b, b < 9 → a ≠ b → (TX1 a).2.1 ≠ (TX1 b).2.1 := by decide +kernel
theorem tyX1_ok : ∀ k, k < 9 → parseFieldDescriptor (TX1 k).2.2.1 = some (tyX1 k) := by decide +kernel
abbrev cX1_init : ByteArray := prog_3_method_1_code
def yX1_init : MethodName := ⟨RX1, "<init>", "()V"⟩
theorem dX1_init_0 : decode cX1_init 0 = .ok (.aload_n 0, 1) := by decide +kernel
theorem dX1_init_1 : decode cX1_init 1 = .ok (.invokespecial 1, 3) := by decide +kernel
theorem dX1_init_4 : decode cX1_init 4 = .ok (.aload_n 0, 1) := by decide +kernel
theorem dX1_init_5 : decode cX1_init 5 = .ok (.bipush 42, 2) := by decide +kernel
theorem dX1_init_7 : decode cX1_init 7 = .ok (.newarray .int, 2) := by decide +kernel
theorem dX1_init_9 : decode cX1_init 9 = .ok (.putfield 7, 3) := by decide +kernel
theorem dX1_init_12 : decode cX1_init 12 = .ok (.aload_n 0, 1) := by decide +kernel
theorem dX1_init_13 : decode cX1_init 13 = .ok (.iconst 2, 1) := by decide +kernel
theorem dX1_init_14 : decode cX1_init 14 = .ok (.newarray .int, 2) := by decide +kernel
theorem dX1_init_16 : decode cX1_init 16 = .ok (.putfield 13, 3) := by decide +kernel
theorem dX1_init_19 : decode cX1_init 19 = .ok (.aload_n 0, 1) := by decide +kernel
theorem dX1_init_20 : decode cX1_init 20 = .ok (.bipush 21, 2) := by decide +kernel
theorem dX1_init_22 : decode cX1_init 22 = .ok (.newarray .int, 2) := by decide +kernel
theorem dX1_init_24 : decode cX1_init 24 = .ok (.putfield 16, 3) := by decide +kernel
theorem dX1_init_27 : decode cX1_init 27 = .ok (.aload_n 0, 1) := by decide +kernel
theorem dX1_init_28 : decode cX1_init 28 = .ok (.bipush 21, 2) := by decide +kernel
theorem dX1_init_30 : decode cX1_init 30 = .ok (.newarray .int, 2) := by decide +kernel
theorem dX1_init_32 : decode cX1_init 32 = .ok (.putfield 19, 3) := by decide +kernel
theorem dX1_init_35 : decode cX1_init 35 = .ok (.aload_n 0, 1) := by decide +kernel
theorem dX1_init_36 : decode cX1_init 36 = .ok (.bipush 21, 2) := by decide +kernel
theorem dX1_init_38 : decode cX1_init 38 = .ok (.newarray .int, 2) := by decide +kernel
theorem dX1_init_40 : decode cX1_init 40 = .ok (.putfield 22, 3) := by decide +kernel
theorem dX1_init_43 : decode cX1_init 43 = .ok (.return_, 1) := by decide +kernel
abbrev cX1_write : ByteArray := prog_3_method_6_code
def yX1_write : MethodName := ⟨RX1, "write", "(I)I"⟩
theorem dX1_write_0 : decode cX1_write 0 = .ok (.iload_n 1, 1) := by decide +kernel
theorem dX1_write_1 : decode cX1_write 1 = .ok (.ifCond .lt 26, 3) := by decide +kernel
theorem dX1_write_4 : decode cX1_write 4 = .ok (.iload_n 1, 1) := by decide +kernel
theorem dX1_write_5 : decode cX1_write 5 = .ok (.bipush 32, 2) := by decide +kernel
theorem dX1_write_7 : decode cX1_write 7 = .ok (.if_icmp .gt 20, 3) := by decide +kernel
theorem dX1_write_10 : decode cX1_write 10 = .ok (.iload_n 1, 1) := by decide +kernel
theorem dX1_write_11 : decode cX1_write 11 = .ok (.ifCond .le 18, 3) := by decide +kernel
theorem dX1_write_14 : decode cX1_write 14 = .ok (.aload_n 0, 1) := by decide +kernel
theorem dX1_write_15 : decode cX1_write 15 = .ok (.iload_n 1, 1) := by decide +kernel
theorem dX1_write_16 : decode cX1_write 16 = .ok (.invokevirtual 25, 3) := by decide +kernel
theorem dX1_write_19 : decode cX1_write 19 = .ok (.aload_n 0, 1) := by decide +kernel
theorem dX1_write_20 : decode cX1_write 20 = .ok (.iload_n 1, 1) := by decide +kernel
theorem dX1_write_21 : decode cX1_write 21 = .ok (.invokevirtual 29, 3) := by decide +kernel
theorem dX1_write_24 : decode cX1_write 24 = .ok (.if_icmp .ne 5, 3) := by decide +kernel
theorem dX1_write_27 : decode cX1_write 27 = .ok (.iconst (-1), 1) := by decide +kernel
theorem dX1_write_28 : decode cX1_write 28 = .ok (.ireturn, 1) := by decide +kernel
theorem dX1_write_29 : decode cX1_write 29 = .ok (.aload_n 0, 1) := by decide +kernel
theorem dX1_write_30 : decode cX1_write 30 = .ok (.invokevirtual 32, 3) := by decide +kernel
theorem dX1_write_33 : decode cX1_write 33 = .ok (.ifCond .ne 14, 3) := by decide +kernel
theorem dX1_write_36 : decode cX1_write 36 = .ok (.aload_n 0, 1) := by decide +kernel
theorem dX1_write_37 : decode cX1_write 37 = .ok (.getfield 13, 3) := by decide +kernel
theorem dX1_write_40 : decode cX1_write 40 = .ok (.iconst 0, 1) := by decide +kernel
theorem dX1_write_41 : decode cX1_write 41 = .ok (.iaload, 1) := by decide +kernel
theorem dX1_write_42 : decode cX1_write 42 = .ok (.bipush 21, 2) := by decide +kernel
theorem dX1_write_44 : decode cX1_write 44 = .ok (.if_icmp .lt 6, 3) := by decide +kernel
theorem dX1_write_47 : decode cX1_write 47 = .ok (.bipush (-2), 2) := by decide +kernel
theorem dX1_write_49 : decode cX1_write 49 = .ok (.ireturn, 1) := by decide +kernel
theorem dX1_write_50 : decode cX1_write 50 = .ok (.aload_n 0, 1) := by decide +kernel
theorem dX1_write_51 : decode cX1_write 51 = .ok (.iconst 0, 1) := by decide +kernel
theorem dX1_write_52 : decode cX1_write 52 = .ok (.putfield 36, 3) := by decide +kernel
theorem dX1_write_55 : decode cX1_write 55 = .ok (.aload_n 0, 1) := by decide +kernel
theorem dX1_write_56 : decode cX1_write 56 = .ok (.getfield 7, 3) := by decide +kernel
theorem dX1_write_59 : decode cX1_write 59 = .ok (.aload_n 0, 1) := by decide +kernel
theorem dX1_write_60 : decode cX1_write 60 = .ok (.getfield 13, 3) := by decide +kernel
theorem dX1_write_63 : decode cX1_write 63 = .ok (.iconst 0, 1) := by decide +kernel
theorem dX1_write_64 : decode cX1_write 64 = .ok (.iaload, 1) := by decide +kernel
theorem dX1_write_65 : decode cX1_write 65 = .ok (.iload_n 1, 1) := by decide +kernel
theorem dX1_write_66 : decode cX1_write 66 = .ok (.iastore, 1) := by decide +kernel
theorem dX1_write_67 : decode cX1_write 67 = .ok (.aload_n 0, 1) := by decide +kernel
theorem dX1_write_68 : decode cX1_write 68 = .ok (.getfield 13, 3) := by decide +kernel
theorem dX1_write_71 : decode cX1_write 71 = .ok (.iconst 0, 1) := by decide +kernel
theorem dX1_write_72 : decode cX1_write 72 = .ok (.dup2, 1) := by decide +kernel
theorem dX1_write_73 : decode cX1_write 73 = .ok (.iaload, 1) := by decide +kernel
theorem dX1_write_74 : decode cX1_write 74 = .ok (.iconst 1, 1) := by decide +kernel
theorem dX1_write_75 : decode cX1_write 75 = .ok (.iadd, 1) := by decide +kernel
theorem dX1_write_76 : decode cX1_write 76 = .ok (.iastore, 1) := by decide +kernel
theorem dX1_write_77 : decode cX1_write 77 = .ok (.aload_n 0, 1) := by decide +kernel
theorem dX1_write_78 : decode cX1_write 78 = .ok (.getfield 13, 3) := by decide +kernel
theorem dX1_write_81 : decode cX1_write 81 = .ok (.iconst 0, 1) := by decide +kernel
theorem dX1_write_82 : decode cX1_write 82 = .ok (.iaload, 1) := by decide +kernel
theorem dX1_write_83 : decode cX1_write 83 = .ok (.ireturn, 1) := by decide +kernel
abbrev cX1_sender : ByteArray := prog_3_method_3_code
def yX1_sender : MethodName := ⟨RX1, "sender", "(I)I"⟩
theorem dX1_sender_0 : decode cX1_sender 0 = .ok (.iload_n 1, 1) := by decide +kernel
theorem dX1_sender_1 : decode cX1_sender 1 = .ok (.iconst 1, 1) := by decide +kernel
theorem dX1_sender_2 : decode cX1_sender 2 = .ok (.isub, 1) := by decide +kernel
theorem dX1_sender_3 : decode cX1_sender 3 = .ok (.iconst 3, 1) := by decide +kernel
theorem dX1_sender_4 : decode cX1_sender 4 = .ok (.iand, 1) := by decide +kernel
theorem dX1_sender_5 : decode cX1_sender 5 = .ok (.ireturn, 1) := by decide +kernel
abbrev cX1_receiver : ByteArray := prog_3_method_4_code
def yX1_receiver : MethodName := ⟨RX1, "receiver", "(I)I"⟩
theorem dX1_receiver_0 : decode cX1_receiver 0 = .ok (.iload_n 1, 1) := by decide +kernel
theorem dX1_receiver_1 : decode cX1_receiver 1 = .ok (.iconst 1, 1) := by decide +kernel
theorem dX1_receiver_2 : decode cX1_receiver 2 = .ok (.isub, 1) := by decide +kernel
theorem dX1_receiver_3 : decode cX1_receiver 3 = .ok (.iconst 2, 1) := by decide +kernel
theorem dX1_receiver_4 : decode cX1_receiver 4 = .ok (.ishr, 1) := by decide +kernel
theorem dX1_receiver_5 : decode cX1_receiver 5 = .ok (.iconst 3, 1) := by decide +kernel
theorem dX1_receiver_6 : decode cX1_receiver 6 = .ok (.iand, 1) := by decide +kernel
theorem dX1_receiver_7 : decode cX1_receiver 7 = .ok (.ireturn, 1) := by decide +kernel
abbrev cX1_complete : ByteArray := prog_3_method_8_code
def yX1_complete : MethodName := ⟨RX1, "complete", "()Z"⟩
theorem dX1_complete_0 : decode cX1_complete 0 = .ok (.iconst 1, 1) := by decide +kernel
theorem dX1_complete_1 : decode cX1_complete 1 = .ok (.istore_n 1, 1) := by decide +kernel
theorem dX1_complete_2 : decode cX1_complete 2 = .ok (.iconst 0, 1) := by decide +kernel
theorem dX1_complete_3 : decode cX1_complete 3 = .ok (.istore_n 2, 1) := by decide +kernel
theorem dX1_complete_4 : decode cX1_complete 4 = .ok (.iload_n 2, 1) := by decide +kernel
theorem dX1_complete_5 : decode cX1_complete 5 = .ok (.aload_n 0, 1) := by decide +kernel
theorem dX1_complete_6 : decode cX1_complete 6 = .ok (.getfield 13, 3) := by decide +kernel
theorem dX1_complete_9 : decode cX1_complete 9 = .ok (.iconst 0, 1) := by decide +kernel
theorem dX1_complete_10 : decode cX1_complete 10 = .ok (.iaload, 1) := by decide +kernel
theorem dX1_complete_11 : decode cX1_complete 11 = .ok (.if_icmp .ge 24, 3) := by decide +kernel
theorem dX1_complete_14 : decode cX1_complete 14 = .ok (.iload_n 1, 1) := by decide +kernel
theorem dX1_complete_15 : decode cX1_complete 15 = .ok (.iconst 1, 1) := by decide +kernel
theorem dX1_complete_16 : decode cX1_complete 16 = .ok (.isub, 1) := by decide +kernel
theorem dX1_complete_17 : decode cX1_complete 17 = .ok (.aload_n 0, 1) := by decide +kernel
theorem dX1_complete_18 : decode cX1_complete 18 = .ok (.aload_n 0, 1) := by decide +kernel
theorem dX1_complete_19 : decode cX1_complete 19 = .ok (.getfield 7, 3) := by decide +kernel
theorem dX1_complete_22 : decode cX1_complete 22 = .ok (.iload_n 2, 1) := by decide +kernel
theorem dX1_complete_23 : decode cX1_complete 23 = .ok (.iaload, 1) := by decide +kernel
theorem dX1_complete_24 : decode cX1_complete 24 = .ok (.invokevirtual 40, 3) := by decide +kernel
theorem dX1_complete_27 : decode cX1_complete 27 = .ok (.iadd, 1) := by decide +kernel
theorem dX1_complete_28 : decode cX1_complete 28 = .ok (.istore_n 1, 1) := by decide +kernel
theorem dX1_complete_29 : decode cX1_complete 29 = .ok (.iinc 2 1, 3) := by decide +kernel
theorem dX1_complete_32 : decode cX1_complete 32 = .ok (.goto (-28), 3) := by decide +kernel
theorem dX1_complete_35 : decode cX1_complete 35 = .ok (.iload_n 1, 1) := by decide +kernel
theorem dX1_complete_36 : decode cX1_complete 36 = .ok (.ifCond .ne 7, 3) := by decide +kernel
theorem dX1_complete_39 : decode cX1_complete 39 = .ok (.iconst 1, 1) := by decide +kernel
theorem dX1_complete_40 : decode cX1_complete 40 = .ok (.goto 4, 3) := by decide +kernel
theorem dX1_complete_43 : decode cX1_complete 43 = .ok (.iconst 0, 1) := by decide +kernel
theorem dX1_complete_44 : decode cX1_complete 44 = .ok (.ireturn, 1) := by decide +kernel
abbrev cX1_plans : ByteArray := prog_3_method_5_code
def yX1_plans : MethodName := ⟨RX1, "plans", "(I)I"⟩
theorem dX1_plans_0 : decode cX1_plans 0 = .ok (.iload_n 1, 1) := by decide +kernel
theorem dX1_plans_1 : decode cX1_plans 1 = .ok (.ifCond .ne 7, 3) := by decide +kernel
theorem dX1_plans_4 : decode cX1_plans 4 = .ok (.iconst 0, 1) := by decide +kernel
theorem dX1_plans_5 : decode cX1_plans 5 = .ok (.goto 14, 3) := by decide +kernel
theorem dX1_plans_8 : decode cX1_plans 8 = .ok (.iload_n 1, 1) := by decide +kernel
theorem dX1_plans_9 : decode cX1_plans 9 = .ok (.bipush 16, 2) := by decide +kernel
theorem dX1_plans_11 : decode cX1_plans 11 = .ok (.if_icmp .gt 7, 3) := by decide +kernel
theorem dX1_plans_14 : decode cX1_plans 14 = .ok (.iconst 1, 1) := by decide +kernel
theorem dX1_plans_15 : decode cX1_plans 15 = .ok (.goto 4, 3) := by decide +kernel
theorem dX1_plans_18 : decode cX1_plans 18 = .ok (.iconst 2, 1) := by decide +kernel
theorem dX1_plans_19 : decode cX1_plans 19 = .ok (.ireturn, 1) := by decide +kernel
abbrev cX1_rub : ByteArray := prog_3_method_7_code
def yX1_rub : MethodName := ⟨RX1, "rub", "()I"⟩
theorem dX1_rub_0 : decode cX1_rub 0 = .ok (.aload_n 0, 1) := by decide +kernel
theorem dX1_rub_1 : decode cX1_rub 1 = .ok (.getfield 13, 3) := by decide +kernel
theorem dX1_rub_4 : decode cX1_rub 4 = .ok (.iconst 0, 1) := by decide +kernel
theorem dX1_rub_5 : decode cX1_rub 5 = .ok (.iaload, 1) := by decide +kernel
theorem dX1_rub_6 : decode cX1_rub 6 = .ok (.ifCond .ne 5, 3) := by decide +kernel
theorem dX1_rub_9 : decode cX1_rub 9 = .ok (.iconst (-1), 1) := by decide +kernel
theorem dX1_rub_10 : decode cX1_rub 10 = .ok (.ireturn, 1) := by decide +kernel
theorem dX1_rub_11 : decode cX1_rub 11 = .ok (.aload_n 0, 1) := by decide +kernel
theorem dX1_rub_12 : decode cX1_rub 12 = .ok (.iconst 0, 1) := by decide +kernel
theorem dX1_rub_13 : decode cX1_rub 13 = .ok (.putfield 36, 3) := by decide +kernel
theorem dX1_rub_16 : decode cX1_rub 16 = .ok (.aload_n 0, 1) := by decide +kernel
theorem dX1_rub_17 : decode cX1_rub 17 = .ok (.getfield 13, 3) := by decide +kernel
theorem dX1_rub_20 : decode cX1_rub 20 = .ok (.iconst 0, 1) := by decide +kernel
theorem dX1_rub_21 : decode cX1_rub 21 = .ok (.dup2, 1) := by decide +kernel
theorem dX1_rub_22 : decode cX1_rub 22 = .ok (.iaload, 1) := by decide +kernel
theorem dX1_rub_23 : decode cX1_rub 23 = .ok (.iconst 1, 1) := by decide +kernel
theorem dX1_rub_24 : decode cX1_rub 24 = .ok (.isub, 1) := by decide +kernel
theorem dX1_rub_25 : decode cX1_rub 25 = .ok (.iastore, 1) := by decide +kernel
theorem dX1_rub_26 : decode cX1_rub 26 = .ok (.aload_n 0, 1) := by decide +kernel
theorem dX1_rub_27 : decode cX1_rub 27 = .ok (.getfield 7, 3) := by decide +kernel
theorem dX1_rub_30 : decode cX1_rub 30 = .ok (.aload_n 0, 1) := by decide +kernel
theorem dX1_rub_31 : decode cX1_rub 31 = .ok (.getfield 13, 3) := by decide +kernel
theorem dX1_rub_34 : decode cX1_rub 34 = .ok (.iconst 0, 1) := by decide +kernel
theorem dX1_rub_35 : decode cX1_rub 35 = .ok (.iaload, 1) := by decide +kernel
theorem dX1_rub_36 : decode cX1_rub 36 = .ok (.iaload, 1) := by decide +kernel
theorem dX1_rub_37 : decode cX1_rub 37 = .ok (.ireturn, 1) := by decide +kernel
abbrev cX1_fixed : ByteArray := prog_3_method_13_code
def yX1_fixed : MethodName := ⟨RX1, "fixed", "(I)Z"⟩
theorem dX1_fixed_0 : decode cX1_fixed 0 = .ok (.aload_n 0, 1) := by decide +kernel
theorem dX1_fixed_1 : decode cX1_fixed 1 = .ok (.iload_n 1, 1) := by decide +kernel
theorem dX1_fixed_2 : decode cX1_fixed 2 = .ok (.invokevirtual 57, 3) := by decide +kernel
theorem dX1_fixed_5 : decode cX1_fixed 5 = .ok (.ifCond .eq 23, 3) := by decide +kernel
theorem dX1_fixed_8 : decode cX1_fixed 8 = .ok (.aload_n 0, 1) := by decide +kernel
theorem dX1_fixed_9 : decode cX1_fixed 9 = .ok (.invokevirtual 32, 3) := by decide +kernel
theorem dX1_fixed_12 : decode cX1_fixed 12 = .ok (.ifCond .eq 16, 3) := by decide +kernel
theorem dX1_fixed_15 : decode cX1_fixed 15 = .ok (.aload_n 0, 1) := by decide +kernel
theorem dX1_fixed_16 : decode cX1_fixed 16 = .ok (.iconst 0, 1) := by decide +kernel
theorem dX1_fixed_17 : decode cX1_fixed 17 = .ok (.iload_n 1, 1) := by decide +kernel
theorem dX1_fixed_18 : decode cX1_fixed 18 = .ok (.invokevirtual 61, 3) := by decide +kernel
theorem dX1_fixed_21 : decode cX1_fixed 21 = .ok (.ifCond .eq 7, 3) := by decide +kernel
theorem dX1_fixed_24 : decode cX1_fixed 24 = .ok (.iconst 1, 1) := by decide +kernel
theorem dX1_fixed_25 : decode cX1_fixed 25 = .ok (.goto 4, 3) := by decide +kernel
theorem dX1_fixed_28 : decode cX1_fixed 28 = .ok (.iconst 0, 1) := by decide +kernel
theorem dX1_fixed_29 : decode cX1_fixed 29 = .ok (.ireturn, 1) := by decide +kernel
abbrev cX1_role : ByteArray := prog_3_method_2_code
def yX1_role : MethodName := ⟨RX1, "role", "(I)Z"⟩
theorem dX1_role_0 : decode cX1_role 0 = .ok (.iload_n 1, 1) := by decide +kernel
theorem dX1_role_1 : decode cX1_role 1 = .ok (.ifCond .lt 12, 3) := by decide +kernel
theorem dX1_role_4 : decode cX1_role 4 = .ok (.iload_n 1, 1) := by decide +kernel
theorem dX1_role_5 : decode cX1_role 5 = .ok (.iconst 3, 1) := by decide +kernel
theorem dX1_role_6 : decode cX1_role 6 = .ok (.if_icmp .gt 7, 3) := by decide +kernel
theorem dX1_role_9 : decode cX1_role 9 = .ok (.iconst 1, 1) := by decide +kernel
theorem dX1_role_10 : decode cX1_role 10 = .ok (.goto 4, 3) := by decide +kernel
theorem dX1_role_13 : decode cX1_role 13 = .ok (.iconst 0, 1) := by decide +kernel
theorem dX1_role_14 : decode cX1_role 14 = .ok (.ireturn, 1) := by decide +kernel
abbrev cX1_read : ByteArray := prog_3_method_11_code
def yX1_read : MethodName := ⟨RX1, "read", "(II)Z"⟩
theorem dX1_read_0 : decode cX1_read 0 = .ok (.aload_n 0, 1) := by decide +kernel
theorem dX1_read_1 : decode cX1_read 1 = .ok (.bipush 21, 2) := by decide +kernel
theorem dX1_read_3 : decode cX1_read 3 = .ok (.putfield 43, 3) := by decide +kernel
theorem dX1_read_6 : decode cX1_read 6 = .ok (.aload_n 0, 1) := by decide +kernel
theorem dX1_read_7 : decode cX1_read 7 = .ok (.iconst 0, 1) := by decide +kernel
theorem dX1_read_8 : decode cX1_read 8 = .ok (.putfield 47, 3) := by decide +kernel
theorem dX1_read_11 : decode cX1_read 11 = .ok (.iconst 1, 1) := by decide +kernel
theorem dX1_read_12 : decode cX1_read 12 = .ok (.istore_n 3, 1) := by decide +kernel
theorem dX1_read_13 : decode cX1_read 13 = .ok (.aload_n 0, 1) := by decide +kernel
theorem dX1_read_14 : decode cX1_read 14 = .ok (.getfield 13, 3) := by decide +kernel
theorem dX1_read_17 : decode cX1_read 17 = .ok (.iload_n 1, 1) := by decide +kernel
theorem dX1_read_18 : decode cX1_read 18 = .ok (.iaload, 1) := by decide +kernel
theorem dX1_read_19 : decode cX1_read 19 = .ok (.iconst 1, 1) := by decide +kernel
theorem dX1_read_20 : decode cX1_read 20 = .ok (.isub, 1) := by decide +kernel
theorem dX1_read_21 : decode cX1_read 21 = .ok (.istore 4, 2) := by decide +kernel
theorem dX1_read_23 : decode cX1_read 23 = .ok (.iload 4, 2) := by decide +kernel
theorem dX1_read_25 : decode cX1_read 25 = .ok (.ifCond .lt 160, 3) := by decide +kernel
theorem dX1_read_28 : decode cX1_read 28 = .ok (.aload_n 0, 1) := by decide +kernel
theorem dX1_read_29 : decode cX1_read 29 = .ok (.getfield 7, 3) := by decide +kernel
theorem dX1_read_32 : decode cX1_read 32 = .ok (.bipush 21, 2) := by decide +kernel
theorem dX1_read_34 : decode cX1_read 34 = .ok (.iload_n 1, 1) := by decide +kernel
theorem dX1_read_35 : decode cX1_read 35 = .ok (.imul, 1) := by decide +kernel
theorem dX1_read_36 : decode cX1_read 36 = .ok (.iload 4, 2) := by decide +kernel
theorem dX1_read_38 : decode cX1_read 38 = .ok (.iadd, 1) := by decide +kernel
theorem dX1_read_39 : decode cX1_read 39 = .ok (.iaload, 1) := by decide +kernel
theorem dX1_read_40 : decode cX1_read 40 = .ok (.istore 5, 2) := by decide +kernel
theorem dX1_read_42 : decode cX1_read 42 = .ok (.aload_n 0, 1) := by decide +kernel
theorem dX1_read_43 : decode cX1_read 43 = .ok (.iload 5, 2) := by decide +kernel
theorem dX1_read_45 : decode cX1_read 45 = .ok (.invokevirtual 40, 3) := by decide +kernel
theorem dX1_read_48 : decode cX1_read 48 = .ok (.istore 6, 2) := by decide +kernel
theorem dX1_read_50 : decode cX1_read 50 = .ok (.iload 5, 2) := by decide +kernel
theorem dX1_read_52 : decode cX1_read 52 = .ok (.ifCond .le 27, 3) := by decide +kernel
theorem dX1_read_55 : decode cX1_read 55 = .ok (.aload_n 0, 1) := by decide +kernel
theorem dX1_read_56 : decode cX1_read 56 = .ok (.iload 5, 2) := by decide +kernel
theorem dX1_read_58 : decode cX1_read 58 = .ok (.invokevirtual 25, 3) := by decide +kernel
theorem dX1_read_61 : decode cX1_read 61 = .ok (.iload_n 2, 1) := by decide +kernel
theorem dX1_read_62 : decode cX1_read 62 = .ok (.if_icmp .eq 13, 3) := by decide +kernel
theorem dX1_read_65 : decode cX1_read 65 = .ok (.aload_n 0, 1) := by decide +kernel
theorem dX1_read_66 : decode cX1_read 66 = .ok (.iload 5, 2) := by decide +kernel
theorem dX1_read_68 : decode cX1_read 68 = .ok (.invokevirtual 29, 3) := by decide +kernel
theorem dX1_read_71 : decode cX1_read 71 = .ok (.iload_n 2, 1) := by decide +kernel
theorem dX1_read_72 : decode cX1_read 72 = .ok (.if_icmp .ne 7, 3) := by decide +kernel
theorem dX1_read_75 : decode cX1_read 75 = .ok (.iconst 1, 1) := by decide +kernel
theorem dX1_read_76 : decode cX1_read 76 = .ok (.goto 4, 3) := by decide +kernel
theorem dX1_read_79 : decode cX1_read 79 = .ok (.iconst 0, 1) := by decide +kernel
theorem dX1_read_80 : decode cX1_read 80 = .ok (.istore 7, 2) := by decide +kernel
theorem dX1_read_82 : decode cX1_read 82 = .ok (.iload 7, 2) := by decide +kernel
theorem dX1_read_84 : decode cX1_read 84 = .ok (.ifCond .ne 8, 3) := by decide +kernel
theorem dX1_read_87 : decode cX1_read 87 = .ok (.iload 5, 2) := by decide +kernel
theorem dX1_read_89 : decode cX1_read 89 = .ok (.ifCond .ne 67, 3) := by decide +kernel
theorem dX1_read_92 : decode cX1_read 92 = .ok (.iload 5, 2) := by decide +kernel
theorem dX1_read_94 : decode cX1_read 94 = .ok (.ifCond .ne 7, 3) := by decide +kernel
theorem dX1_read_97 : decode cX1_read 97 = .ok (.iconst 0, 1) := by decide +kernel
theorem dX1_read_98 : decode cX1_read 98 = .ok (.goto 45, 3) := by decide +kernel
theorem dX1_read_101 : decode cX1_read 101 = .ok (.aload_n 0, 1) := by decide +kernel
theorem dX1_read_102 : decode cX1_read 102 = .ok (.iload 5, 2) := by decide +kernel
theorem dX1_read_104 : decode cX1_read 104 = .ok (.invokevirtual 25, 3) := by decide +kernel
theorem dX1_read_107 : decode cX1_read 107 = .ok (.iload_n 2, 1) := by decide +kernel
theorem dX1_read_108 : decode cX1_read 108 = .ok (.if_icmp .ne 14, 3) := by decide +kernel
theorem dX1_read_111 : decode cX1_read 111 = .ok (.iconst 1, 1) := by decide +kernel
theorem dX1_read_112 : decode cX1_read 112 = .ok (.aload_n 0, 1) := by decide +kernel
theorem dX1_read_113 : decode cX1_read 113 = .ok (.iload 5, 2) := by decide +kernel
theorem dX1_read_115 : decode cX1_read 115 = .ok (.invokevirtual 29, 3) := by decide +kernel
theorem dX1_read_118 : decode cX1_read 118 = .ok (.iadd, 1) := by decide +kernel
theorem dX1_read_119 : decode cX1_read 119 = .ok (.goto 11, 3) := by decide +kernel
theorem dX1_read_122 : decode cX1_read 122 = .ok (.iconst 5, 1) := by decide +kernel
theorem dX1_read_123 : decode cX1_read 123 = .ok (.aload_n 0, 1) := by decide +kernel
theorem dX1_read_124 : decode cX1_read 124 = .ok (.iload 5, 2) := by decide +kernel
theorem dX1_read_126 : decode cX1_read 126 = .ok (.invokevirtual 25, 3) := by decide +kernel
theorem dX1_read_129 : decode cX1_read 129 = .ok (.iadd, 1) := by decide +kernel
theorem dX1_read_130 : decode cX1_read 130 = .ok (.iload 6, 2) := by decide +kernel
theorem dX1_read_132 : decode cX1_read 132 = .ok (.iconst 2, 1) := by decide +kernel
theorem dX1_read_133 : decode cX1_read 133 = .ok (.if_icmp .ne 8, 3) := by decide +kernel
theorem dX1_read_136 : decode cX1_read 136 = .ok (.bipush 8, 2) := by decide +kernel
theorem dX1_read_138 : decode cX1_read 138 = .ok (.goto 4, 3) := by decide +kernel
theorem dX1_read_141 : decode cX1_read 141 = .ok (.iconst 0, 1) := by decide +kernel
theorem dX1_read_142 : decode cX1_read 142 = .ok (.iadd, 1) := by decide +kernel
theorem dX1_read_143 : decode cX1_read 143 = .ok (.istore 8, 2) := by decide +kernel
theorem dX1_read_145 : decode cX1_read 145 = .ok (.aload_n 0, 1) := by decide +kernel
theorem dX1_read_146 : decode cX1_read 146 = .ok (.iload 8, 2) := by decide +kernel
theorem dX1_read_148 : decode cX1_read 148 = .ok (.iload 6, 2) := by decide +kernel
theorem dX1_read_150 : decode cX1_read 150 = .ok (.invokevirtual 50, 3) := by decide +kernel
theorem dX1_read_153 : decode cX1_read 153 = .ok (.goto 26, 3) := by decide +kernel
theorem dX1_read_156 : decode cX1_read 156 = .ok (.iload 6, 2) := by decide +kernel
theorem dX1_read_158 : decode cX1_read 158 = .ok (.iconst 2, 1) := by decide +kernel
theorem dX1_read_159 : decode cX1_read 159 = .ok (.if_icmp .ne 20, 3) := by decide +kernel
theorem dX1_read_162 : decode cX1_read 162 = .ok (.aload_n 0, 1) := by decide +kernel
theorem dX1_read_163 : decode cX1_read 163 = .ok (.invokevirtual 54, 3) := by decide +kernel
theorem dX1_read_166 : decode cX1_read 166 = .ok (.ifCond .eq 11, 3) := by decide +kernel
theorem dX1_read_169 : decode cX1_read 169 = .ok (.iload_n 3, 1) := by decide +kernel
theorem dX1_read_170 : decode cX1_read 170 = .ok (.ifCond .eq 7, 3) := by decide +kernel
theorem dX1_read_173 : decode cX1_read 173 = .ok (.iconst 1, 1) := by decide +kernel
theorem dX1_read_174 : decode cX1_read 174 = .ok (.goto 4, 3) := by decide +kernel
theorem dX1_read_177 : decode cX1_read 177 = .ok (.iconst 0, 1) := by decide +kernel
theorem dX1_read_178 : decode cX1_read 178 = .ok (.istore_n 3, 1) := by decide +kernel
theorem dX1_read_179 : decode cX1_read 179 = .ok (.iinc 4 (-1), 3) := by decide +kernel
theorem dX1_read_182 : decode cX1_read 182 = .ok (.goto (-159), 3) := by decide +kernel
theorem dX1_read_185 : decode cX1_read 185 = .ok (.iload_n 3, 1) := by decide +kernel
theorem dX1_read_186 : decode cX1_read 186 = .ok (.ireturn, 1) := by decide +kernel
abbrev cX1_front : ByteArray := prog_3_method_9_code
def yX1_front : MethodName := ⟨RX1, "front", "(II)V"⟩
theorem dX1_front_0 : decode cX1_front 0 = .ok (.aload_n 0, 1) := by decide +kernel
theorem dX1_front_1 : decode cX1_front 1 = .ok (.dup, 1) := by decide +kernel
theorem dX1_front_2 : decode cX1_front 2 = .ok (.getfield 43, 3) := by decide +kernel
theorem dX1_front_5 : decode cX1_front 5 = .ok (.iconst 1, 1) := by decide +kernel
theorem dX1_front_6 : decode cX1_front 6 = .ok (.isub, 1) := by decide +kernel
theorem dX1_front_7 : decode cX1_front 7 = .ok (.putfield 43, 3) := by decide +kernel
theorem dX1_front_10 : decode cX1_front 10 = .ok (.aload_n 0, 1) := by decide +kernel
theorem dX1_front_11 : decode cX1_front 11 = .ok (.getfield 16, 3) := by decide +kernel
theorem dX1_front_14 : decode cX1_front 14 = .ok (.aload_n 0, 1) := by decide +kernel
theorem dX1_front_15 : decode cX1_front 15 = .ok (.getfield 43, 3) := by decide +kernel
theorem dX1_front_18 : decode cX1_front 18 = .ok (.iload_n 1, 1) := by decide +kernel
theorem dX1_front_19 : decode cX1_front 19 = .ok (.iastore, 1) := by decide +kernel
theorem dX1_front_20 : decode cX1_front 20 = .ok (.iconst 1, 1) := by decide +kernel
theorem dX1_front_21 : decode cX1_front 21 = .ok (.istore_n 3, 1) := by decide +kernel
theorem dX1_front_22 : decode cX1_front 22 = .ok (.iconst 0, 1) := by decide +kernel
theorem dX1_front_23 : decode cX1_front 23 = .ok (.istore 4, 2) := by decide +kernel
theorem dX1_front_25 : decode cX1_front 25 = .ok (.iload 4, 2) := by decide +kernel
theorem dX1_front_27 : decode cX1_front 27 = .ok (.iload_n 2, 1) := by decide +kernel
theorem dX1_front_28 : decode cX1_front 28 = .ok (.if_icmp .ge 31, 3) := by decide +kernel
theorem dX1_front_31 : decode cX1_front 31 = .ok (.aload_n 0, 1) := by decide +kernel
theorem dX1_front_32 : decode cX1_front 32 = .ok (.dup, 1) := by decide +kernel
theorem dX1_front_33 : decode cX1_front 33 = .ok (.getfield 47, 3) := by decide +kernel
theorem dX1_front_36 : decode cX1_front 36 = .ok (.iconst 1, 1) := by decide +kernel
theorem dX1_front_37 : decode cX1_front 37 = .ok (.isub, 1) := by decide +kernel
theorem dX1_front_38 : decode cX1_front 38 = .ok (.putfield 47, 3) := by decide +kernel
theorem dX1_front_41 : decode cX1_front 41 = .ok (.iload_n 3, 1) := by decide +kernel
theorem dX1_front_42 : decode cX1_front 42 = .ok (.aload_n 0, 1) := by decide +kernel
theorem dX1_front_43 : decode cX1_front 43 = .ok (.getfield 19, 3) := by decide +kernel
theorem dX1_front_46 : decode cX1_front 46 = .ok (.aload_n 0, 1) := by decide +kernel
theorem dX1_front_47 : decode cX1_front 47 = .ok (.getfield 47, 3) := by decide +kernel
theorem dX1_front_50 : decode cX1_front 50 = .ok (.iaload, 1) := by decide +kernel
theorem dX1_front_51 : decode cX1_front 51 = .ok (.iadd, 1) := by decide +kernel
theorem dX1_front_52 : decode cX1_front 52 = .ok (.istore_n 3, 1) := by decide +kernel
theorem dX1_front_53 : decode cX1_front 53 = .ok (.iinc 4 1, 3) := by decide +kernel
theorem dX1_front_56 : decode cX1_front 56 = .ok (.goto (-31), 3) := by decide +kernel
theorem dX1_front_59 : decode cX1_front 59 = .ok (.aload_n 0, 1) := by decide +kernel
theorem dX1_front_60 : decode cX1_front 60 = .ok (.getfield 19, 3) := by decide +kernel
theorem dX1_front_63 : decode cX1_front 63 = .ok (.aload_n 0, 1) := by decide +kernel
theorem dX1_front_64 : decode cX1_front 64 = .ok (.getfield 47, 3) := by decide +kernel
theorem dX1_front_67 : decode cX1_front 67 = .ok (.iload_n 3, 1) := by decide +kernel
theorem dX1_front_68 : decode cX1_front 68 = .ok (.iastore, 1) := by decide +kernel
theorem dX1_front_69 : decode cX1_front 69 = .ok (.aload_n 0, 1) := by decide +kernel
theorem dX1_front_70 : decode cX1_front 70 = .ok (.dup, 1) := by decide +kernel
theorem dX1_front_71 : decode cX1_front 71 = .ok (.getfield 47, 3) := by decide +kernel
theorem dX1_front_74 : decode cX1_front 74 = .ok (.iconst 1, 1) := by decide +kernel
theorem dX1_front_75 : decode cX1_front 75 = .ok (.iadd, 1) := by decide +kernel
theorem dX1_front_76 : decode cX1_front 76 = .ok (.putfield 47, 3) := by decide +kernel
theorem dX1_front_79 : decode cX1_front 79 = .ok (.return_, 1) := by decide +kernel
abbrev cX1_join : ByteArray := prog_3_method_10_code
def yX1_join : MethodName := ⟨RX1, "join", "()Z"⟩
theorem dX1_join_0 : decode cX1_join 0 = .ok (.aload_n 0, 1) := by decide +kernel
theorem dX1_join_1 : decode cX1_join 1 = .ok (.getfield 19, 3) := by decide +kernel
theorem dX1_join_4 : decode cX1_join 4 = .ok (.aload_n 0, 1) := by decide +kernel
theorem dX1_join_5 : decode cX1_join 5 = .ok (.getfield 47, 3) := by decide +kernel
theorem dX1_join_8 : decode cX1_join 8 = .ok (.iconst 1, 1) := by decide +kernel
theorem dX1_join_9 : decode cX1_join 9 = .ok (.isub, 1) := by decide +kernel
theorem dX1_join_10 : decode cX1_join 10 = .ok (.iaload, 1) := by decide +kernel
theorem dX1_join_11 : decode cX1_join 11 = .ok (.istore_n 1, 1) := by decide +kernel
theorem dX1_join_12 : decode cX1_join 12 = .ok (.iload_n 1, 1) := by decide +kernel
theorem dX1_join_13 : decode cX1_join 13 = .ok (.aload_n 0, 1) := by decide +kernel
theorem dX1_join_14 : decode cX1_join 14 = .ok (.getfield 19, 3) := by decide +kernel
theorem dX1_join_17 : decode cX1_join 17 = .ok (.aload_n 0, 1) := by decide +kernel
theorem dX1_join_18 : decode cX1_join 18 = .ok (.getfield 47, 3) := by decide +kernel
theorem dX1_join_21 : decode cX1_join 21 = .ok (.iconst 2, 1) := by decide +kernel
theorem dX1_join_22 : decode cX1_join 22 = .ok (.isub, 1) := by decide +kernel
theorem dX1_join_23 : decode cX1_join 23 = .ok (.iaload, 1) := by decide +kernel
theorem dX1_join_24 : decode cX1_join 24 = .ok (.if_icmp .ne 7, 3) := by decide +kernel
theorem dX1_join_27 : decode cX1_join 27 = .ok (.iconst 1, 1) := by decide +kernel
theorem dX1_join_28 : decode cX1_join 28 = .ok (.goto 4, 3) := by decide +kernel
theorem dX1_join_31 : decode cX1_join 31 = .ok (.iconst 0, 1) := by decide +kernel
theorem dX1_join_32 : decode cX1_join 32 = .ok (.istore_n 2, 1) := by decide +kernel
theorem dX1_join_33 : decode cX1_join 33 = .ok (.iconst 0, 1) := by decide +kernel
theorem dX1_join_34 : decode cX1_join 34 = .ok (.istore_n 3, 1) := by decide +kernel
theorem dX1_join_35 : decode cX1_join 35 = .ok (.iload_n 3, 1) := by decide +kernel
theorem dX1_join_36 : decode cX1_join 36 = .ok (.iload_n 1, 1) := by decide +kernel
theorem dX1_join_37 : decode cX1_join 37 = .ok (.if_icmp .ge 46, 3) := by decide +kernel
theorem dX1_join_40 : decode cX1_join 40 = .ok (.iload_n 2, 1) := by decide +kernel
theorem dX1_join_41 : decode cX1_join 41 = .ok (.ifCond .eq 42, 3) := by decide +kernel
theorem dX1_join_44 : decode cX1_join 44 = .ok (.aload_n 0, 1) := by decide +kernel
theorem dX1_join_45 : decode cX1_join 45 = .ok (.getfield 16, 3) := by decide +kernel
theorem dX1_join_48 : decode cX1_join 48 = .ok (.aload_n 0, 1) := by decide +kernel
theorem dX1_join_49 : decode cX1_join 49 = .ok (.getfield 43, 3) := by decide +kernel
theorem dX1_join_52 : decode cX1_join 52 = .ok (.iload_n 3, 1) := by decide +kernel
theorem dX1_join_53 : decode cX1_join 53 = .ok (.iadd, 1) := by decide +kernel
theorem dX1_join_54 : decode cX1_join 54 = .ok (.iaload, 1) := by decide +kernel
theorem dX1_join_55 : decode cX1_join 55 = .ok (.aload_n 0, 1) := by decide +kernel
theorem dX1_join_56 : decode cX1_join 56 = .ok (.getfield 16, 3) := by decide +kernel
theorem dX1_join_59 : decode cX1_join 59 = .ok (.aload_n 0, 1) := by decide +kernel
theorem dX1_join_60 : decode cX1_join 60 = .ok (.getfield 43, 3) := by decide +kernel
theorem dX1_join_63 : decode cX1_join 63 = .ok (.iload_n 1, 1) := by decide +kernel
theorem dX1_join_64 : decode cX1_join 64 = .ok (.iadd, 1) := by decide +kernel
theorem dX1_join_65 : decode cX1_join 65 = .ok (.iload_n 3, 1) := by decide +kernel
theorem dX1_join_66 : decode cX1_join 66 = .ok (.iadd, 1) := by decide +kernel
theorem dX1_join_67 : decode cX1_join 67 = .ok (.iaload, 1) := by decide +kernel
theorem dX1_join_68 : decode cX1_join 68 = .ok (.if_icmp .ne 7, 3) := by decide +kernel
theorem dX1_join_71 : decode cX1_join 71 = .ok (.iconst 1, 1) := by decide +kernel
theorem dX1_join_72 : decode cX1_join 72 = .ok (.goto 4, 3) := by decide +kernel
theorem dX1_join_75 : decode cX1_join 75 = .ok (.iconst 0, 1) := by decide +kernel
theorem dX1_join_76 : decode cX1_join 76 = .ok (.istore_n 2, 1) := by decide +kernel
theorem dX1_join_77 : decode cX1_join 77 = .ok (.iinc 3 1, 3) := by decide +kernel
theorem dX1_join_80 : decode cX1_join 80 = .ok (.goto (-45), 3) := by decide +kernel
theorem dX1_join_83 : decode cX1_join 83 = .ok (.aload_n 0, 1) := by decide +kernel
theorem dX1_join_84 : decode cX1_join 84 = .ok (.aload_n 0, 1) := by decide +kernel
theorem dX1_join_85 : decode cX1_join 85 = .ok (.getfield 43, 3) := by decide +kernel
theorem dX1_join_88 : decode cX1_join 88 = .ok (.iload_n 1, 1) := by decide +kernel
theorem dX1_join_89 : decode cX1_join 89 = .ok (.iadd, 1) := by decide +kernel
theorem dX1_join_90 : decode cX1_join 90 = .ok (.putfield 43, 3) := by decide +kernel
theorem dX1_join_93 : decode cX1_join 93 = .ok (.aload_n 0, 1) := by decide +kernel
theorem dX1_join_94 : decode cX1_join 94 = .ok (.dup, 1) := by decide +kernel
theorem dX1_join_95 : decode cX1_join 95 = .ok (.getfield 47, 3) := by decide +kernel
theorem dX1_join_98 : decode cX1_join 98 = .ok (.iconst 1, 1) := by decide +kernel
theorem dX1_join_99 : decode cX1_join 99 = .ok (.isub, 1) := by decide +kernel
theorem dX1_join_100 : decode cX1_join 100 = .ok (.putfield 47, 3) := by decide +kernel
theorem dX1_join_103 : decode cX1_join 103 = .ok (.iload_n 2, 1) := by decide +kernel
theorem dX1_join_104 : decode cX1_join 104 = .ok (.ireturn, 1) := by decide +kernel
abbrev cX1_fit : ByteArray := prog_3_method_14_code
def yX1_fit : MethodName := ⟨RX1, "fit", "()Z"⟩
theorem dX1_fit_0 : decode cX1_fit 0 = .ok (.aload_n 0, 1) := by decide +kernel
theorem dX1_fit_1 : decode cX1_fit 1 = .ok (.iconst 0, 1) := by decide +kernel
theorem dX1_fit_2 : decode cX1_fit 2 = .ok (.invokevirtual 65, 3) := by decide +kernel
theorem dX1_fit_5 : decode cX1_fit 5 = .ok (.ifCond .eq 31, 3) := by decide +kernel
theorem dX1_fit_8 : decode cX1_fit 8 = .ok (.aload_n 0, 1) := by decide +kernel
theorem dX1_fit_9 : decode cX1_fit 9 = .ok (.iconst 1, 1) := by decide +kernel
theorem dX1_fit_10 : decode cX1_fit 10 = .ok (.invokevirtual 65, 3) := by decide +kernel
theorem dX1_fit_13 : decode cX1_fit 13 = .ok (.ifCond .eq 23, 3) := by decide +kernel
theorem dX1_fit_16 : decode cX1_fit 16 = .ok (.aload_n 0, 1) := by decide +kernel
theorem dX1_fit_17 : decode cX1_fit 17 = .ok (.iconst 2, 1) := by decide +kernel
theorem dX1_fit_18 : decode cX1_fit 18 = .ok (.invokevirtual 65, 3) := by decide +kernel
theorem dX1_fit_21 : decode cX1_fit 21 = .ok (.ifCond .eq 15, 3) := by decide +kernel
theorem dX1_fit_24 : decode cX1_fit 24 = .ok (.aload_n 0, 1) := by decide +kernel
theorem dX1_fit_25 : decode cX1_fit 25 = .ok (.iconst 3, 1) := by decide +kernel
theorem dX1_fit_26 : decode cX1_fit 26 = .ok (.invokevirtual 65, 3) := by decide +kernel
theorem dX1_fit_29 : decode cX1_fit 29 = .ok (.ifCond .eq 7, 3) := by decide +kernel
theorem dX1_fit_32 : decode cX1_fit 32 = .ok (.iconst 1, 1) := by decide +kernel
theorem dX1_fit_33 : decode cX1_fit 33 = .ok (.goto 4, 3) := by decide +kernel
theorem dX1_fit_36 : decode cX1_fit 36 = .ok (.iconst 0, 1) := by decide +kernel
theorem dX1_fit_37 : decode cX1_fit 37 = .ok (.ireturn, 1) := by decide +kernel
abbrev cX1_size : ByteArray := prog_3_method_15_code
def yX1_size : MethodName := ⟨RX1, "size", "(I)I"⟩
theorem dX1_size_0 : decode cX1_size 0 = .ok (.aload_n 0, 1) := by decide +kernel
theorem dX1_size_1 : decode cX1_size 1 = .ok (.iload_n 1, 1) := by decide +kernel
theorem dX1_size_2 : decode cX1_size 2 = .ok (.invokevirtual 65, 3) := by decide +kernel
theorem dX1_size_5 : decode cX1_size 5 = .ok (.ifCond .eq 10, 3) := by decide +kernel
theorem dX1_size_8 : decode cX1_size 8 = .ok (.aload_n 0, 1) := by decide +kernel
theorem dX1_size_9 : decode cX1_size 9 = .ok (.invokevirtual 68, 3) := by decide +kernel
theorem dX1_size_12 : decode cX1_size 12 = .ok (.goto 4, 3) := by decide +kernel
theorem dX1_size_15 : decode cX1_size 15 = .ok (.iconst (-1), 1) := by decide +kernel
theorem dX1_size_16 : decode cX1_size 16 = .ok (.ireturn, 1) := by decide +kernel
abbrev cX1_measure : ByteArray := prog_3_method_12_code
def yX1_measure : MethodName := ⟨RX1, "measure", "()I"⟩
theorem dX1_measure_0 : decode cX1_measure 0 = .ok (.iconst 0, 1) := by decide +kernel
theorem dX1_measure_1 : decode cX1_measure 1 = .ok (.istore_n 1, 1) := by decide +kernel
theorem dX1_measure_2 : decode cX1_measure 2 = .ok (.aload_n 0, 1) := by decide +kernel
theorem dX1_measure_3 : decode cX1_measure 3 = .ok (.getfield 43, 3) := by decide +kernel
theorem dX1_measure_6 : decode cX1_measure 6 = .ok (.istore_n 2, 1) := by decide +kernel
theorem dX1_measure_7 : decode cX1_measure 7 = .ok (.iload_n 2, 1) := by decide +kernel
theorem dX1_measure_8 : decode cX1_measure 8 = .ok (.bipush 21, 2) := by decide +kernel
theorem dX1_measure_10 : decode cX1_measure 10 = .ok (.if_icmp .ge 26, 3) := by decide +kernel
theorem dX1_measure_13 : decode cX1_measure 13 = .ok (.aload_n 0, 1) := by decide +kernel
theorem dX1_measure_14 : decode cX1_measure 14 = .ok (.getfield 16, 3) := by decide +kernel
theorem dX1_measure_17 : decode cX1_measure 17 = .ok (.iload_n 2, 1) := by decide +kernel
theorem dX1_measure_18 : decode cX1_measure 18 = .ok (.iaload, 1) := by decide +kernel
theorem dX1_measure_19 : decode cX1_measure 19 = .ok (.ifCond .le 9, 3) := by decide +kernel
theorem dX1_measure_22 : decode cX1_measure 22 = .ok (.iload_n 1, 1) := by decide +kernel
theorem dX1_measure_23 : decode cX1_measure 23 = .ok (.iconst 1, 1) := by decide +kernel
theorem dX1_measure_24 : decode cX1_measure 24 = .ok (.iadd, 1) := by decide +kernel
theorem dX1_measure_25 : decode cX1_measure 25 = .ok (.goto 4, 3) := by decide +kernel
theorem dX1_measure_28 : decode cX1_measure 28 = .ok (.iload_n 1, 1) := by decide +kernel
theorem dX1_measure_29 : decode cX1_measure 29 = .ok (.istore_n 1, 1) := by decide +kernel
theorem dX1_measure_30 : decode cX1_measure 30 = .ok (.iinc 2 1, 3) := by decide +kernel
theorem dX1_measure_33 : decode cX1_measure 33 = .ok (.goto (-26), 3) := by decide +kernel
theorem dX1_measure_36 : decode cX1_measure 36 = .ok (.iload_n 1, 1) := by decide +kernel
theorem dX1_measure_37 : decode cX1_measure 37 = .ok (.ireturn, 1) := by decide +kernel
abbrev cX1_start : ByteArray := prog_3_method_16_code
def yX1_start : MethodName := ⟨RX1, "start", "()Z"⟩
theorem dX1_start_0 : decode cX1_start 0 = .ok (.aload_n 0, 1) := by decide +kernel
theorem dX1_start_1 : decode cX1_start 1 = .ok (.invokevirtual 72, 3) := by decide +kernel
theorem dX1_start_4 : decode cX1_start 4 = .ok (.ifCond .ne 5, 3) := by decide +kernel
theorem dX1_start_7 : decode cX1_start 7 = .ok (.iconst 0, 1) := by decide +kernel
theorem dX1_start_8 : decode cX1_start 8 = .ok (.ireturn, 1) := by decide +kernel
theorem dX1_start_9 : decode cX1_start 9 = .ok (.iconst 0, 1) := by decide +kernel
theorem dX1_start_10 : decode cX1_start 10 = .ok (.istore_n 1, 1) := by decide +kernel
theorem dX1_start_11 : decode cX1_start 11 = .ok (.iload_n 1, 1) := by decide +kernel
theorem dX1_start_12 : decode cX1_start 12 = .ok (.aload_n 0, 1) := by decide +kernel
theorem dX1_start_13 : decode cX1_start 13 = .ok (.getfield 13, 3) := by decide +kernel
theorem dX1_start_16 : decode cX1_start 16 = .ok (.iconst 0, 1) := by decide +kernel
theorem dX1_start_17 : decode cX1_start 17 = .ok (.iaload, 1) := by decide +kernel
theorem dX1_start_18 : decode cX1_start 18 = .ok (.if_icmp .ge 24, 3) := by decide +kernel
theorem dX1_start_21 : decode cX1_start 21 = .ok (.aload_n 0, 1) := by decide +kernel
theorem dX1_start_22 : decode cX1_start 22 = .ok (.getfield 7, 3) := by decide +kernel
theorem dX1_start_25 : decode cX1_start 25 = .ok (.bipush 21, 2) := by decide +kernel
theorem dX1_start_27 : decode cX1_start 27 = .ok (.iload_n 1, 1) := by decide +kernel
theorem dX1_start_28 : decode cX1_start 28 = .ok (.iadd, 1) := by decide +kernel
theorem dX1_start_29 : decode cX1_start 29 = .ok (.aload_n 0, 1) := by decide +kernel
theorem dX1_start_30 : decode cX1_start 30 = .ok (.getfield 7, 3) := by decide +kernel
theorem dX1_start_33 : decode cX1_start 33 = .ok (.iload_n 1, 1) := by decide +kernel
theorem dX1_start_34 : decode cX1_start 34 = .ok (.iaload, 1) := by decide +kernel
theorem dX1_start_35 : decode cX1_start 35 = .ok (.iastore, 1) := by decide +kernel
theorem dX1_start_36 : decode cX1_start 36 = .ok (.iinc 1 1, 3) := by decide +kernel
theorem dX1_start_39 : decode cX1_start 39 = .ok (.goto (-28), 3) := by decide +kernel
theorem dX1_start_42 : decode cX1_start 42 = .ok (.aload_n 0, 1) := by decide +kernel
theorem dX1_start_43 : decode cX1_start 43 = .ok (.getfield 13, 3) := by decide +kernel
theorem dX1_start_46 : decode cX1_start 46 = .ok (.iconst 1, 1) := by decide +kernel
theorem dX1_start_47 : decode cX1_start 47 = .ok (.aload_n 0, 1) := by decide +kernel
theorem dX1_start_48 : decode cX1_start 48 = .ok (.getfield 13, 3) := by decide +kernel
theorem dX1_start_51 : decode cX1_start 51 = .ok (.iconst 0, 1) := by decide +kernel
theorem dX1_start_52 : decode cX1_start 52 = .ok (.iaload, 1) := by decide +kernel
theorem dX1_start_53 : decode cX1_start 53 = .ok (.iastore, 1) := by decide +kernel
theorem dX1_start_54 : decode cX1_start 54 = .ok (.aload_n 0, 1) := by decide +kernel
theorem dX1_start_55 : decode cX1_start 55 = .ok (.iconst 1, 1) := by decide +kernel
theorem dX1_start_56 : decode cX1_start 56 = .ok (.putfield 36, 3) := by decide +kernel
theorem dX1_start_59 : decode cX1_start 59 = .ok (.aload_n 0, 1) := by decide +kernel
theorem dX1_start_60 : decode cX1_start 60 = .ok (.iconst 0, 1) := by decide +kernel
theorem dX1_start_61 : decode cX1_start 61 = .ok (.putfield 75, 3) := by decide +kernel
theorem dX1_start_64 : decode cX1_start 64 = .ok (.iconst 1, 1) := by decide +kernel
theorem dX1_start_65 : decode cX1_start 65 = .ok (.ireturn, 1) := by decide +kernel
abbrev cX1_runs : ByteArray := prog_3_method_17_code
def yX1_runs : MethodName := ⟨RX1, "runs", "()Z"⟩
theorem dX1_runs_0 : decode cX1_runs 0 = .ok (.aload_n 0, 1) := by decide +kernel
theorem dX1_runs_1 : decode cX1_runs 1 = .ok (.getfield 36, 3) := by decide +kernel
theorem dX1_runs_4 : decode cX1_runs 4 = .ok (.ireturn, 1) := by decide +kernel
abbrev cX1_possible : ByteArray := prog_3_method_19_code
def yX1_possible : MethodName := ⟨RX1, "possible", "(III)Z"⟩
theorem dX1_possible_0 : decode cX1_possible 0 = .ok (.aload_n 0, 1) := by decide +kernel
theorem dX1_possible_1 : decode cX1_possible 1 = .ok (.getfield 36, 3) := by decide +kernel
theorem dX1_possible_4 : decode cX1_possible 4 = .ok (.ifCond .eq 33, 3) := by decide +kernel
theorem dX1_possible_7 : decode cX1_possible 7 = .ok (.aload_n 0, 1) := by decide +kernel
theorem dX1_possible_8 : decode cX1_possible 8 = .ok (.iload_n 1, 1) := by decide +kernel
theorem dX1_possible_9 : decode cX1_possible 9 = .ok (.invokevirtual 57, 3) := by decide +kernel
theorem dX1_possible_12 : decode cX1_possible 12 = .ok (.ifCond .eq 25, 3) := by decide +kernel
theorem dX1_possible_15 : decode cX1_possible 15 = .ok (.aload_n 0, 1) := by decide +kernel
theorem dX1_possible_16 : decode cX1_possible 16 = .ok (.iload_n 2, 1) := by decide +kernel
theorem dX1_possible_17 : decode cX1_possible 17 = .ok (.invokevirtual 57, 3) := by decide +kernel
theorem dX1_possible_20 : decode cX1_possible 20 = .ok (.ifCond .eq 17, 3) := by decide +kernel
theorem dX1_possible_23 : decode cX1_possible 23 = .ok (.iload_n 1, 1) := by decide +kernel
theorem dX1_possible_24 : decode cX1_possible 24 = .ok (.iload_n 2, 1) := by decide +kernel
theorem dX1_possible_25 : decode cX1_possible 25 = .ok (.if_icmp .eq 12, 3) := by decide +kernel
theorem dX1_possible_28 : decode cX1_possible 28 = .ok (.iload_n 3, 1) := by decide +kernel
theorem dX1_possible_29 : decode cX1_possible 29 = .ok (.ifCond .lt 8, 3) := by decide +kernel
theorem dX1_possible_32 : decode cX1_possible 32 = .ok (.iload_n 3, 1) := by decide +kernel
theorem dX1_possible_33 : decode cX1_possible 33 = .ok (.iconst 1, 1) := by decide +kernel
theorem dX1_possible_34 : decode cX1_possible 34 = .ok (.if_icmp .le 5, 3) := by decide +kernel
theorem dX1_possible_37 : decode cX1_possible 37 = .ok (.iconst 0, 1) := by decide +kernel
theorem dX1_possible_38 : decode cX1_possible 38 = .ok (.ireturn, 1) := by decide +kernel
theorem dX1_possible_39 : decode cX1_possible 39 = .ok (.iconst 0, 1) := by decide +kernel
theorem dX1_possible_40 : decode cX1_possible 40 = .ok (.istore 4, 2) := by decide +kernel
theorem dX1_possible_42 : decode cX1_possible 42 = .ok (.iload 4, 2) := by decide +kernel
theorem dX1_possible_44 : decode cX1_possible 44 = .ok (.aload_n 0, 1) := by decide +kernel
theorem dX1_possible_45 : decode cX1_possible 45 = .ok (.getfield 13, 3) := by decide +kernel
theorem dX1_possible_48 : decode cX1_possible 48 = .ok (.iconst 1, 1) := by decide +kernel
theorem dX1_possible_49 : decode cX1_possible 49 = .ok (.iaload, 1) := by decide +kernel
theorem dX1_possible_50 : decode cX1_possible 50 = .ok (.if_icmp .ge 144, 3) := by decide +kernel
theorem dX1_possible_53 : decode cX1_possible 53 = .ok (.aload_n 0, 1) := by decide +kernel
theorem dX1_possible_54 : decode cX1_possible 54 = .ok (.getfield 7, 3) := by decide +kernel
theorem dX1_possible_57 : decode cX1_possible 57 = .ok (.bipush 21, 2) := by decide +kernel
theorem dX1_possible_59 : decode cX1_possible 59 = .ok (.iload 4, 2) := by decide +kernel
theorem dX1_possible_61 : decode cX1_possible 61 = .ok (.iadd, 1) := by decide +kernel
theorem dX1_possible_62 : decode cX1_possible 62 = .ok (.iaload, 1) := by decide +kernel
theorem dX1_possible_63 : decode cX1_possible 63 = .ok (.istore 5, 2) := by decide +kernel
theorem dX1_possible_65 : decode cX1_possible 65 = .ok (.iload 5, 2) := by decide +kernel
theorem dX1_possible_67 : decode cX1_possible 67 = .ok (.ifCond .le 37, 3) := by decide +kernel
theorem dX1_possible_70 : decode cX1_possible 70 = .ok (.aload_n 0, 1) := by decide +kernel
theorem dX1_possible_71 : decode cX1_possible 71 = .ok (.iload 5, 2) := by decide +kernel
theorem dX1_possible_73 : decode cX1_possible 73 = .ok (.invokevirtual 25, 3) := by decide +kernel
theorem dX1_possible_76 : decode cX1_possible 76 = .ok (.iload_n 1, 1) := by decide +kernel
theorem dX1_possible_77 : decode cX1_possible 77 = .ok (.if_icmp .ne 27, 3) := by decide +kernel
theorem dX1_possible_80 : decode cX1_possible 80 = .ok (.aload_n 0, 1) := by decide +kernel
theorem dX1_possible_81 : decode cX1_possible 81 = .ok (.iload 5, 2) := by decide +kernel
theorem dX1_possible_83 : decode cX1_possible 83 = .ok (.invokevirtual 29, 3) := by decide +kernel
theorem dX1_possible_86 : decode cX1_possible 86 = .ok (.iload_n 2, 1) := by decide +kernel
theorem dX1_possible_87 : decode cX1_possible 87 = .ok (.if_icmp .ne 17, 3) := by decide +kernel
theorem dX1_possible_90 : decode cX1_possible 90 = .ok (.iload_n 3, 1) := by decide +kernel
theorem dX1_possible_91 : decode cX1_possible 91 = .ok (.aload_n 0, 1) := by decide +kernel
theorem dX1_possible_92 : decode cX1_possible 92 = .ok (.iload 5, 2) := by decide +kernel
theorem dX1_possible_94 : decode cX1_possible 94 = .ok (.invokevirtual 40, 3) := by decide +kernel
theorem dX1_possible_97 : decode cX1_possible 97 = .ok (.if_icmp .ge 7, 3) := by decide +kernel
theorem dX1_possible_100 : decode cX1_possible 100 = .ok (.iconst 1, 1) := by decide +kernel
theorem dX1_possible_101 : decode cX1_possible 101 = .ok (.goto 4, 3) := by decide +kernel
theorem dX1_possible_104 : decode cX1_possible 104 = .ok (.iconst 0, 1) := by decide +kernel
theorem dX1_possible_105 : decode cX1_possible 105 = .ok (.istore 6, 2) := by decide +kernel
theorem dX1_possible_107 : decode cX1_possible 107 = .ok (.iload 5, 2) := by decide +kernel
theorem dX1_possible_109 : decode cX1_possible 109 = .ok (.ifCond .le 47, 3) := by decide +kernel
theorem dX1_possible_112 : decode cX1_possible 112 = .ok (.aload_n 0, 1) := by decide +kernel
theorem dX1_possible_113 : decode cX1_possible 113 = .ok (.iload 5, 2) := by decide +kernel
theorem dX1_possible_115 : decode cX1_possible 115 = .ok (.invokevirtual 25, 3) := by decide +kernel
theorem dX1_possible_118 : decode cX1_possible 118 = .ok (.iload_n 1, 1) := by decide +kernel
theorem dX1_possible_119 : decode cX1_possible 119 = .ok (.if_icmp .eq 37, 3) := by decide +kernel
theorem dX1_possible_122 : decode cX1_possible 122 = .ok (.aload_n 0, 1) := by decide +kernel
theorem dX1_possible_123 : decode cX1_possible 123 = .ok (.iload 5, 2) := by decide +kernel
theorem dX1_possible_125 : decode cX1_possible 125 = .ok (.invokevirtual 25, 3) := by decide +kernel
theorem dX1_possible_128 : decode cX1_possible 128 = .ok (.iload_n 2, 1) := by decide +kernel
theorem dX1_possible_129 : decode cX1_possible 129 = .ok (.if_icmp .eq 27, 3) := by decide +kernel
theorem dX1_possible_132 : decode cX1_possible 132 = .ok (.aload_n 0, 1) := by decide +kernel
theorem dX1_possible_133 : decode cX1_possible 133 = .ok (.iload 5, 2) := by decide +kernel
theorem dX1_possible_135 : decode cX1_possible 135 = .ok (.invokevirtual 29, 3) := by decide +kernel
theorem dX1_possible_138 : decode cX1_possible 138 = .ok (.iload_n 1, 1) := by decide +kernel
theorem dX1_possible_139 : decode cX1_possible 139 = .ok (.if_icmp .eq 17, 3) := by decide +kernel
theorem dX1_possible_142 : decode cX1_possible 142 = .ok (.aload_n 0, 1) := by decide +kernel
theorem dX1_possible_143 : decode cX1_possible 143 = .ok (.iload 5, 2) := by decide +kernel
theorem dX1_possible_145 : decode cX1_possible 145 = .ok (.invokevirtual 29, 3) := by decide +kernel
theorem dX1_possible_148 : decode cX1_possible 148 = .ok (.iload_n 2, 1) := by decide +kernel
theorem dX1_possible_149 : decode cX1_possible 149 = .ok (.if_icmp .eq 7, 3) := by decide +kernel
theorem dX1_possible_152 : decode cX1_possible 152 = .ok (.iconst 1, 1) := by decide +kernel
theorem dX1_possible_153 : decode cX1_possible 153 = .ok (.goto 4, 3) := by decide +kernel
theorem dX1_possible_156 : decode cX1_possible 156 = .ok (.iconst 0, 1) := by decide +kernel
theorem dX1_possible_157 : decode cX1_possible 157 = .ok (.istore 7, 2) := by decide +kernel
theorem dX1_possible_159 : decode cX1_possible 159 = .ok (.iload 6, 2) := by decide +kernel
theorem dX1_possible_161 : decode cX1_possible 161 = .ok (.ifCond .ne 10, 3) := by decide +kernel
theorem dX1_possible_164 : decode cX1_possible 164 = .ok (.iload 7, 2) := by decide +kernel
theorem dX1_possible_166 : decode cX1_possible 166 = .ok (.ifCond .ne 5, 3) := by decide +kernel
theorem dX1_possible_169 : decode cX1_possible 169 = .ok (.iconst 0, 1) := by decide +kernel
theorem dX1_possible_170 : decode cX1_possible 170 = .ok (.ireturn, 1) := by decide +kernel
theorem dX1_possible_171 : decode cX1_possible 171 = .ok (.iload 6, 2) := by decide +kernel
theorem dX1_possible_173 : decode cX1_possible 173 = .ok (.ifCond .eq 12, 3) := by decide +kernel
theorem dX1_possible_176 : decode cX1_possible 176 = .ok (.aload_n 0, 1) := by decide +kernel
theorem dX1_possible_177 : decode cX1_possible 177 = .ok (.iload 4, 2) := by decide +kernel
theorem dX1_possible_179 : decode cX1_possible 179 = .ok (.invokevirtual 78, 3) := by decide +kernel
theorem dX1_possible_182 : decode cX1_possible 182 = .ok (.goto 7, 3) := by decide +kernel
theorem dX1_possible_185 : decode cX1_possible 185 = .ok (.iload 4, 2) := by decide +kernel
theorem dX1_possible_187 : decode cX1_possible 187 = .ok (.iconst 1, 1) := by decide +kernel
theorem dX1_possible_188 : decode cX1_possible 188 = .ok (.iadd, 1) := by decide +kernel
theorem dX1_possible_189 : decode cX1_possible 189 = .ok (.istore 4, 2) := by decide +kernel
theorem dX1_possible_191 : decode cX1_possible 191 = .ok (.goto (-149), 3) := by decide +kernel
theorem dX1_possible_194 : decode cX1_possible 194 = .ok (.iconst 1, 1) := by decide +kernel
theorem dX1_possible_195 : decode cX1_possible 195 = .ok (.ireturn, 1) := by decide +kernel
abbrev cX1_behind : ByteArray := prog_3_method_18_code
def yX1_behind : MethodName := ⟨RX1, "behind", "(I)I"⟩
theorem dX1_behind_0 : decode cX1_behind 0 = .ok (.iconst 1, 1) := by decide +kernel
theorem dX1_behind_1 : decode cX1_behind 1 = .ok (.istore_n 2, 1) := by decide +kernel
theorem dX1_behind_2 : decode cX1_behind 2 = .ok (.iload_n 1, 1) := by decide +kernel
theorem dX1_behind_3 : decode cX1_behind 3 = .ok (.istore_n 3, 1) := by decide +kernel
theorem dX1_behind_4 : decode cX1_behind 4 = .ok (.iload_n 2, 1) := by decide +kernel
theorem dX1_behind_5 : decode cX1_behind 5 = .ok (.ifCond .le 33, 3) := by decide +kernel
theorem dX1_behind_8 : decode cX1_behind 8 = .ok (.iload_n 3, 1) := by decide +kernel
theorem dX1_behind_9 : decode cX1_behind 9 = .ok (.bipush 21, 2) := by decide +kernel
theorem dX1_behind_11 : decode cX1_behind 11 = .ok (.if_icmp .ge 27, 3) := by decide +kernel
theorem dX1_behind_14 : decode cX1_behind 14 = .ok (.iload_n 2, 1) := by decide +kernel
theorem dX1_behind_15 : decode cX1_behind 15 = .ok (.iconst 1, 1) := by decide +kernel
theorem dX1_behind_16 : decode cX1_behind 16 = .ok (.isub, 1) := by decide +kernel
theorem dX1_behind_17 : decode cX1_behind 17 = .ok (.aload_n 0, 1) := by decide +kernel
theorem dX1_behind_18 : decode cX1_behind 18 = .ok (.aload_n 0, 1) := by decide +kernel
theorem dX1_behind_19 : decode cX1_behind 19 = .ok (.getfield 7, 3) := by decide +kernel
theorem dX1_behind_22 : decode cX1_behind 22 = .ok (.bipush 21, 2) := by decide +kernel
theorem dX1_behind_24 : decode cX1_behind 24 = .ok (.iload_n 3, 1) := by decide +kernel
theorem dX1_behind_25 : decode cX1_behind 25 = .ok (.iadd, 1) := by decide +kernel
theorem dX1_behind_26 : decode cX1_behind 26 = .ok (.iaload, 1) := by decide +kernel
theorem dX1_behind_27 : decode cX1_behind 27 = .ok (.invokevirtual 40, 3) := by decide +kernel
theorem dX1_behind_30 : decode cX1_behind 30 = .ok (.iadd, 1) := by decide +kernel
theorem dX1_behind_31 : decode cX1_behind 31 = .ok (.istore_n 2, 1) := by decide +kernel
theorem dX1_behind_32 : decode cX1_behind 32 = .ok (.iinc 3 1, 3) := by decide +kernel
theorem dX1_behind_35 : decode cX1_behind 35 = .ok (.goto (-31), 3) := by decide +kernel
theorem dX1_behind_38 : decode cX1_behind 38 = .ok (.iload_n 3, 1) := by decide +kernel
theorem dX1_behind_39 : decode cX1_behind 39 = .ok (.ireturn, 1) := by decide +kernel
abbrev cX1_send : ByteArray := prog_3_method_20_code
def yX1_send : MethodName := ⟨RX1, "send", "(III)Z"⟩
theorem dX1_send_0 : decode cX1_send 0 = .ok (.aload_n 0, 1) := by decide +kernel
theorem dX1_send_1 : decode cX1_send 1 = .ok (.iload_n 1, 1) := by decide +kernel
theorem dX1_send_2 : decode cX1_send 2 = .ok (.iload_n 2, 1) := by decide +kernel
theorem dX1_send_3 : decode cX1_send 3 = .ok (.iload_n 3, 1) := by decide +kernel
theorem dX1_send_4 : decode cX1_send 4 = .ok (.invokevirtual 81, 3) := by decide +kernel
theorem dX1_send_7 : decode cX1_send 7 = .ok (.ifCond .ne 5, 3) := by decide +kernel
theorem dX1_send_10 : decode cX1_send 10 = .ok (.iconst 0, 1) := by decide +kernel
theorem dX1_send_11 : decode cX1_send 11 = .ok (.ireturn, 1) := by decide +kernel
theorem dX1_send_12 : decode cX1_send 12 = .ok (.iconst 0, 1) := by decide +kernel
theorem dX1_send_13 : decode cX1_send 13 = .ok (.istore 4, 2) := by decide +kernel
theorem dX1_send_15 : decode cX1_send 15 = .ok (.iconst 0, 1) := by decide +kernel
theorem dX1_send_16 : decode cX1_send 16 = .ok (.istore 5, 2) := by decide +kernel
theorem dX1_send_18 : decode cX1_send 18 = .ok (.iload 5, 2) := by decide +kernel
theorem dX1_send_20 : decode cX1_send 20 = .ok (.aload_n 0, 1) := by decide +kernel
theorem dX1_send_21 : decode cX1_send 21 = .ok (.getfield 13, 3) := by decide +kernel
theorem dX1_send_24 : decode cX1_send 24 = .ok (.iconst 1, 1) := by decide +kernel
theorem dX1_send_25 : decode cX1_send 25 = .ok (.iaload, 1) := by decide +kernel
theorem dX1_send_26 : decode cX1_send 26 = .ok (.if_icmp .ge 153, 3) := by decide +kernel
theorem dX1_send_29 : decode cX1_send 29 = .ok (.aload_n 0, 1) := by decide +kernel
theorem dX1_send_30 : decode cX1_send 30 = .ok (.getfield 7, 3) := by decide +kernel
theorem dX1_send_33 : decode cX1_send 33 = .ok (.bipush 21, 2) := by decide +kernel
theorem dX1_send_35 : decode cX1_send 35 = .ok (.iload 5, 2) := by decide +kernel
theorem dX1_send_37 : decode cX1_send 37 = .ok (.iadd, 1) := by decide +kernel
theorem dX1_send_38 : decode cX1_send 38 = .ok (.iaload, 1) := by decide +kernel
theorem dX1_send_39 : decode cX1_send 39 = .ok (.istore 6, 2) := by decide +kernel
theorem dX1_send_41 : decode cX1_send 41 = .ok (.aload_n 0, 1) := by decide +kernel
theorem dX1_send_42 : decode cX1_send 42 = .ok (.iload 6, 2) := by decide +kernel
theorem dX1_send_44 : decode cX1_send 44 = .ok (.invokevirtual 25, 3) := by decide +kernel
theorem dX1_send_47 : decode cX1_send 47 = .ok (.iload_n 1, 1) := by decide +kernel
theorem dX1_send_48 : decode cX1_send 48 = .ok (.if_icmp .ne 17, 3) := by decide +kernel
theorem dX1_send_51 : decode cX1_send 51 = .ok (.aload_n 0, 1) := by decide +kernel
theorem dX1_send_52 : decode cX1_send 52 = .ok (.iload 6, 2) := by decide +kernel
theorem dX1_send_54 : decode cX1_send 54 = .ok (.invokevirtual 29, 3) := by decide +kernel
theorem dX1_send_57 : decode cX1_send 57 = .ok (.iload_n 2, 1) := by decide +kernel
theorem dX1_send_58 : decode cX1_send 58 = .ok (.if_icmp .ne 7, 3) := by decide +kernel
theorem dX1_send_61 : decode cX1_send 61 = .ok (.iconst 1, 1) := by decide +kernel
theorem dX1_send_62 : decode cX1_send 62 = .ok (.goto 4, 3) := by decide +kernel
theorem dX1_send_65 : decode cX1_send 65 = .ok (.iconst 0, 1) := by decide +kernel
theorem dX1_send_66 : decode cX1_send 66 = .ok (.istore 7, 2) := by decide +kernel
theorem dX1_send_68 : decode cX1_send 68 = .ok (.iload 7, 2) := by decide +kernel
theorem dX1_send_70 : decode cX1_send 70 = .ok (.ifCond .ne 8, 3) := by decide +kernel
theorem dX1_send_73 : decode cX1_send 73 = .ok (.iload 5, 2) := by decide +kernel
theorem dX1_send_75 : decode cX1_send 75 = .ok (.goto 22, 3) := by decide +kernel
theorem dX1_send_78 : decode cX1_send 78 = .ok (.iload_n 3, 1) := by decide +kernel
theorem dX1_send_79 : decode cX1_send 79 = .ok (.ifCond .ne 10, 3) := by decide +kernel
theorem dX1_send_82 : decode cX1_send 82 = .ok (.iload 5, 2) := by decide +kernel
theorem dX1_send_84 : decode cX1_send 84 = .ok (.iconst 1, 1) := by decide +kernel
theorem dX1_send_85 : decode cX1_send 85 = .ok (.iadd, 1) := by decide +kernel
theorem dX1_send_86 : decode cX1_send 86 = .ok (.goto 11, 3) := by decide +kernel
theorem dX1_send_89 : decode cX1_send 89 = .ok (.aload_n 0, 1) := by decide +kernel
theorem dX1_send_90 : decode cX1_send 90 = .ok (.iload 5, 2) := by decide +kernel
theorem dX1_send_92 : decode cX1_send 92 = .ok (.iconst 1, 1) := by decide +kernel
theorem dX1_send_93 : decode cX1_send 93 = .ok (.iadd, 1) := by decide +kernel
theorem dX1_send_94 : decode cX1_send 94 = .ok (.invokevirtual 78, 3) := by decide +kernel
theorem dX1_send_97 : decode cX1_send 97 = .ok (.istore 8, 2) := by decide +kernel
theorem dX1_send_99 : decode cX1_send 99 = .ok (.iload 7, 2) := by decide +kernel
theorem dX1_send_101 : decode cX1_send 101 = .ok (.ifCond .eq 12, 3) := by decide +kernel
theorem dX1_send_104 : decode cX1_send 104 = .ok (.aload_n 0, 1) := by decide +kernel
theorem dX1_send_105 : decode cX1_send 105 = .ok (.iload 8, 2) := by decide +kernel
theorem dX1_send_107 : decode cX1_send 107 = .ok (.invokevirtual 78, 3) := by decide +kernel
theorem dX1_send_110 : decode cX1_send 110 = .ok (.goto 7, 3) := by decide +kernel
theorem dX1_send_113 : decode cX1_send 113 = .ok (.iload 5, 2) := by decide +kernel
theorem dX1_send_115 : decode cX1_send 115 = .ok (.iconst 1, 1) := by decide +kernel
theorem dX1_send_116 : decode cX1_send 116 = .ok (.iadd, 1) := by decide +kernel
theorem dX1_send_117 : decode cX1_send 117 = .ok (.istore 9, 2) := by decide +kernel
theorem dX1_send_119 : decode cX1_send 119 = .ok (.iload 8, 2) := by decide +kernel
theorem dX1_send_121 : decode cX1_send 121 = .ok (.istore 10, 2) := by decide +kernel
theorem dX1_send_123 : decode cX1_send 123 = .ok (.iload 10, 2) := by decide +kernel
theorem dX1_send_125 : decode cX1_send 125 = .ok (.iload 9, 2) := by decide +kernel
theorem dX1_send_127 : decode cX1_send 127 = .ok (.if_icmp .ge 29, 3) := by decide +kernel
theorem dX1_send_130 : decode cX1_send 130 = .ok (.aload_n 0, 1) := by decide +kernel
theorem dX1_send_131 : decode cX1_send 131 = .ok (.getfield 22, 3) := by decide +kernel
theorem dX1_send_134 : decode cX1_send 134 = .ok (.iload 4, 2) := by decide +kernel
theorem dX1_send_136 : decode cX1_send 136 = .ok (.aload_n 0, 1) := by decide +kernel
theorem dX1_send_137 : decode cX1_send 137 = .ok (.getfield 7, 3) := by decide +kernel
theorem dX1_send_140 : decode cX1_send 140 = .ok (.bipush 21, 2) := by decide +kernel
theorem dX1_send_142 : decode cX1_send 142 = .ok (.iload 10, 2) := by decide +kernel
theorem dX1_send_144 : decode cX1_send 144 = .ok (.iadd, 1) := by decide +kernel
theorem dX1_send_145 : decode cX1_send 145 = .ok (.iaload, 1) := by decide +kernel
theorem dX1_send_146 : decode cX1_send 146 = .ok (.iastore, 1) := by decide +kernel
theorem dX1_send_147 : decode cX1_send 147 = .ok (.iinc 4 1, 3) := by decide +kernel
theorem dX1_send_150 : decode cX1_send 150 = .ok (.iinc 10 1, 3) := by decide +kernel
theorem dX1_send_153 : decode cX1_send 153 = .ok (.goto (-30), 3) := by decide +kernel
theorem dX1_send_156 : decode cX1_send 156 = .ok (.iload 7, 2) := by decide +kernel
theorem dX1_send_158 : decode cX1_send 158 = .ok (.ifCond .eq 12, 3) := by decide +kernel
theorem dX1_send_161 : decode cX1_send 161 = .ok (.aload_n 0, 1) := by decide +kernel
theorem dX1_send_162 : decode cX1_send 162 = .ok (.iload 5, 2) := by decide +kernel
theorem dX1_send_164 : decode cX1_send 164 = .ok (.invokevirtual 78, 3) := by decide +kernel
theorem dX1_send_167 : decode cX1_send 167 = .ok (.goto 7, 3) := by decide +kernel
theorem dX1_send_170 : decode cX1_send 170 = .ok (.iload 5, 2) := by decide +kernel
theorem dX1_send_172 : decode cX1_send 172 = .ok (.iconst 1, 1) := by decide +kernel
theorem dX1_send_173 : decode cX1_send 173 = .ok (.iadd, 1) := by decide +kernel
theorem dX1_send_174 : decode cX1_send 174 = .ok (.istore 5, 2) := by decide +kernel
theorem dX1_send_176 : decode cX1_send 176 = .ok (.goto (-158), 3) := by decide +kernel
theorem dX1_send_179 : decode cX1_send 179 = .ok (.iconst 0, 1) := by decide +kernel
theorem dX1_send_180 : decode cX1_send 180 = .ok (.istore 6, 2) := by decide +kernel
theorem dX1_send_182 : decode cX1_send 182 = .ok (.iload 6, 2) := by decide +kernel
theorem dX1_send_184 : decode cX1_send 184 = .ok (.iload 4, 2) := by decide +kernel
theorem dX1_send_186 : decode cX1_send 186 = .ok (.if_icmp .ge 26, 3) := by decide +kernel
theorem dX1_send_189 : decode cX1_send 189 = .ok (.aload_n 0, 1) := by decide +kernel
theorem dX1_send_190 : decode cX1_send 190 = .ok (.getfield 7, 3) := by decide +kernel
theorem dX1_send_193 : decode cX1_send 193 = .ok (.bipush 21, 2) := by decide +kernel
theorem dX1_send_195 : decode cX1_send 195 = .ok (.iload 6, 2) := by decide +kernel
theorem dX1_send_197 : decode cX1_send 197 = .ok (.iadd, 1) := by decide +kernel
theorem dX1_send_198 : decode cX1_send 198 = .ok (.aload_n 0, 1) := by decide +kernel
theorem dX1_send_199 : decode cX1_send 199 = .ok (.getfield 22, 3) := by decide +kernel
theorem dX1_send_202 : decode cX1_send 202 = .ok (.iload 6, 2) := by decide +kernel
theorem dX1_send_204 : decode cX1_send 204 = .ok (.iaload, 1) := by decide +kernel
theorem dX1_send_205 : decode cX1_send 205 = .ok (.iastore, 1) := by decide +kernel
theorem dX1_send_206 : decode cX1_send 206 = .ok (.iinc 6 1, 3) := by decide +kernel
theorem dX1_send_209 : decode cX1_send 209 = .ok (.goto (-27), 3) := by decide +kernel
theorem dX1_send_212 : decode cX1_send 212 = .ok (.aload_n 0, 1) := by decide +kernel
theorem dX1_send_213 : decode cX1_send 213 = .ok (.getfield 13, 3) := by decide +kernel
theorem dX1_send_216 : decode cX1_send 216 = .ok (.iconst 1, 1) := by decide +kernel
theorem dX1_send_217 : decode cX1_send 217 = .ok (.iload 4, 2) := by decide +kernel
theorem dX1_send_219 : decode cX1_send 219 = .ok (.iastore, 1) := by decide +kernel
theorem dX1_send_220 : decode cX1_send 220 = .ok (.aload_n 0, 1) := by decide +kernel
theorem dX1_send_221 : decode cX1_send 221 = .ok (.dup, 1) := by decide +kernel
theorem dX1_send_222 : decode cX1_send 222 = .ok (.getfield 75, 3) := by decide +kernel
theorem dX1_send_225 : decode cX1_send 225 = .ok (.iconst 1, 1) := by decide +kernel
theorem dX1_send_226 : decode cX1_send 226 = .ok (.iadd, 1) := by decide +kernel
theorem dX1_send_227 : decode cX1_send 227 = .ok (.putfield 75, 3) := by decide +kernel
theorem dX1_send_230 : decode cX1_send 230 = .ok (.iconst 1, 1) := by decide +kernel
theorem dX1_send_231 : decode cX1_send 231 = .ok (.ireturn, 1) := by decide +kernel
abbrev cX1_duty : ByteArray := prog_3_method_22_code
def yX1_duty : MethodName := ⟨RX1, "duty", "(I)I"⟩
theorem dX1_duty_0 : decode cX1_duty 0 = .ok (.aload_n 0, 1) := by decide +kernel
theorem dX1_duty_1 : decode cX1_duty 1 = .ok (.iload_n 1, 1) := by decide +kernel
theorem dX1_duty_2 : decode cX1_duty 2 = .ok (.invokevirtual 85, 3) := by decide +kernel
theorem dX1_duty_5 : decode cX1_duty 5 = .ok (.istore_n 2, 1) := by decide +kernel
theorem dX1_duty_6 : decode cX1_duty 6 = .ok (.iload_n 2, 1) := by decide +kernel
theorem dX1_duty_7 : decode cX1_duty 7 = .ok (.bipush 8, 2) := by decide +kernel
theorem dX1_duty_9 : decode cX1_duty 9 = .ok (.if_icmp .le 10, 3) := by decide +kernel
theorem dX1_duty_12 : decode cX1_duty 12 = .ok (.iload_n 2, 1) := by decide +kernel
theorem dX1_duty_13 : decode cX1_duty 13 = .ok (.bipush 8, 2) := by decide +kernel
theorem dX1_duty_15 : decode cX1_duty 15 = .ok (.isub, 1) := by decide +kernel
theorem dX1_duty_16 : decode cX1_duty 16 = .ok (.goto 4, 3) := by decide +kernel
theorem dX1_duty_19 : decode cX1_duty 19 = .ok (.iload_n 2, 1) := by decide +kernel
theorem dX1_duty_20 : decode cX1_duty 20 = .ok (.ireturn, 1) := by decide +kernel
abbrev cX1_first : ByteArray := prog_3_method_21_code
def yX1_first : MethodName := ⟨RX1, "first", "(I)I"⟩
theorem dX1_first_0 : decode cX1_first 0 = .ok (.aload_n 0, 1) := by decide +kernel
theorem dX1_first_1 : decode cX1_first 1 = .ok (.getfield 36, 3) := by decide +kernel
theorem dX1_first_4 : decode cX1_first 4 = .ok (.ifCond .eq 11, 3) := by decide +kernel
theorem dX1_first_7 : decode cX1_first 7 = .ok (.aload_n 0, 1) := by decide +kernel
theorem dX1_first_8 : decode cX1_first 8 = .ok (.iload_n 1, 1) := by decide +kernel
theorem dX1_first_9 : decode cX1_first 9 = .ok (.invokevirtual 57, 3) := by decide +kernel
theorem dX1_first_12 : decode cX1_first 12 = .ok (.ifCond .ne 5, 3) := by decide +kernel
theorem dX1_first_15 : decode cX1_first 15 = .ok (.iconst (-1), 1) := by decide +kernel
theorem dX1_first_16 : decode cX1_first 16 = .ok (.ireturn, 1) := by decide +kernel
theorem dX1_first_17 : decode cX1_first 17 = .ok (.aload_n 0, 1) := by decide +kernel
theorem dX1_first_18 : decode cX1_first 18 = .ok (.iconst 1, 1) := by decide +kernel
theorem dX1_first_19 : decode cX1_first 19 = .ok (.iload_n 1, 1) := by decide +kernel
theorem dX1_first_20 : decode cX1_first 20 = .ok (.invokevirtual 61, 3) := by decide +kernel
theorem dX1_first_23 : decode cX1_first 23 = .ok (.pop, 1) := by decide +kernel
theorem dX1_first_24 : decode cX1_first 24 = .ok (.aload_n 0, 1) := by decide +kernel
theorem dX1_first_25 : decode cX1_first 25 = .ok (.getfield 16, 3) := by decide +kernel
theorem dX1_first_28 : decode cX1_first 28 = .ok (.aload_n 0, 1) := by decide +kernel
theorem dX1_first_29 : decode cX1_first 29 = .ok (.getfield 43, 3) := by decide +kernel
theorem dX1_first_32 : decode cX1_first 32 = .ok (.iaload, 1) := by decide +kernel
theorem dX1_first_33 : decode cX1_first 33 = .ok (.ireturn, 1) := by decide +kernel
abbrev cX1_labels : ByteArray := prog_3_method_23_code
def yX1_labels : MethodName := ⟨RX1, "labels", "(I)I"⟩
theorem dX1_labels_0 : decode cX1_labels 0 = .ok (.aload_n 0, 1) := by decide +kernel
theorem dX1_labels_1 : decode cX1_labels 1 = .ok (.iload_n 1, 1) := by decide +kernel
theorem dX1_labels_2 : decode cX1_labels 2 = .ok (.invokevirtual 85, 3) := by decide +kernel
theorem dX1_labels_5 : decode cX1_labels 5 = .ok (.istore_n 2, 1) := by decide +kernel
theorem dX1_labels_6 : decode cX1_labels 6 = .ok (.iload_n 2, 1) := by decide +kernel
theorem dX1_labels_7 : decode cX1_labels 7 = .ok (.ifCond .gt 7, 3) := by decide +kernel
theorem dX1_labels_10 : decode cX1_labels 10 = .ok (.iload_n 2, 1) := by decide +kernel
theorem dX1_labels_11 : decode cX1_labels 11 = .ok (.goto 14, 3) := by decide +kernel
theorem dX1_labels_14 : decode cX1_labels 14 = .ok (.iload_n 2, 1) := by decide +kernel
theorem dX1_labels_15 : decode cX1_labels 15 = .ok (.bipush 8, 2) := by decide +kernel
theorem dX1_labels_17 : decode cX1_labels 17 = .ok (.if_icmp .le 7, 3) := by decide +kernel
theorem dX1_labels_20 : decode cX1_labels 20 = .ok (.iconst 2, 1) := by decide +kernel
theorem dX1_labels_21 : decode cX1_labels 21 = .ok (.goto 4, 3) := by decide +kernel
theorem dX1_labels_24 : decode cX1_labels 24 = .ok (.iconst 1, 1) := by decide +kernel
theorem dX1_labels_25 : decode cX1_labels 25 = .ok (.ireturn, 1) := by decide +kernel
abbrev cX1_rest : ByteArray := prog_3_method_24_code
def yX1_rest : MethodName := ⟨RX1, "rest", "(I)I"⟩
theorem dX1_rest_0 : decode cX1_rest 0 = .ok (.aload_n 0, 1) := by decide +kernel
theorem dX1_rest_1 : decode cX1_rest 1 = .ok (.iload_n 1, 1) := by decide +kernel
theorem dX1_rest_2 : decode cX1_rest 2 = .ok (.invokevirtual 85, 3) := by decide +kernel
theorem dX1_rest_5 : decode cX1_rest 5 = .ok (.istore_n 2, 1) := by decide +kernel
theorem dX1_rest_6 : decode cX1_rest 6 = .ok (.iload_n 2, 1) := by decide +kernel
theorem dX1_rest_7 : decode cX1_rest 7 = .ok (.ifCond .ge 7, 3) := by decide +kernel
theorem dX1_rest_10 : decode cX1_rest 10 = .ok (.iconst (-1), 1) := by decide +kernel
theorem dX1_rest_11 : decode cX1_rest 11 = .ok (.goto 7, 3) := by decide +kernel
theorem dX1_rest_14 : decode cX1_rest 14 = .ok (.aload_n 0, 1) := by decide +kernel
theorem dX1_rest_15 : decode cX1_rest 15 = .ok (.invokevirtual 68, 3) := by decide +kernel
theorem dX1_rest_18 : decode cX1_rest 18 = .ok (.ireturn, 1) := by decide +kernel
abbrev cX1_choices : ByteArray := prog_3_method_25_code
def yX1_choices : MethodName := ⟨RX1, "choices", "()I"⟩
theorem dX1_choices_0 : decode cX1_choices 0 = .ok (.iconst 0, 1) := by decide +kernel
theorem dX1_choices_1 : decode cX1_choices 1 = .ok (.istore_n 1, 1) := by decide +kernel
theorem dX1_choices_2 : decode cX1_choices 2 = .ok (.iconst 0, 1) := by decide +kernel
theorem dX1_choices_3 : decode cX1_choices 3 = .ok (.istore_n 2, 1) := by decide +kernel
theorem dX1_choices_4 : decode cX1_choices 4 = .ok (.iload_n 2, 1) := by decide +kernel
theorem dX1_choices_5 : decode cX1_choices 5 = .ok (.bipush 32, 2) := by decide +kernel
theorem dX1_choices_7 : decode cX1_choices 7 = .ok (.if_icmp .ge 35, 3) := by decide +kernel
theorem dX1_choices_10 : decode cX1_choices 10 = .ok (.aload_n 0, 1) := by decide +kernel
theorem dX1_choices_11 : decode cX1_choices 11 = .ok (.iload_n 2, 1) := by decide +kernel
theorem dX1_choices_12 : decode cX1_choices 12 = .ok (.iconst 3, 1) := by decide +kernel
theorem dX1_choices_13 : decode cX1_choices 13 = .ok (.ishr, 1) := by decide +kernel
theorem dX1_choices_14 : decode cX1_choices 14 = .ok (.iload_n 2, 1) := by decide +kernel
theorem dX1_choices_15 : decode cX1_choices 15 = .ok (.iconst 1, 1) := by decide +kernel
theorem dX1_choices_16 : decode cX1_choices 16 = .ok (.ishr, 1) := by decide +kernel
theorem dX1_choices_17 : decode cX1_choices 17 = .ok (.iconst 3, 1) := by decide +kernel
theorem dX1_choices_18 : decode cX1_choices 18 = .ok (.iand, 1) := by decide +kernel
theorem dX1_choices_19 : decode cX1_choices 19 = .ok (.iload_n 2, 1) := by decide +kernel
theorem dX1_choices_20 : decode cX1_choices 20 = .ok (.iconst 1, 1) := by decide +kernel
theorem dX1_choices_21 : decode cX1_choices 21 = .ok (.iand, 1) := by decide +kernel
theorem dX1_choices_22 : decode cX1_choices 22 = .ok (.invokevirtual 81, 3) := by decide +kernel
theorem dX1_choices_25 : decode cX1_choices 25 = .ok (.ifCond .eq 9, 3) := by decide +kernel
theorem dX1_choices_28 : decode cX1_choices 28 = .ok (.iload_n 1, 1) := by decide +kernel
theorem dX1_choices_29 : decode cX1_choices 29 = .ok (.iconst 1, 1) := by decide +kernel
theorem dX1_choices_30 : decode cX1_choices 30 = .ok (.iadd, 1) := by decide +kernel
theorem dX1_choices_31 : decode cX1_choices 31 = .ok (.goto 4, 3) := by decide +kernel
theorem dX1_choices_34 : decode cX1_choices 34 = .ok (.iload_n 1, 1) := by decide +kernel
theorem dX1_choices_35 : decode cX1_choices 35 = .ok (.istore_n 1, 1) := by decide +kernel
theorem dX1_choices_36 : decode cX1_choices 36 = .ok (.iinc 2 1, 3) := by decide +kernel
theorem dX1_choices_39 : decode cX1_choices 39 = .ok (.goto (-35), 3) := by decide +kernel
theorem dX1_choices_42 : decode cX1_choices 42 = .ok (.iload_n 1, 1) := by decide +kernel
theorem dX1_choices_43 : decode cX1_choices 43 = .ok (.ireturn, 1) := by decide +kernel
abbrev cX1_sent : ByteArray := prog_3_method_26_code
def yX1_sent : MethodName := ⟨RX1, "sent", "()I"⟩
theorem dX1_sent_0 : decode cX1_sent 0 = .ok (.aload_n 0, 1) := by decide +kernel
theorem dX1_sent_1 : decode cX1_sent 1 = .ok (.getfield 36, 3) := by decide +kernel
theorem dX1_sent_4 : decode cX1_sent 4 = .ok (.ifCond .eq 10, 3) := by decide +kernel
theorem dX1_sent_7 : decode cX1_sent 7 = .ok (.aload_n 0, 1) := by decide +kernel
theorem dX1_sent_8 : decode cX1_sent 8 = .ok (.getfield 75, 3) := by decide +kernel
theorem dX1_sent_11 : decode cX1_sent 11 = .ok (.goto 4, 3) := by decide +kernel
theorem dX1_sent_14 : decode cX1_sent 14 = .ok (.iconst (-1), 1) := by decide +kernel
theorem dX1_sent_15 : decode cX1_sent 15 = .ok (.ireturn, 1) := by decide +kernel
abbrev cX1_over : ByteArray := prog_3_method_27_code
def yX1_over : MethodName := ⟨RX1, "over", "()Z"⟩
theorem dX1_over_0 : decode cX1_over 0 = .ok (.aload_n 0, 1) := by decide +kernel
theorem dX1_over_1 : decode cX1_over 1 = .ok (.getfield 36, 3) := by decide +kernel
theorem dX1_over_4 : decode cX1_over 4 = .ok (.ifCond .eq 39, 3) := by decide +kernel
theorem dX1_over_7 : decode cX1_over 7 = .ok (.aload_n 0, 1) := by decide +kernel
theorem dX1_over_8 : decode cX1_over 8 = .ok (.iconst 0, 1) := by decide +kernel
theorem dX1_over_9 : decode cX1_over 9 = .ok (.invokevirtual 88, 3) := by decide +kernel
theorem dX1_over_12 : decode cX1_over 12 = .ok (.ifCond .ne 31, 3) := by decide +kernel
theorem dX1_over_15 : decode cX1_over 15 = .ok (.aload_n 0, 1) := by decide +kernel
theorem dX1_over_16 : decode cX1_over 16 = .ok (.iconst 1, 1) := by decide +kernel
theorem dX1_over_17 : decode cX1_over 17 = .ok (.invokevirtual 88, 3) := by decide +kernel
theorem dX1_over_20 : decode cX1_over 20 = .ok (.ifCond .ne 23, 3) := by decide +kernel
theorem dX1_over_23 : decode cX1_over 23 = .ok (.aload_n 0, 1) := by decide +kernel
theorem dX1_over_24 : decode cX1_over 24 = .ok (.iconst 2, 1) := by decide +kernel
theorem dX1_over_25 : decode cX1_over 25 = .ok (.invokevirtual 88, 3) := by decide +kernel
theorem dX1_over_28 : decode cX1_over 28 = .ok (.ifCond .ne 15, 3) := by decide +kernel
theorem dX1_over_31 : decode cX1_over 31 = .ok (.aload_n 0, 1) := by decide +kernel
theorem dX1_over_32 : decode cX1_over 32 = .ok (.iconst 3, 1) := by decide +kernel
theorem dX1_over_33 : decode cX1_over 33 = .ok (.invokevirtual 88, 3) := by decide +kernel
theorem dX1_over_36 : decode cX1_over 36 = .ok (.ifCond .ne 7, 3) := by decide +kernel
theorem dX1_over_39 : decode cX1_over 39 = .ok (.iconst 1, 1) := by decide +kernel
theorem dX1_over_40 : decode cX1_over 40 = .ok (.goto 4, 3) := by decide +kernel
theorem dX1_over_43 : decode cX1_over 43 = .ok (.iconst 0, 1) := by decide +kernel
theorem dX1_over_44 : decode cX1_over 44 = .ok (.ireturn, 1) := by decide +kernel
theorem q17 : (Jvm.Cond.initialized "RoleSessionsModel") ∈ lw_all := lw_g (lw_at lw_m1 2 rfl) rfl
theorem q172 : (Jvm.Cond.instantiable "RoleSessionsModel" (9 : Nat)) ∈ lw_all := lw_g (lw_at lw_m1 157 rfl) rfl
theorem q174 : (Jvm.Cond.instanceMethod ({ cls := "RoleSessionsModel", name := "<init>", desc := "()V" } : Jvm.MethodName)) ∈ lw_all := lw_g (lw_at lw_m1 159 rfl) rfl
theorem q175 : (Jvm.Cond.code ({ cls := "RoleSessionsModel", name := "<init>", desc := "()V" } : Jvm.MethodName) prog_3_method_1_code (1 : Nat) (Option.none : Option Jvm.ClassFile.FieldType)) ∈ lw_all := lw_g (lw_at lw_m1 160 rfl) rfl
theorem q176 : (Jvm.Cond.methodLink "RoleSessionsModel" (1 : Nat) ({ cls := "java/lang/Object", name := "<init>", desc := "()V" } : Jvm.MethodName)) ∈ lw_all := lw_g (lw_at lw_m1 161 rfl) rfl
theorem q177 : (Jvm.Cond.fieldLink "RoleSessionsModel" (7 : Nat) "RoleSessionsModel" "tokens" "[I") ∈ lw_all := lw_g (lw_at lw_m1 162 rfl) rfl
theorem q178 : (Jvm.Cond.fieldLink "RoleSessionsModel" (13 : Nat) "RoleSessionsModel" "sizes" "[I") ∈ lw_all := lw_g (lw_at lw_m1 163 rfl) rfl
theorem q179 : (Jvm.Cond.fieldLink "RoleSessionsModel" (36 : Nat) "RoleSessionsModel" "running" "Z") ∈ lw_all := lw_g (lw_at lw_m1 164 rfl) rfl
theorem q180 : (Jvm.Cond.fieldLink "RoleSessionsModel" (75 : Nat) "RoleSessionsModel" "count" "I") ∈ lw_all := lw_g (lw_at lw_m1 165 rfl) rfl
theorem q181 : (Jvm.Cond.fieldLink "RoleSessionsModel" (43 : Nat) "RoleSessionsModel" "from" "I") ∈ lw_all := lw_g (lw_at lw_m1 166 rfl) rfl
theorem q182 : (Jvm.Cond.fieldLink "RoleSessionsModel" (16 : Nat) "RoleSessionsModel" "local" "[I") ∈ lw_all := lw_g (lw_at lw_m1 167 rfl) rfl
theorem q183 : (Jvm.Cond.fieldLink "RoleSessionsModel" (47 : Nat) "RoleSessionsModel" "parts" "I") ∈ lw_all := lw_g (lw_at lw_m1 168 rfl) rfl
theorem q184 : (Jvm.Cond.fieldLink "RoleSessionsModel" (19 : Nat) "RoleSessionsModel" "lengths" "[I") ∈ lw_all := lw_g (lw_at lw_m1 169 rfl) rfl
theorem q185 : (Jvm.Cond.fieldLink "RoleSessionsModel" (22 : Nat) "RoleSessionsModel" "next" "[I") ∈ lw_all := lw_g (lw_at lw_m1 170 rfl) rfl
theorem q186 : (Jvm.Cond.lays "RoleSessionsModel" "RoleSessionsModel" "tokens" "[I") ∈ lw_all := lw_g (lw_at lw_m1 171 rfl) rfl
theorem q187 : (Jvm.Cond.soleField "RoleSessionsModel" "tokens") ∈ lw_all := lw_g (lw_at lw_m1 172 rfl) rfl
theorem q188 : (Jvm.Cond.lays "RoleSessionsModel" "RoleSessionsModel" "sizes" "[I") ∈ lw_all := lw_g (lw_at lw_m1 173 rfl) rfl
theorem q189 : (Jvm.Cond.soleField "RoleSessionsModel" "sizes") ∈ lw_all := lw_g (lw_at lw_m1 174 rfl) rfl
theorem q190 : (Jvm.Cond.lays "RoleSessionsModel" "RoleSessionsModel" "running" "Z") ∈ lw_all := lw_g (lw_at lw_m1 175 rfl) rfl
theorem q191 : (Jvm.Cond.soleField "RoleSessionsModel" "running") ∈ lw_all := lw_g (lw_at lw_m1 176 rfl) rfl
theorem q192 : (Jvm.Cond.lays "RoleSessionsModel" "RoleSessionsModel" "count" "I") ∈ lw_all := lw_g (lw_at lw_m1 177 rfl) rfl
theorem q193 : (Jvm.Cond.soleField "RoleSessionsModel" "count") ∈ lw_all := lw_g (lw_at lw_m1 178 rfl) rfl
theorem q194 : (Jvm.Cond.lays "RoleSessionsModel" "RoleSessionsModel" "from" "I") ∈ lw_all := lw_g (lw_at lw_m1 179 rfl) rfl
theorem q195 : (Jvm.Cond.soleField "RoleSessionsModel" "from") ∈ lw_all := lw_g (lw_at lw_m1 180 rfl) rfl
theorem q196 : (Jvm.Cond.lays "RoleSessionsModel" "RoleSessionsModel" "local" "[I") ∈ lw_all := lw_g (lw_at lw_m1 181 rfl) rfl
theorem q197 : (Jvm.Cond.soleField "RoleSessionsModel" "local") ∈ lw_all := lw_g (lw_at lw_m1 182 rfl) rfl
theorem q198 : (Jvm.Cond.lays "RoleSessionsModel" "RoleSessionsModel" "parts" "I") ∈ lw_all := lw_g (lw_at lw_m1 183 rfl) rfl
theorem q199 : (Jvm.Cond.soleField "RoleSessionsModel" "parts") ∈ lw_all := lw_g (lw_at lw_m1 184 rfl) rfl
theorem q200 : (Jvm.Cond.lays "RoleSessionsModel" "RoleSessionsModel" "lengths" "[I") ∈ lw_all := lw_g (lw_at lw_m1 185 rfl) rfl
theorem q201 : (Jvm.Cond.soleField "RoleSessionsModel" "lengths") ∈ lw_all := lw_g (lw_at lw_m1 186 rfl) rfl
theorem q202 : (Jvm.Cond.lays "RoleSessionsModel" "RoleSessionsModel" "next" "[I") ∈ lw_all := lw_g (lw_at lw_m1 187 rfl) rfl
theorem q203 : (Jvm.Cond.soleField "RoleSessionsModel" "next") ∈ lw_all := lw_g (lw_at lw_m1 188 rfl) rfl
theorem q204 : (Jvm.Cond.superclass "RoleSessionsModel" "java/lang/Object") ∈ lw_all := lw_g (lw_at lw_m1 189 rfl) rfl
theorem q206 : (Jvm.Cond.instanceMethod ({ cls := "RoleSessionsModel", name := "write", desc := "(I)I" } : Jvm.MethodName)) ∈ lw_all := lw_g (lw_at lw_m1 191 rfl) rfl
theorem q207 : (Jvm.Cond.selects "RoleSessionsModel" ({ cls := "RoleSessionsModel", name := "write", desc := "(I)I" } : Jvm.MethodName) ({ cls := "RoleSessionsModel", name := "write", desc := "(I)I" } : Jvm.MethodName)) ∈ lw_all := lw_g (lw_at lw_m1 192 rfl) rfl
theorem q208 : (Jvm.Cond.code ({ cls := "RoleSessionsModel", name := "write", desc := "(I)I" } : Jvm.MethodName) prog_3_method_6_code (2 : Nat) (Option.some Jvm.ClassFile.FieldType.int)) ∈ lw_all := lw_g (lw_at lw_m1 193 rfl) rfl
theorem q209 : (Jvm.Cond.methodLink "RoleSessionsModel" (25 : Nat) ({ cls := "RoleSessionsModel", name := "sender", desc := "(I)I" } : Jvm.MethodName)) ∈ lw_all := lw_g (lw_at lw_m1 194 rfl) rfl
theorem q210 : (Jvm.Cond.privateMethod ({ cls := "RoleSessionsModel", name := "sender", desc := "(I)I" } : Jvm.MethodName)) ∈ lw_tbl := lw_at lw_m1 195 rfl
theorem q211 : (Jvm.Cond.instanceMethod ({ cls := "RoleSessionsModel", name := "sender", desc := "(I)I" } : Jvm.MethodName)) ∈ lw_all := lw_g (lw_at lw_m1 196 rfl) rfl
theorem q212 : (Jvm.Cond.code ({ cls := "RoleSessionsModel", name := "sender", desc := "(I)I" } : Jvm.MethodName) prog_3_method_3_code (2 : Nat) (Option.some Jvm.ClassFile.FieldType.int)) ∈ lw_all := lw_g (lw_at lw_m1 197 rfl) rfl
theorem q213 : (Jvm.Cond.methodLink "RoleSessionsModel" (29 : Nat) ({ cls := "RoleSessionsModel", name := "receiver", desc := "(I)I" } : Jvm.MethodName)) ∈ lw_all := lw_g (lw_at lw_m1 198 rfl) rfl
theorem q214 : (Jvm.Cond.privateMethod ({ cls := "RoleSessionsModel", name := "receiver", desc := "(I)I" } : Jvm.MethodName)) ∈ lw_tbl := lw_at lw_m1 199 rfl
theorem q215 : (Jvm.Cond.instanceMethod ({ cls := "RoleSessionsModel", name := "receiver", desc := "(I)I" } : Jvm.MethodName)) ∈ lw_all := lw_g (lw_at lw_m1 200 rfl) rfl
theorem q216 : (Jvm.Cond.code ({ cls := "RoleSessionsModel", name := "receiver", desc := "(I)I" } : Jvm.MethodName) prog_3_method_4_code (2 : Nat) (Option.some Jvm.ClassFile.FieldType.int)) ∈ lw_all := lw_g (lw_at lw_m1 201 rfl) rfl
theorem q217 : (Jvm.Cond.methodLink "RoleSessionsModel" (32 : Nat) ({ cls := "RoleSessionsModel", name := "complete", desc := "()Z" } : Jvm.MethodName)) ∈ lw_all := lw_g (lw_at lw_m1 202 rfl) rfl
theorem q218 : (Jvm.Cond.instanceMethod ({ cls := "RoleSessionsModel", name := "complete", desc := "()Z" } : Jvm.MethodName)) ∈ lw_all := lw_g (lw_at lw_m1 203 rfl) rfl
theorem q219 : (Jvm.Cond.selects "RoleSessionsModel" ({ cls := "RoleSessionsModel", name := "complete", desc := "()Z" } : Jvm.MethodName) ({ cls := "RoleSessionsModel", name := "complete", desc := "()Z" } : Jvm.MethodName)) ∈ lw_all := lw_g (lw_at lw_m1 204 rfl) rfl
theorem q220 : (Jvm.Cond.code ({ cls := "RoleSessionsModel", name := "complete", desc := "()Z" } : Jvm.MethodName) prog_3_method_8_code (3 : Nat) (Option.some Jvm.ClassFile.FieldType.boolean)) ∈ lw_all := lw_g (lw_at lw_m1 205 rfl) rfl
theorem q221 : (Jvm.Cond.methodLink "RoleSessionsModel" (40 : Nat) ({ cls := "RoleSessionsModel", name := "plans", desc := "(I)I" } : Jvm.MethodName)) ∈ lw_all := lw_g (lw_at lw_m1 206 rfl) rfl
theorem q222 : (Jvm.Cond.privateMethod ({ cls := "RoleSessionsModel", name := "plans", desc := "(I)I" } : Jvm.MethodName)) ∈ lw_tbl := lw_at lw_m1 207 rfl
theorem q223 : (Jvm.Cond.instanceMethod ({ cls := "RoleSessionsModel", name := "plans", desc := "(I)I" } : Jvm.MethodName)) ∈ lw_all := lw_g (lw_at lw_m1 208 rfl) rfl
theorem q224 : (Jvm.Cond.code ({ cls := "RoleSessionsModel", name := "plans", desc := "(I)I" } : Jvm.MethodName) prog_3_method_5_code (2 : Nat) (Option.some Jvm.ClassFile.FieldType.int)) ∈ lw_all := lw_g (lw_at lw_m1 209 rfl) rfl
theorem q226 : (Jvm.Cond.instanceMethod ({ cls := "RoleSessionsModel", name := "rub", desc := "()I" } : Jvm.MethodName)) ∈ lw_all := lw_g (lw_at lw_m1 211 rfl) rfl
theorem q227 : (Jvm.Cond.selects "RoleSessionsModel" ({ cls := "RoleSessionsModel", name := "rub", desc := "()I" } : Jvm.MethodName) ({ cls := "RoleSessionsModel", name := "rub", desc := "()I" } : Jvm.MethodName)) ∈ lw_all := lw_g (lw_at lw_m1 212 rfl) rfl
theorem q228 : (Jvm.Cond.code ({ cls := "RoleSessionsModel", name := "rub", desc := "()I" } : Jvm.MethodName) prog_3_method_7_code (1 : Nat) (Option.some Jvm.ClassFile.FieldType.int)) ∈ lw_all := lw_g (lw_at lw_m1 213 rfl) rfl
theorem q231 : (Jvm.Cond.instanceMethod ({ cls := "RoleSessionsModel", name := "fixed", desc := "(I)Z" } : Jvm.MethodName)) ∈ lw_all := lw_g (lw_at lw_m1 216 rfl) rfl
theorem q232 : (Jvm.Cond.selects "RoleSessionsModel" ({ cls := "RoleSessionsModel", name := "fixed", desc := "(I)Z" } : Jvm.MethodName) ({ cls := "RoleSessionsModel", name := "fixed", desc := "(I)Z" } : Jvm.MethodName)) ∈ lw_all := lw_g (lw_at lw_m1 217 rfl) rfl
theorem q233 : (Jvm.Cond.code ({ cls := "RoleSessionsModel", name := "fixed", desc := "(I)Z" } : Jvm.MethodName) prog_3_method_13_code (2 : Nat) (Option.some Jvm.ClassFile.FieldType.boolean)) ∈ lw_all := lw_g (lw_at lw_m1 218 rfl) rfl
theorem q234 : (Jvm.Cond.methodLink "RoleSessionsModel" (57 : Nat) ({ cls := "RoleSessionsModel", name := "role", desc := "(I)Z" } : Jvm.MethodName)) ∈ lw_all := lw_g (lw_at lw_m1 219 rfl) rfl
theorem q235 : (Jvm.Cond.privateMethod ({ cls := "RoleSessionsModel", name := "role", desc := "(I)Z" } : Jvm.MethodName)) ∈ lw_tbl := lw_at lw_m1 220 rfl
theorem q236 : (Jvm.Cond.instanceMethod ({ cls := "RoleSessionsModel", name := "role", desc := "(I)Z" } : Jvm.MethodName)) ∈ lw_all := lw_g (lw_at lw_m1 221 rfl) rfl
theorem q237 : (Jvm.Cond.code ({ cls := "RoleSessionsModel", name := "role", desc := "(I)Z" } : Jvm.MethodName) prog_3_method_2_code (2 : Nat) (Option.some Jvm.ClassFile.FieldType.boolean)) ∈ lw_all := lw_g (lw_at lw_m1 222 rfl) rfl
theorem q238 : (Jvm.Cond.methodLink "RoleSessionsModel" (61 : Nat) ({ cls := "RoleSessionsModel", name := "read", desc := "(II)Z" } : Jvm.MethodName)) ∈ lw_all := lw_g (lw_at lw_m1 223 rfl) rfl
theorem q239 : (Jvm.Cond.privateMethod ({ cls := "RoleSessionsModel", name := "read", desc := "(II)Z" } : Jvm.MethodName)) ∈ lw_tbl := lw_at lw_m1 224 rfl
theorem q240 : (Jvm.Cond.instanceMethod ({ cls := "RoleSessionsModel", name := "read", desc := "(II)Z" } : Jvm.MethodName)) ∈ lw_all := lw_g (lw_at lw_m1 225 rfl) rfl
theorem q241 : (Jvm.Cond.code ({ cls := "RoleSessionsModel", name := "read", desc := "(II)Z" } : Jvm.MethodName) prog_3_method_11_code (9 : Nat) (Option.some Jvm.ClassFile.FieldType.boolean)) ∈ lw_all := lw_g (lw_at lw_m1 226 rfl) rfl
theorem q242 : (Jvm.Cond.methodLink "RoleSessionsModel" (50 : Nat) ({ cls := "RoleSessionsModel", name := "front", desc := "(II)V" } : Jvm.MethodName)) ∈ lw_all := lw_g (lw_at lw_m1 227 rfl) rfl
theorem q243 : (Jvm.Cond.privateMethod ({ cls := "RoleSessionsModel", name := "front", desc := "(II)V" } : Jvm.MethodName)) ∈ lw_tbl := lw_at lw_m1 228 rfl
theorem q244 : (Jvm.Cond.instanceMethod ({ cls := "RoleSessionsModel", name := "front", desc := "(II)V" } : Jvm.MethodName)) ∈ lw_all := lw_g (lw_at lw_m1 229 rfl) rfl
theorem q245 : (Jvm.Cond.code ({ cls := "RoleSessionsModel", name := "front", desc := "(II)V" } : Jvm.MethodName) prog_3_method_9_code (5 : Nat) (Option.none : Option Jvm.ClassFile.FieldType)) ∈ lw_all := lw_g (lw_at lw_m1 230 rfl) rfl
theorem q246 : (Jvm.Cond.methodLink "RoleSessionsModel" (54 : Nat) ({ cls := "RoleSessionsModel", name := "join", desc := "()Z" } : Jvm.MethodName)) ∈ lw_all := lw_g (lw_at lw_m1 231 rfl) rfl
theorem q247 : (Jvm.Cond.privateMethod ({ cls := "RoleSessionsModel", name := "join", desc := "()Z" } : Jvm.MethodName)) ∈ lw_tbl := lw_at lw_m1 232 rfl
theorem q248 : (Jvm.Cond.instanceMethod ({ cls := "RoleSessionsModel", name := "join", desc := "()Z" } : Jvm.MethodName)) ∈ lw_all := lw_g (lw_at lw_m1 233 rfl) rfl
theorem q249 : (Jvm.Cond.code ({ cls := "RoleSessionsModel", name := "join", desc := "()Z" } : Jvm.MethodName) prog_3_method_10_code (4 : Nat) (Option.some Jvm.ClassFile.FieldType.boolean)) ∈ lw_all := lw_g (lw_at lw_m1 234 rfl) rfl
theorem q251 : (Jvm.Cond.instanceMethod ({ cls := "RoleSessionsModel", name := "fit", desc := "()Z" } : Jvm.MethodName)) ∈ lw_all := lw_g (lw_at lw_m1 236 rfl) rfl
theorem q252 : (Jvm.Cond.selects "RoleSessionsModel" ({ cls := "RoleSessionsModel", name := "fit", desc := "()Z" } : Jvm.MethodName) ({ cls := "RoleSessionsModel", name := "fit", desc := "()Z" } : Jvm.MethodName)) ∈ lw_all := lw_g (lw_at lw_m1 237 rfl) rfl
theorem q253 : (Jvm.Cond.code ({ cls := "RoleSessionsModel", name := "fit", desc := "()Z" } : Jvm.MethodName) prog_3_method_14_code (1 : Nat) (Option.some Jvm.ClassFile.FieldType.boolean)) ∈ lw_all := lw_g (lw_at lw_m1 238 rfl) rfl
theorem q254 : (Jvm.Cond.methodLink "RoleSessionsModel" (65 : Nat) ({ cls := "RoleSessionsModel", name := "fixed", desc := "(I)Z" } : Jvm.MethodName)) ∈ lw_all := lw_g (lw_at lw_m1 239 rfl) rfl
theorem q256 : (Jvm.Cond.instanceMethod ({ cls := "RoleSessionsModel", name := "size", desc := "(I)I" } : Jvm.MethodName)) ∈ lw_all := lw_g (lw_at lw_m2 1 rfl) rfl
theorem q257 : (Jvm.Cond.selects "RoleSessionsModel" ({ cls := "RoleSessionsModel", name := "size", desc := "(I)I" } : Jvm.MethodName) ({ cls := "RoleSessionsModel", name := "size", desc := "(I)I" } : Jvm.MethodName)) ∈ lw_all := lw_g (lw_at lw_m2 2 rfl) rfl
theorem q258 : (Jvm.Cond.code ({ cls := "RoleSessionsModel", name := "size", desc := "(I)I" } : Jvm.MethodName) prog_3_method_15_code (2 : Nat) (Option.some Jvm.ClassFile.FieldType.int)) ∈ lw_all := lw_g (lw_at lw_m2 3 rfl) rfl
theorem q259 : (Jvm.Cond.methodLink "RoleSessionsModel" (68 : Nat) ({ cls := "RoleSessionsModel", name := "measure", desc := "()I" } : Jvm.MethodName)) ∈ lw_all := lw_g (lw_at lw_m2 4 rfl) rfl
theorem q260 : (Jvm.Cond.privateMethod ({ cls := "RoleSessionsModel", name := "measure", desc := "()I" } : Jvm.MethodName)) ∈ lw_tbl := lw_at lw_m2 5 rfl
theorem q261 : (Jvm.Cond.instanceMethod ({ cls := "RoleSessionsModel", name := "measure", desc := "()I" } : Jvm.MethodName)) ∈ lw_all := lw_g (lw_at lw_m2 6 rfl) rfl
theorem q262 : (Jvm.Cond.code ({ cls := "RoleSessionsModel", name := "measure", desc := "()I" } : Jvm.MethodName) prog_3_method_12_code (3 : Nat) (Option.some Jvm.ClassFile.FieldType.int)) ∈ lw_all := lw_g (lw_at lw_m2 7 rfl) rfl
theorem q264 : (Jvm.Cond.instanceMethod ({ cls := "RoleSessionsModel", name := "start", desc := "()Z" } : Jvm.MethodName)) ∈ lw_all := lw_g (lw_at lw_m2 9 rfl) rfl
theorem q265 : (Jvm.Cond.selects "RoleSessionsModel" ({ cls := "RoleSessionsModel", name := "start", desc := "()Z" } : Jvm.MethodName) ({ cls := "RoleSessionsModel", name := "start", desc := "()Z" } : Jvm.MethodName)) ∈ lw_all := lw_g (lw_at lw_m2 10 rfl) rfl
theorem q266 : (Jvm.Cond.code ({ cls := "RoleSessionsModel", name := "start", desc := "()Z" } : Jvm.MethodName) prog_3_method_16_code (2 : Nat) (Option.some Jvm.ClassFile.FieldType.boolean)) ∈ lw_all := lw_g (lw_at lw_m2 11 rfl) rfl
theorem q267 : (Jvm.Cond.methodLink "RoleSessionsModel" (72 : Nat) ({ cls := "RoleSessionsModel", name := "fit", desc := "()Z" } : Jvm.MethodName)) ∈ lw_all := lw_g (lw_at lw_m2 12 rfl) rfl
theorem q269 : (Jvm.Cond.instanceMethod ({ cls := "RoleSessionsModel", name := "runs", desc := "()Z" } : Jvm.MethodName)) ∈ lw_all := lw_g (lw_at lw_m2 14 rfl) rfl
theorem q270 : (Jvm.Cond.selects "RoleSessionsModel" ({ cls := "RoleSessionsModel", name := "runs", desc := "()Z" } : Jvm.MethodName) ({ cls := "RoleSessionsModel", name := "runs", desc := "()Z" } : Jvm.MethodName)) ∈ lw_all := lw_g (lw_at lw_m2 15 rfl) rfl
theorem q271 : (Jvm.Cond.code ({ cls := "RoleSessionsModel", name := "runs", desc := "()Z" } : Jvm.MethodName) prog_3_method_17_code (1 : Nat) (Option.some Jvm.ClassFile.FieldType.boolean)) ∈ lw_all := lw_g (lw_at lw_m2 16 rfl) rfl
theorem q273 : (Jvm.Cond.instanceMethod ({ cls := "RoleSessionsModel", name := "possible", desc := "(III)Z" } : Jvm.MethodName)) ∈ lw_all := lw_g (lw_at lw_m2 18 rfl) rfl
theorem q274 : (Jvm.Cond.selects "RoleSessionsModel" ({ cls := "RoleSessionsModel", name := "possible", desc := "(III)Z" } : Jvm.MethodName) ({ cls := "RoleSessionsModel", name := "possible", desc := "(III)Z" } : Jvm.MethodName)) ∈ lw_all := lw_g (lw_at lw_m2 19 rfl) rfl
theorem q275 : (Jvm.Cond.code ({ cls := "RoleSessionsModel", name := "possible", desc := "(III)Z" } : Jvm.MethodName) prog_3_method_19_code (8 : Nat) (Option.some Jvm.ClassFile.FieldType.boolean)) ∈ lw_all := lw_g (lw_at lw_m2 20 rfl) rfl
theorem q276 : (Jvm.Cond.methodLink "RoleSessionsModel" (78 : Nat) ({ cls := "RoleSessionsModel", name := "behind", desc := "(I)I" } : Jvm.MethodName)) ∈ lw_all := lw_g (lw_at lw_m2 21 rfl) rfl
theorem q277 : (Jvm.Cond.privateMethod ({ cls := "RoleSessionsModel", name := "behind", desc := "(I)I" } : Jvm.MethodName)) ∈ lw_tbl := lw_at lw_m2 22 rfl
theorem q278 : (Jvm.Cond.instanceMethod ({ cls := "RoleSessionsModel", name := "behind", desc := "(I)I" } : Jvm.MethodName)) ∈ lw_all := lw_g (lw_at lw_m2 23 rfl) rfl
theorem q279 : (Jvm.Cond.code ({ cls := "RoleSessionsModel", name := "behind", desc := "(I)I" } : Jvm.MethodName) prog_3_method_18_code (4 : Nat) (Option.some Jvm.ClassFile.FieldType.int)) ∈ lw_all := lw_g (lw_at lw_m2 24 rfl) rfl
theorem q281 : (Jvm.Cond.instanceMethod ({ cls := "RoleSessionsModel", name := "send", desc := "(III)Z" } : Jvm.MethodName)) ∈ lw_all := lw_g (lw_at lw_m2 26 rfl) rfl
theorem q282 : (Jvm.Cond.selects "RoleSessionsModel" ({ cls := "RoleSessionsModel", name := "send", desc := "(III)Z" } : Jvm.MethodName) ({ cls := "RoleSessionsModel", name := "send", desc := "(III)Z" } : Jvm.MethodName)) ∈ lw_all := lw_g (lw_at lw_m2 27 rfl) rfl
theorem q283 : (Jvm.Cond.code ({ cls := "RoleSessionsModel", name := "send", desc := "(III)Z" } : Jvm.MethodName) prog_3_method_20_code (11 : Nat) (Option.some Jvm.ClassFile.FieldType.boolean)) ∈ lw_all := lw_g (lw_at lw_m2 28 rfl) rfl
theorem q284 : (Jvm.Cond.methodLink "RoleSessionsModel" (81 : Nat) ({ cls := "RoleSessionsModel", name := "possible", desc := "(III)Z" } : Jvm.MethodName)) ∈ lw_all := lw_g (lw_at lw_m2 29 rfl) rfl
theorem q286 : (Jvm.Cond.instanceMethod ({ cls := "RoleSessionsModel", name := "duty", desc := "(I)I" } : Jvm.MethodName)) ∈ lw_all := lw_g (lw_at lw_m2 31 rfl) rfl
theorem q287 : (Jvm.Cond.selects "RoleSessionsModel" ({ cls := "RoleSessionsModel", name := "duty", desc := "(I)I" } : Jvm.MethodName) ({ cls := "RoleSessionsModel", name := "duty", desc := "(I)I" } : Jvm.MethodName)) ∈ lw_all := lw_g (lw_at lw_m2 32 rfl) rfl
theorem q288 : (Jvm.Cond.code ({ cls := "RoleSessionsModel", name := "duty", desc := "(I)I" } : Jvm.MethodName) prog_3_method_22_code (3 : Nat) (Option.some Jvm.ClassFile.FieldType.int)) ∈ lw_all := lw_g (lw_at lw_m2 33 rfl) rfl
theorem q289 : (Jvm.Cond.methodLink "RoleSessionsModel" (85 : Nat) ({ cls := "RoleSessionsModel", name := "first", desc := "(I)I" } : Jvm.MethodName)) ∈ lw_all := lw_g (lw_at lw_m2 34 rfl) rfl
theorem q290 : (Jvm.Cond.privateMethod ({ cls := "RoleSessionsModel", name := "first", desc := "(I)I" } : Jvm.MethodName)) ∈ lw_tbl := lw_at lw_m2 35 rfl
theorem q291 : (Jvm.Cond.instanceMethod ({ cls := "RoleSessionsModel", name := "first", desc := "(I)I" } : Jvm.MethodName)) ∈ lw_all := lw_g (lw_at lw_m2 36 rfl) rfl
theorem q292 : (Jvm.Cond.code ({ cls := "RoleSessionsModel", name := "first", desc := "(I)I" } : Jvm.MethodName) prog_3_method_21_code (2 : Nat) (Option.some Jvm.ClassFile.FieldType.int)) ∈ lw_all := lw_g (lw_at lw_m2 37 rfl) rfl
theorem q294 : (Jvm.Cond.instanceMethod ({ cls := "RoleSessionsModel", name := "labels", desc := "(I)I" } : Jvm.MethodName)) ∈ lw_all := lw_g (lw_at lw_m2 39 rfl) rfl
theorem q295 : (Jvm.Cond.selects "RoleSessionsModel" ({ cls := "RoleSessionsModel", name := "labels", desc := "(I)I" } : Jvm.MethodName) ({ cls := "RoleSessionsModel", name := "labels", desc := "(I)I" } : Jvm.MethodName)) ∈ lw_all := lw_g (lw_at lw_m2 40 rfl) rfl
theorem q296 : (Jvm.Cond.code ({ cls := "RoleSessionsModel", name := "labels", desc := "(I)I" } : Jvm.MethodName) prog_3_method_23_code (3 : Nat) (Option.some Jvm.ClassFile.FieldType.int)) ∈ lw_all := lw_g (lw_at lw_m2 41 rfl) rfl
theorem q298 : (Jvm.Cond.instanceMethod ({ cls := "RoleSessionsModel", name := "rest", desc := "(I)I" } : Jvm.MethodName)) ∈ lw_all := lw_g (lw_at lw_m2 43 rfl) rfl
theorem q299 : (Jvm.Cond.selects "RoleSessionsModel" ({ cls := "RoleSessionsModel", name := "rest", desc := "(I)I" } : Jvm.MethodName) ({ cls := "RoleSessionsModel", name := "rest", desc := "(I)I" } : Jvm.MethodName)) ∈ lw_all := lw_g (lw_at lw_m2 44 rfl) rfl
theorem q300 : (Jvm.Cond.code ({ cls := "RoleSessionsModel", name := "rest", desc := "(I)I" } : Jvm.MethodName) prog_3_method_24_code (3 : Nat) (Option.some Jvm.ClassFile.FieldType.int)) ∈ lw_all := lw_g (lw_at lw_m2 45 rfl) rfl
theorem q302 : (Jvm.Cond.instanceMethod ({ cls := "RoleSessionsModel", name := "choices", desc := "()I" } : Jvm.MethodName)) ∈ lw_all := lw_g (lw_at lw_m2 47 rfl) rfl
theorem q303 : (Jvm.Cond.selects "RoleSessionsModel" ({ cls := "RoleSessionsModel", name := "choices", desc := "()I" } : Jvm.MethodName) ({ cls := "RoleSessionsModel", name := "choices", desc := "()I" } : Jvm.MethodName)) ∈ lw_all := lw_g (lw_at lw_m2 48 rfl) rfl
theorem q304 : (Jvm.Cond.code ({ cls := "RoleSessionsModel", name := "choices", desc := "()I" } : Jvm.MethodName) prog_3_method_25_code (3 : Nat) (Option.some Jvm.ClassFile.FieldType.int)) ∈ lw_all := lw_g (lw_at lw_m2 49 rfl) rfl
theorem q306 : (Jvm.Cond.instanceMethod ({ cls := "RoleSessionsModel", name := "sent", desc := "()I" } : Jvm.MethodName)) ∈ lw_all := lw_g (lw_at lw_m2 51 rfl) rfl
theorem q307 : (Jvm.Cond.selects "RoleSessionsModel" ({ cls := "RoleSessionsModel", name := "sent", desc := "()I" } : Jvm.MethodName) ({ cls := "RoleSessionsModel", name := "sent", desc := "()I" } : Jvm.MethodName)) ∈ lw_all := lw_g (lw_at lw_m2 52 rfl) rfl
theorem q308 : (Jvm.Cond.code ({ cls := "RoleSessionsModel", name := "sent", desc := "()I" } : Jvm.MethodName) prog_3_method_26_code (1 : Nat) (Option.some Jvm.ClassFile.FieldType.int)) ∈ lw_all := lw_g (lw_at lw_m2 53 rfl) rfl
theorem q310 : (Jvm.Cond.instanceMethod ({ cls := "RoleSessionsModel", name := "over", desc := "()Z" } : Jvm.MethodName)) ∈ lw_all := lw_g (lw_at lw_m2 55 rfl) rfl
theorem q311 : (Jvm.Cond.selects "RoleSessionsModel" ({ cls := "RoleSessionsModel", name := "over", desc := "()Z" } : Jvm.MethodName) ({ cls := "RoleSessionsModel", name := "over", desc := "()Z" } : Jvm.MethodName)) ∈ lw_all := lw_g (lw_at lw_m2 56 rfl) rfl
theorem q312 : (Jvm.Cond.code ({ cls := "RoleSessionsModel", name := "over", desc := "()Z" } : Jvm.MethodName) prog_3_method_27_code (1 : Nat) (Option.some Jvm.ClassFile.FieldType.boolean)) ∈ lw_all := lw_g (lw_at lw_m2 57 rfl) rfl
theorem q313 : (Jvm.Cond.methodLink "RoleSessionsModel" (88 : Nat) ({ cls := "RoleSessionsModel", name := "duty", desc := "(I)I" } : Jvm.MethodName)) ∈ lw_all := lw_g (lw_at lw_m2 58 rfl) rfl
theorem in_X1 : ∀ w ∈ wsX10, w ∈ lw_all := lw_in wsX10 [186, 188, 190, 192, 194, 196, 198, 200, 202] (by decide +kernel) (by decide +kernel)
end
section
/-! java/lang/Object -/
set_option maxRecDepth 100000
def RJ0 : String := "java/lang/Object"
abbrev cJ0_init : ByteArray := object_method_1_code
def yJ0_init : MethodName := ⟨RJ0, "<init>", "()V"⟩
theorem dJ0_init_0 : decode cJ0_init 0 = .ok (.return_, 1) := by decide +kernel
theorem q24 : (Jvm.Cond.instanceMethod ({ cls := "java/lang/Object", name := "<init>", desc := "()V" } : Jvm.MethodName)) ∈ lw_all := lw_g (lw_at lw_m1 9 rfl) rfl
theorem q25 : (Jvm.Cond.code ({ cls := "java/lang/Object", name := "<init>", desc := "()V" } : Jvm.MethodName) object_method_1_code (1 : Nat) (Option.none : Option Jvm.ClassFile.FieldType)) ∈ lw_all := lw_g (lw_at lw_m1 10 rfl) rfl
theorem q66 : (Jvm.Cond.arrayClass Jvm.ClassFile.FieldType.byte) ∈ lw_all := lw_g (lw_at lw_m1 51 rfl) rfl
set_option maxRecDepth 100000
theorem q67 : (Jvm.Cond.arrayClass Jvm.ClassFile.FieldType.int) ∈ lw_all := lw_g (lw_at lw_m1 52 rfl) rfl
theorem q15 : (Jvm.Cond.initialized "RoleSessionsLaw") ∈ lw_all := lw_g (lw_at lw_m1 0 rfl) rfl
set_option maxRecDepth 100000
theorem q18 : (Jvm.Cond.classLink "RoleSessionsLaw" (7 : Nat) "RoleSessions") ∈ lw_all := lw_g (lw_at lw_m1 3 rfl) rfl
theorem q20 : (Jvm.Cond.methodLink "RoleSessionsLaw" (9 : Nat) ({ cls := "RoleSessions", name := "<init>", desc := "()V" } : Jvm.MethodName)) ∈ lw_all := lw_g (lw_at lw_m1 5 rfl) rfl
theorem q68 : (Jvm.Cond.methodLink "RoleSessionsLaw" (13 : Nat) ({ cls := "RoleSessions", name := "write", desc := "(I)I" } : Jvm.MethodName)) ∈ lw_all := lw_g (lw_at lw_m1 53 rfl) rfl
theorem q90 : (Jvm.Cond.methodLink "RoleSessionsLaw" (18 : Nat) ({ cls := "RoleSessions", name := "rub", desc := "()I" } : Jvm.MethodName)) ∈ lw_all := lw_g (lw_at lw_m1 75 rfl) rfl
theorem q94 : (Jvm.Cond.methodLink "RoleSessionsLaw" (23 : Nat) ({ cls := "RoleSessions", name := "complete", desc := "()Z" } : Jvm.MethodName)) ∈ lw_all := lw_g (lw_at lw_m1 79 rfl) rfl
theorem q95 : (Jvm.Cond.methodLink "RoleSessionsLaw" (28 : Nat) ({ cls := "RoleSessions", name := "fixed", desc := "(I)Z" } : Jvm.MethodName)) ∈ lw_all := lw_g (lw_at lw_m1 80 rfl) rfl
theorem q120 : (Jvm.Cond.methodLink "RoleSessionsLaw" (33 : Nat) ({ cls := "RoleSessions", name := "fit", desc := "()Z" } : Jvm.MethodName)) ∈ lw_all := lw_g (lw_at lw_m1 105 rfl) rfl
theorem q125 : (Jvm.Cond.methodLink "RoleSessionsLaw" (37 : Nat) ({ cls := "RoleSessions", name := "size", desc := "(I)I" } : Jvm.MethodName)) ∈ lw_all := lw_g (lw_at lw_m1 110 rfl) rfl
theorem q129 : (Jvm.Cond.methodLink "RoleSessionsLaw" (41 : Nat) ({ cls := "RoleSessions", name := "start", desc := "()Z" } : Jvm.MethodName)) ∈ lw_all := lw_g (lw_at lw_m1 114 rfl) rfl
theorem q134 : (Jvm.Cond.methodLink "RoleSessionsLaw" (45 : Nat) ({ cls := "RoleSessions", name := "runs", desc := "()Z" } : Jvm.MethodName)) ∈ lw_all := lw_g (lw_at lw_m1 119 rfl) rfl
theorem q138 : (Jvm.Cond.methodLink "RoleSessionsLaw" (49 : Nat) ({ cls := "RoleSessions", name := "possible", desc := "(III)Z" } : Jvm.MethodName)) ∈ lw_all := lw_g (lw_at lw_m1 123 rfl) rfl
theorem q142 : (Jvm.Cond.methodLink "RoleSessionsLaw" (54 : Nat) ({ cls := "RoleSessions", name := "send", desc := "(III)Z" } : Jvm.MethodName)) ∈ lw_all := lw_g (lw_at lw_m1 127 rfl) rfl
theorem q147 : (Jvm.Cond.methodLink "RoleSessionsLaw" (58 : Nat) ({ cls := "RoleSessions", name := "duty", desc := "(I)I" } : Jvm.MethodName)) ∈ lw_all := lw_g (lw_at lw_m1 132 rfl) rfl
theorem q151 : (Jvm.Cond.methodLink "RoleSessionsLaw" (62 : Nat) ({ cls := "RoleSessions", name := "labels", desc := "(I)I" } : Jvm.MethodName)) ∈ lw_all := lw_g (lw_at lw_m1 136 rfl) rfl
theorem q155 : (Jvm.Cond.methodLink "RoleSessionsLaw" (66 : Nat) ({ cls := "RoleSessions", name := "rest", desc := "(I)I" } : Jvm.MethodName)) ∈ lw_all := lw_g (lw_at lw_m1 140 rfl) rfl
theorem q159 : (Jvm.Cond.methodLink "RoleSessionsLaw" (70 : Nat) ({ cls := "RoleSessions", name := "choices", desc := "()I" } : Jvm.MethodName)) ∈ lw_all := lw_g (lw_at lw_m1 144 rfl) rfl
theorem q163 : (Jvm.Cond.methodLink "RoleSessionsLaw" (74 : Nat) ({ cls := "RoleSessions", name := "sent", desc := "()I" } : Jvm.MethodName)) ∈ lw_all := lw_g (lw_at lw_m1 148 rfl) rfl
theorem q167 : (Jvm.Cond.methodLink "RoleSessionsLaw" (78 : Nat) ({ cls := "RoleSessions", name := "over", desc := "()Z" } : Jvm.MethodName)) ∈ lw_all := lw_g (lw_at lw_m1 152 rfl) rfl
theorem q171 : (Jvm.Cond.classLink "RoleSessionsLaw" (10 : Nat) "RoleSessionsModel") ∈ lw_all := lw_g (lw_at lw_m1 156 rfl) rfl
theorem q173 : (Jvm.Cond.methodLink "RoleSessionsLaw" (12 : Nat) ({ cls := "RoleSessionsModel", name := "<init>", desc := "()V" } : Jvm.MethodName)) ∈ lw_all := lw_g (lw_at lw_m1 158 rfl) rfl
theorem q205 : (Jvm.Cond.methodLink "RoleSessionsLaw" (17 : Nat) ({ cls := "RoleSessionsModel", name := "write", desc := "(I)I" } : Jvm.MethodName)) ∈ lw_all := lw_g (lw_at lw_m1 190 rfl) rfl
theorem q225 : (Jvm.Cond.methodLink "RoleSessionsLaw" (22 : Nat) ({ cls := "RoleSessionsModel", name := "rub", desc := "()I" } : Jvm.MethodName)) ∈ lw_all := lw_g (lw_at lw_m1 210 rfl) rfl
theorem q229 : (Jvm.Cond.methodLink "RoleSessionsLaw" (27 : Nat) ({ cls := "RoleSessionsModel", name := "complete", desc := "()Z" } : Jvm.MethodName)) ∈ lw_all := lw_g (lw_at lw_m1 214 rfl) rfl
theorem q230 : (Jvm.Cond.methodLink "RoleSessionsLaw" (32 : Nat) ({ cls := "RoleSessionsModel", name := "fixed", desc := "(I)Z" } : Jvm.MethodName)) ∈ lw_all := lw_g (lw_at lw_m1 215 rfl) rfl
theorem q250 : (Jvm.Cond.methodLink "RoleSessionsLaw" (36 : Nat) ({ cls := "RoleSessionsModel", name := "fit", desc := "()Z" } : Jvm.MethodName)) ∈ lw_all := lw_g (lw_at lw_m1 235 rfl) rfl
theorem q255 : (Jvm.Cond.methodLink "RoleSessionsLaw" (40 : Nat) ({ cls := "RoleSessionsModel", name := "size", desc := "(I)I" } : Jvm.MethodName)) ∈ lw_all := lw_g (lw_at lw_m2 0 rfl) rfl
theorem q263 : (Jvm.Cond.methodLink "RoleSessionsLaw" (44 : Nat) ({ cls := "RoleSessionsModel", name := "start", desc := "()Z" } : Jvm.MethodName)) ∈ lw_all := lw_g (lw_at lw_m2 8 rfl) rfl
theorem q268 : (Jvm.Cond.methodLink "RoleSessionsLaw" (48 : Nat) ({ cls := "RoleSessionsModel", name := "runs", desc := "()Z" } : Jvm.MethodName)) ∈ lw_all := lw_g (lw_at lw_m2 13 rfl) rfl
theorem q272 : (Jvm.Cond.methodLink "RoleSessionsLaw" (53 : Nat) ({ cls := "RoleSessionsModel", name := "possible", desc := "(III)Z" } : Jvm.MethodName)) ∈ lw_all := lw_g (lw_at lw_m2 17 rfl) rfl
theorem q280 : (Jvm.Cond.methodLink "RoleSessionsLaw" (57 : Nat) ({ cls := "RoleSessionsModel", name := "send", desc := "(III)Z" } : Jvm.MethodName)) ∈ lw_all := lw_g (lw_at lw_m2 25 rfl) rfl
theorem q285 : (Jvm.Cond.methodLink "RoleSessionsLaw" (61 : Nat) ({ cls := "RoleSessionsModel", name := "duty", desc := "(I)I" } : Jvm.MethodName)) ∈ lw_all := lw_g (lw_at lw_m2 30 rfl) rfl
theorem q293 : (Jvm.Cond.methodLink "RoleSessionsLaw" (65 : Nat) ({ cls := "RoleSessionsModel", name := "labels", desc := "(I)I" } : Jvm.MethodName)) ∈ lw_all := lw_g (lw_at lw_m2 38 rfl) rfl
theorem q297 : (Jvm.Cond.methodLink "RoleSessionsLaw" (69 : Nat) ({ cls := "RoleSessionsModel", name := "rest", desc := "(I)I" } : Jvm.MethodName)) ∈ lw_all := lw_g (lw_at lw_m2 42 rfl) rfl
theorem q301 : (Jvm.Cond.methodLink "RoleSessionsLaw" (73 : Nat) ({ cls := "RoleSessionsModel", name := "choices", desc := "()I" } : Jvm.MethodName)) ∈ lw_all := lw_g (lw_at lw_m2 46 rfl) rfl
theorem q305 : (Jvm.Cond.methodLink "RoleSessionsLaw" (77 : Nat) ({ cls := "RoleSessionsModel", name := "sent", desc := "()I" } : Jvm.MethodName)) ∈ lw_all := lw_g (lw_at lw_m2 50 rfl) rfl
theorem q309 : (Jvm.Cond.methodLink "RoleSessionsLaw" (81 : Nat) ({ cls := "RoleSessionsModel", name := "over", desc := "()Z" } : Jvm.MethodName)) ∈ lw_all := lw_g (lw_at lw_m2 54 rfl) rfl
/-! the law's own entry -/
set_option maxRecDepth 100000
abbrev cL_law : ByteArray := code
theorem dL_law_0 : decode cL_law 0 = .ok (.new 7, 3) := by decide +kernel
theorem dL_law_3 : decode cL_law 3 = .ok (.dup, 1) := by decide +kernel
theorem dL_law_4 : decode cL_law 4 = .ok (.invokespecial 9, 3) := by decide +kernel
theorem dL_law_7 : decode cL_law 7 = .ok (.astore_n 1, 1) := by decide +kernel
theorem dL_law_8 : decode cL_law 8 = .ok (.new 10, 3) := by decide +kernel
theorem dL_law_11 : decode cL_law 11 = .ok (.dup, 1) := by decide +kernel
theorem dL_law_12 : decode cL_law 12 = .ok (.invokespecial 12, 3) := by decide +kernel
theorem dL_law_15 : decode cL_law 15 = .ok (.astore_n 2, 1) := by decide +kernel
theorem dL_law_16 : decode cL_law 16 = .ok (.iconst 0, 1) := by decide +kernel
theorem dL_law_17 : decode cL_law 17 = .ok (.istore_n 3, 1) := by decide +kernel
theorem dL_law_18 : decode cL_law 18 = .ok (.iload_n 3, 1) := by decide +kernel
theorem dL_law_19 : decode cL_law 19 = .ok (.aload_n 0, 1) := by decide +kernel
theorem dL_law_20 : decode cL_law 20 = .ok (.arraylength, 1) := by decide +kernel
theorem dL_law_21 : decode cL_law 21 = .ok (.iconst 4, 1) := by decide +kernel
theorem dL_law_22 : decode cL_law 22 = .ok (.isub, 1) := by decide +kernel
theorem dL_law_23 : decode cL_law 23 = .ok (.if_icmp .gt 423, 3) := by decide +kernel
theorem dL_law_26 : decode cL_law 26 = .ok (.aload_n 0, 1) := by decide +kernel
theorem dL_law_27 : decode cL_law 27 = .ok (.iload_n 3, 1) := by decide +kernel
theorem dL_law_28 : decode cL_law 28 = .ok (.iaload, 1) := by decide +kernel
theorem dL_law_29 : decode cL_law 29 = .ok (.bipush 15, 2) := by decide +kernel
theorem dL_law_31 : decode cL_law 31 = .ok (.iand, 1) := by decide +kernel
theorem dL_law_32 : decode cL_law 32 = .ok (.tableswitch 408 0 15 #[80, 103, 116, 129, 152, 165, 188, 201, 214, 257, 300, 323, 346, 369, 382, 395], 80) := by decide +kernel
theorem dL_law_112 : decode cL_law 112 = .ok (.aload_n 1, 1) := by decide +kernel
theorem dL_law_113 : decode cL_law 113 = .ok (.aload_n 0, 1) := by decide +kernel
theorem dL_law_114 : decode cL_law 114 = .ok (.iload_n 3, 1) := by decide +kernel
theorem dL_law_115 : decode cL_law 115 = .ok (.iconst 1, 1) := by decide +kernel
theorem dL_law_116 : decode cL_law 116 = .ok (.iadd, 1) := by decide +kernel
theorem dL_law_117 : decode cL_law 117 = .ok (.iaload, 1) := by decide +kernel
theorem dL_law_118 : decode cL_law 118 = .ok (.invokevirtual 13, 3) := by decide +kernel
theorem dL_law_121 : decode cL_law 121 = .ok (.aload_n 2, 1) := by decide +kernel
theorem dL_law_122 : decode cL_law 122 = .ok (.aload_n 0, 1) := by decide +kernel
theorem dL_law_123 : decode cL_law 123 = .ok (.iload_n 3, 1) := by decide +kernel
theorem dL_law_124 : decode cL_law 124 = .ok (.iconst 1, 1) := by decide +kernel
theorem dL_law_125 : decode cL_law 125 = .ok (.iadd, 1) := by decide +kernel
theorem dL_law_126 : decode cL_law 126 = .ok (.iaload, 1) := by decide +kernel
theorem dL_law_127 : decode cL_law 127 = .ok (.invokevirtual 17, 3) := by decide +kernel
theorem dL_law_130 : decode cL_law 130 = .ok (.if_icmp .eq 310, 3) := by decide +kernel
theorem dL_law_133 : decode cL_law 133 = .ok (.iconst 0, 1) := by decide +kernel
theorem dL_law_134 : decode cL_law 134 = .ok (.ireturn, 1) := by decide +kernel
theorem dL_law_135 : decode cL_law 135 = .ok (.aload_n 1, 1) := by decide +kernel
theorem dL_law_136 : decode cL_law 136 = .ok (.invokevirtual 18, 3) := by decide +kernel
theorem dL_law_139 : decode cL_law 139 = .ok (.aload_n 2, 1) := by decide +kernel
theorem dL_law_140 : decode cL_law 140 = .ok (.invokevirtual 22, 3) := by decide +kernel
theorem dL_law_143 : decode cL_law 143 = .ok (.if_icmp .eq 297, 3) := by decide +kernel
theorem dL_law_146 : decode cL_law 146 = .ok (.iconst 0, 1) := by decide +kernel
theorem dL_law_147 : decode cL_law 147 = .ok (.ireturn, 1) := by decide +kernel
theorem dL_law_148 : decode cL_law 148 = .ok (.aload_n 1, 1) := by decide +kernel
theorem dL_law_149 : decode cL_law 149 = .ok (.invokevirtual 23, 3) := by decide +kernel
theorem dL_law_152 : decode cL_law 152 = .ok (.aload_n 2, 1) := by decide +kernel
theorem dL_law_153 : decode cL_law 153 = .ok (.invokevirtual 27, 3) := by decide +kernel
theorem dL_law_156 : decode cL_law 156 = .ok (.if_icmp .eq 284, 3) := by decide +kernel
theorem dL_law_159 : decode cL_law 159 = .ok (.iconst 0, 1) := by decide +kernel
theorem dL_law_160 : decode cL_law 160 = .ok (.ireturn, 1) := by decide +kernel
theorem dL_law_161 : decode cL_law 161 = .ok (.aload_n 1, 1) := by decide +kernel
theorem dL_law_162 : decode cL_law 162 = .ok (.aload_n 0, 1) := by decide +kernel
theorem dL_law_163 : decode cL_law 163 = .ok (.iload_n 3, 1) := by decide +kernel
theorem dL_law_164 : decode cL_law 164 = .ok (.iconst 1, 1) := by decide +kernel
theorem dL_law_165 : decode cL_law 165 = .ok (.iadd, 1) := by decide +kernel
theorem dL_law_166 : decode cL_law 166 = .ok (.iaload, 1) := by decide +kernel
theorem dL_law_167 : decode cL_law 167 = .ok (.invokevirtual 28, 3) := by decide +kernel
theorem dL_law_170 : decode cL_law 170 = .ok (.aload_n 2, 1) := by decide +kernel
theorem dL_law_171 : decode cL_law 171 = .ok (.aload_n 0, 1) := by decide +kernel
theorem dL_law_172 : decode cL_law 172 = .ok (.iload_n 3, 1) := by decide +kernel
theorem dL_law_173 : decode cL_law 173 = .ok (.iconst 1, 1) := by decide +kernel
theorem dL_law_174 : decode cL_law 174 = .ok (.iadd, 1) := by decide +kernel
theorem dL_law_175 : decode cL_law 175 = .ok (.iaload, 1) := by decide +kernel
theorem dL_law_176 : decode cL_law 176 = .ok (.invokevirtual 32, 3) := by decide +kernel
theorem dL_law_179 : decode cL_law 179 = .ok (.if_icmp .eq 261, 3) := by decide +kernel
theorem dL_law_182 : decode cL_law 182 = .ok (.iconst 0, 1) := by decide +kernel
theorem dL_law_183 : decode cL_law 183 = .ok (.ireturn, 1) := by decide +kernel
theorem dL_law_184 : decode cL_law 184 = .ok (.aload_n 1, 1) := by decide +kernel
theorem dL_law_185 : decode cL_law 185 = .ok (.invokevirtual 33, 3) := by decide +kernel
theorem dL_law_188 : decode cL_law 188 = .ok (.aload_n 2, 1) := by decide +kernel
theorem dL_law_189 : decode cL_law 189 = .ok (.invokevirtual 36, 3) := by decide +kernel
theorem dL_law_192 : decode cL_law 192 = .ok (.if_icmp .eq 248, 3) := by decide +kernel
theorem dL_law_195 : decode cL_law 195 = .ok (.iconst 0, 1) := by decide +kernel
theorem dL_law_196 : decode cL_law 196 = .ok (.ireturn, 1) := by decide +kernel
theorem dL_law_197 : decode cL_law 197 = .ok (.aload_n 1, 1) := by decide +kernel
theorem dL_law_198 : decode cL_law 198 = .ok (.aload_n 0, 1) := by decide +kernel
theorem dL_law_199 : decode cL_law 199 = .ok (.iload_n 3, 1) := by decide +kernel
theorem dL_law_200 : decode cL_law 200 = .ok (.iconst 1, 1) := by decide +kernel
theorem dL_law_201 : decode cL_law 201 = .ok (.iadd, 1) := by decide +kernel
theorem dL_law_202 : decode cL_law 202 = .ok (.iaload, 1) := by decide +kernel
theorem dL_law_203 : decode cL_law 203 = .ok (.invokevirtual 37, 3) := by decide +kernel
theorem dL_law_206 : decode cL_law 206 = .ok (.aload_n 2, 1) := by decide +kernel
theorem dL_law_207 : decode cL_law 207 = .ok (.aload_n 0, 1) := by decide +kernel
theorem dL_law_208 : decode cL_law 208 = .ok (.iload_n 3, 1) := by decide +kernel
theorem dL_law_209 : decode cL_law 209 = .ok (.iconst 1, 1) := by decide +kernel
theorem dL_law_210 : decode cL_law 210 = .ok (.iadd, 1) := by decide +kernel
theorem dL_law_211 : decode cL_law 211 = .ok (.iaload, 1) := by decide +kernel
theorem dL_law_212 : decode cL_law 212 = .ok (.invokevirtual 40, 3) := by decide +kernel
theorem dL_law_215 : decode cL_law 215 = .ok (.if_icmp .eq 225, 3) := by decide +kernel
theorem dL_law_218 : decode cL_law 218 = .ok (.iconst 0, 1) := by decide +kernel
theorem dL_law_219 : decode cL_law 219 = .ok (.ireturn, 1) := by decide +kernel
theorem dL_law_220 : decode cL_law 220 = .ok (.aload_n 1, 1) := by decide +kernel
theorem dL_law_221 : decode cL_law 221 = .ok (.invokevirtual 41, 3) := by decide +kernel
theorem dL_law_224 : decode cL_law 224 = .ok (.aload_n 2, 1) := by decide +kernel
theorem dL_law_225 : decode cL_law 225 = .ok (.invokevirtual 44, 3) := by decide +kernel
theorem dL_law_228 : decode cL_law 228 = .ok (.if_icmp .eq 212, 3) := by decide +kernel
theorem dL_law_231 : decode cL_law 231 = .ok (.iconst 0, 1) := by decide +kernel
theorem dL_law_232 : decode cL_law 232 = .ok (.ireturn, 1) := by decide +kernel
theorem dL_law_233 : decode cL_law 233 = .ok (.aload_n 1, 1) := by decide +kernel
theorem dL_law_234 : decode cL_law 234 = .ok (.invokevirtual 45, 3) := by decide +kernel
theorem dL_law_237 : decode cL_law 237 = .ok (.aload_n 2, 1) := by decide +kernel
theorem dL_law_238 : decode cL_law 238 = .ok (.invokevirtual 48, 3) := by decide +kernel
theorem dL_law_241 : decode cL_law 241 = .ok (.if_icmp .eq 199, 3) := by decide +kernel
theorem dL_law_244 : decode cL_law 244 = .ok (.iconst 0, 1) := by decide +kernel
theorem dL_law_245 : decode cL_law 245 = .ok (.ireturn, 1) := by decide +kernel
theorem dL_law_246 : decode cL_law 246 = .ok (.aload_n 1, 1) := by decide +kernel
theorem dL_law_247 : decode cL_law 247 = .ok (.aload_n 0, 1) := by decide +kernel
theorem dL_law_248 : decode cL_law 248 = .ok (.iload_n 3, 1) := by decide +kernel
theorem dL_law_249 : decode cL_law 249 = .ok (.iconst 1, 1) := by decide +kernel
theorem dL_law_250 : decode cL_law 250 = .ok (.iadd, 1) := by decide +kernel
theorem dL_law_251 : decode cL_law 251 = .ok (.iaload, 1) := by decide +kernel
theorem dL_law_252 : decode cL_law 252 = .ok (.aload_n 0, 1) := by decide +kernel
theorem dL_law_253 : decode cL_law 253 = .ok (.iload_n 3, 1) := by decide +kernel
theorem dL_law_254 : decode cL_law 254 = .ok (.iconst 2, 1) := by decide +kernel
theorem dL_law_255 : decode cL_law 255 = .ok (.iadd, 1) := by decide +kernel
theorem dL_law_256 : decode cL_law 256 = .ok (.iaload, 1) := by decide +kernel
theorem dL_law_257 : decode cL_law 257 = .ok (.aload_n 0, 1) := by decide +kernel
theorem dL_law_258 : decode cL_law 258 = .ok (.iload_n 3, 1) := by decide +kernel
theorem dL_law_259 : decode cL_law 259 = .ok (.iconst 3, 1) := by decide +kernel
theorem dL_law_260 : decode cL_law 260 = .ok (.iadd, 1) := by decide +kernel
theorem dL_law_261 : decode cL_law 261 = .ok (.iaload, 1) := by decide +kernel
theorem dL_law_262 : decode cL_law 262 = .ok (.invokevirtual 49, 3) := by decide +kernel
theorem dL_law_265 : decode cL_law 265 = .ok (.aload_n 2, 1) := by decide +kernel
theorem dL_law_266 : decode cL_law 266 = .ok (.aload_n 0, 1) := by decide +kernel
theorem dL_law_267 : decode cL_law 267 = .ok (.iload_n 3, 1) := by decide +kernel
theorem dL_law_268 : decode cL_law 268 = .ok (.iconst 1, 1) := by decide +kernel
theorem dL_law_269 : decode cL_law 269 = .ok (.iadd, 1) := by decide +kernel
theorem dL_law_270 : decode cL_law 270 = .ok (.iaload, 1) := by decide +kernel
theorem dL_law_271 : decode cL_law 271 = .ok (.aload_n 0, 1) := by decide +kernel
theorem dL_law_272 : decode cL_law 272 = .ok (.iload_n 3, 1) := by decide +kernel
theorem dL_law_273 : decode cL_law 273 = .ok (.iconst 2, 1) := by decide +kernel
theorem dL_law_274 : decode cL_law 274 = .ok (.iadd, 1) := by decide +kernel
theorem dL_law_275 : decode cL_law 275 = .ok (.iaload, 1) := by decide +kernel
theorem dL_law_276 : decode cL_law 276 = .ok (.aload_n 0, 1) := by decide +kernel
theorem dL_law_277 : decode cL_law 277 = .ok (.iload_n 3, 1) := by decide +kernel
theorem dL_law_278 : decode cL_law 278 = .ok (.iconst 3, 1) := by decide +kernel
theorem dL_law_279 : decode cL_law 279 = .ok (.iadd, 1) := by decide +kernel
theorem dL_law_280 : decode cL_law 280 = .ok (.iaload, 1) := by decide +kernel
theorem dL_law_281 : decode cL_law 281 = .ok (.invokevirtual 53, 3) := by decide +kernel
theorem dL_law_284 : decode cL_law 284 = .ok (.if_icmp .eq 156, 3) := by decide +kernel
theorem dL_law_287 : decode cL_law 287 = .ok (.iconst 0, 1) := by decide +kernel
theorem dL_law_288 : decode cL_law 288 = .ok (.ireturn, 1) := by decide +kernel
theorem dL_law_289 : decode cL_law 289 = .ok (.aload_n 1, 1) := by decide +kernel
theorem dL_law_290 : decode cL_law 290 = .ok (.aload_n 0, 1) := by decide +kernel
theorem dL_law_291 : decode cL_law 291 = .ok (.iload_n 3, 1) := by decide +kernel
theorem dL_law_292 : decode cL_law 292 = .ok (.iconst 1, 1) := by decide +kernel
theorem dL_law_293 : decode cL_law 293 = .ok (.iadd, 1) := by decide +kernel
theorem dL_law_294 : decode cL_law 294 = .ok (.iaload, 1) := by decide +kernel
theorem dL_law_295 : decode cL_law 295 = .ok (.aload_n 0, 1) := by decide +kernel
theorem dL_law_296 : decode cL_law 296 = .ok (.iload_n 3, 1) := by decide +kernel
theorem dL_law_297 : decode cL_law 297 = .ok (.iconst 2, 1) := by decide +kernel
theorem dL_law_298 : decode cL_law 298 = .ok (.iadd, 1) := by decide +kernel
theorem dL_law_299 : decode cL_law 299 = .ok (.iaload, 1) := by decide +kernel
theorem dL_law_300 : decode cL_law 300 = .ok (.aload_n 0, 1) := by decide +kernel
theorem dL_law_301 : decode cL_law 301 = .ok (.iload_n 3, 1) := by decide +kernel
theorem dL_law_302 : decode cL_law 302 = .ok (.iconst 3, 1) := by decide +kernel
theorem dL_law_303 : decode cL_law 303 = .ok (.iadd, 1) := by decide +kernel
theorem dL_law_304 : decode cL_law 304 = .ok (.iaload, 1) := by decide +kernel
theorem dL_law_305 : decode cL_law 305 = .ok (.invokevirtual 54, 3) := by decide +kernel
theorem dL_law_308 : decode cL_law 308 = .ok (.aload_n 2, 1) := by decide +kernel
theorem dL_law_309 : decode cL_law 309 = .ok (.aload_n 0, 1) := by decide +kernel
theorem dL_law_310 : decode cL_law 310 = .ok (.iload_n 3, 1) := by decide +kernel
theorem dL_law_311 : decode cL_law 311 = .ok (.iconst 1, 1) := by decide +kernel
theorem dL_law_312 : decode cL_law 312 = .ok (.iadd, 1) := by decide +kernel
theorem dL_law_313 : decode cL_law 313 = .ok (.iaload, 1) := by decide +kernel
theorem dL_law_314 : decode cL_law 314 = .ok (.aload_n 0, 1) := by decide +kernel
theorem dL_law_315 : decode cL_law 315 = .ok (.iload_n 3, 1) := by decide +kernel
theorem dL_law_316 : decode cL_law 316 = .ok (.iconst 2, 1) := by decide +kernel
theorem dL_law_317 : decode cL_law 317 = .ok (.iadd, 1) := by decide +kernel
theorem dL_law_318 : decode cL_law 318 = .ok (.iaload, 1) := by decide +kernel
theorem dL_law_319 : decode cL_law 319 = .ok (.aload_n 0, 1) := by decide +kernel
theorem dL_law_320 : decode cL_law 320 = .ok (.iload_n 3, 1) := by decide +kernel
theorem dL_law_321 : decode cL_law 321 = .ok (.iconst 3, 1) := by decide +kernel
theorem dL_law_322 : decode cL_law 322 = .ok (.iadd, 1) := by decide +kernel
theorem dL_law_323 : decode cL_law 323 = .ok (.iaload, 1) := by decide +kernel
theorem dL_law_324 : decode cL_law 324 = .ok (.invokevirtual 57, 3) := by decide +kernel
theorem dL_law_327 : decode cL_law 327 = .ok (.if_icmp .eq 113, 3) := by decide +kernel
theorem dL_law_330 : decode cL_law 330 = .ok (.iconst 0, 1) := by decide +kernel
theorem dL_law_331 : decode cL_law 331 = .ok (.ireturn, 1) := by decide +kernel
theorem dL_law_332 : decode cL_law 332 = .ok (.aload_n 1, 1) := by decide +kernel
theorem dL_law_333 : decode cL_law 333 = .ok (.aload_n 0, 1) := by decide +kernel
theorem dL_law_334 : decode cL_law 334 = .ok (.iload_n 3, 1) := by decide +kernel
theorem dL_law_335 : decode cL_law 335 = .ok (.iconst 1, 1) := by decide +kernel
theorem dL_law_336 : decode cL_law 336 = .ok (.iadd, 1) := by decide +kernel
theorem dL_law_337 : decode cL_law 337 = .ok (.iaload, 1) := by decide +kernel
theorem dL_law_338 : decode cL_law 338 = .ok (.invokevirtual 58, 3) := by decide +kernel
theorem dL_law_341 : decode cL_law 341 = .ok (.aload_n 2, 1) := by decide +kernel
theorem dL_law_342 : decode cL_law 342 = .ok (.aload_n 0, 1) := by decide +kernel
theorem dL_law_343 : decode cL_law 343 = .ok (.iload_n 3, 1) := by decide +kernel
theorem dL_law_344 : decode cL_law 344 = .ok (.iconst 1, 1) := by decide +kernel
theorem dL_law_345 : decode cL_law 345 = .ok (.iadd, 1) := by decide +kernel
theorem dL_law_346 : decode cL_law 346 = .ok (.iaload, 1) := by decide +kernel
theorem dL_law_347 : decode cL_law 347 = .ok (.invokevirtual 61, 3) := by decide +kernel
theorem dL_law_350 : decode cL_law 350 = .ok (.if_icmp .eq 90, 3) := by decide +kernel
theorem dL_law_353 : decode cL_law 353 = .ok (.iconst 0, 1) := by decide +kernel
theorem dL_law_354 : decode cL_law 354 = .ok (.ireturn, 1) := by decide +kernel
theorem dL_law_355 : decode cL_law 355 = .ok (.aload_n 1, 1) := by decide +kernel
theorem dL_law_356 : decode cL_law 356 = .ok (.aload_n 0, 1) := by decide +kernel
theorem dL_law_357 : decode cL_law 357 = .ok (.iload_n 3, 1) := by decide +kernel
theorem dL_law_358 : decode cL_law 358 = .ok (.iconst 1, 1) := by decide +kernel
theorem dL_law_359 : decode cL_law 359 = .ok (.iadd, 1) := by decide +kernel
theorem dL_law_360 : decode cL_law 360 = .ok (.iaload, 1) := by decide +kernel
theorem dL_law_361 : decode cL_law 361 = .ok (.invokevirtual 62, 3) := by decide +kernel
theorem dL_law_364 : decode cL_law 364 = .ok (.aload_n 2, 1) := by decide +kernel
theorem dL_law_365 : decode cL_law 365 = .ok (.aload_n 0, 1) := by decide +kernel
theorem dL_law_366 : decode cL_law 366 = .ok (.iload_n 3, 1) := by decide +kernel
theorem dL_law_367 : decode cL_law 367 = .ok (.iconst 1, 1) := by decide +kernel
theorem dL_law_368 : decode cL_law 368 = .ok (.iadd, 1) := by decide +kernel
theorem dL_law_369 : decode cL_law 369 = .ok (.iaload, 1) := by decide +kernel
theorem dL_law_370 : decode cL_law 370 = .ok (.invokevirtual 65, 3) := by decide +kernel
theorem dL_law_373 : decode cL_law 373 = .ok (.if_icmp .eq 67, 3) := by decide +kernel
theorem dL_law_376 : decode cL_law 376 = .ok (.iconst 0, 1) := by decide +kernel
theorem dL_law_377 : decode cL_law 377 = .ok (.ireturn, 1) := by decide +kernel
theorem dL_law_378 : decode cL_law 378 = .ok (.aload_n 1, 1) := by decide +kernel
theorem dL_law_379 : decode cL_law 379 = .ok (.aload_n 0, 1) := by decide +kernel
theorem dL_law_380 : decode cL_law 380 = .ok (.iload_n 3, 1) := by decide +kernel
theorem dL_law_381 : decode cL_law 381 = .ok (.iconst 1, 1) := by decide +kernel
theorem dL_law_382 : decode cL_law 382 = .ok (.iadd, 1) := by decide +kernel
theorem dL_law_383 : decode cL_law 383 = .ok (.iaload, 1) := by decide +kernel
theorem dL_law_384 : decode cL_law 384 = .ok (.invokevirtual 66, 3) := by decide +kernel
theorem dL_law_387 : decode cL_law 387 = .ok (.aload_n 2, 1) := by decide +kernel
theorem dL_law_388 : decode cL_law 388 = .ok (.aload_n 0, 1) := by decide +kernel
theorem dL_law_389 : decode cL_law 389 = .ok (.iload_n 3, 1) := by decide +kernel
theorem dL_law_390 : decode cL_law 390 = .ok (.iconst 1, 1) := by decide +kernel
theorem dL_law_391 : decode cL_law 391 = .ok (.iadd, 1) := by decide +kernel
theorem dL_law_392 : decode cL_law 392 = .ok (.iaload, 1) := by decide +kernel
theorem dL_law_393 : decode cL_law 393 = .ok (.invokevirtual 69, 3) := by decide +kernel
theorem dL_law_396 : decode cL_law 396 = .ok (.if_icmp .eq 44, 3) := by decide +kernel
theorem dL_law_399 : decode cL_law 399 = .ok (.iconst 0, 1) := by decide +kernel
theorem dL_law_400 : decode cL_law 400 = .ok (.ireturn, 1) := by decide +kernel
theorem dL_law_401 : decode cL_law 401 = .ok (.aload_n 1, 1) := by decide +kernel
theorem dL_law_402 : decode cL_law 402 = .ok (.invokevirtual 70, 3) := by decide +kernel
theorem dL_law_405 : decode cL_law 405 = .ok (.aload_n 2, 1) := by decide +kernel
theorem dL_law_406 : decode cL_law 406 = .ok (.invokevirtual 73, 3) := by decide +kernel
theorem dL_law_409 : decode cL_law 409 = .ok (.if_icmp .eq 31, 3) := by decide +kernel
theorem dL_law_412 : decode cL_law 412 = .ok (.iconst 0, 1) := by decide +kernel
theorem dL_law_413 : decode cL_law 413 = .ok (.ireturn, 1) := by decide +kernel
theorem dL_law_414 : decode cL_law 414 = .ok (.aload_n 1, 1) := by decide +kernel
theorem dL_law_415 : decode cL_law 415 = .ok (.invokevirtual 74, 3) := by decide +kernel
theorem dL_law_418 : decode cL_law 418 = .ok (.aload_n 2, 1) := by decide +kernel
theorem dL_law_419 : decode cL_law 419 = .ok (.invokevirtual 77, 3) := by decide +kernel
theorem dL_law_422 : decode cL_law 422 = .ok (.if_icmp .eq 18, 3) := by decide +kernel
theorem dL_law_425 : decode cL_law 425 = .ok (.iconst 0, 1) := by decide +kernel
theorem dL_law_426 : decode cL_law 426 = .ok (.ireturn, 1) := by decide +kernel
theorem dL_law_427 : decode cL_law 427 = .ok (.aload_n 1, 1) := by decide +kernel
theorem dL_law_428 : decode cL_law 428 = .ok (.invokevirtual 78, 3) := by decide +kernel
theorem dL_law_431 : decode cL_law 431 = .ok (.aload_n 2, 1) := by decide +kernel
theorem dL_law_432 : decode cL_law 432 = .ok (.invokevirtual 81, 3) := by decide +kernel
theorem dL_law_435 : decode cL_law 435 = .ok (.if_icmp .eq 5, 3) := by decide +kernel
theorem dL_law_438 : decode cL_law 438 = .ok (.iconst 0, 1) := by decide +kernel
theorem dL_law_439 : decode cL_law 439 = .ok (.ireturn, 1) := by decide +kernel
theorem dL_law_440 : decode cL_law 440 = .ok (.iinc 3 4, 3) := by decide +kernel
theorem dL_law_443 : decode cL_law 443 = .ok (.goto (-425), 3) := by decide +kernel
theorem dL_law_446 : decode cL_law 446 = .ok (.iconst 1, 1) := by decide +kernel
theorem dL_law_447 : decode cL_law 447 = .ok (.ireturn, 1) := by decide +kernel
/-! the room that each method asks: frames, locals (no method but the constructors makes a cell) -/
abbrev rm_X0_change : Room := { frames := 0, cells := 0, slots := 0, locals := 0 }
abbrev rm_X0_choices : Room := { frames := 2, cells := 0, slots := 0, locals := 46 }
abbrev rm_X0_complete : Room := { frames := 2, cells := 0, slots := 0, locals := 42 }
abbrev rm_X0_duty : Room := { frames := 1, cells := 0, slots := 0, locals := 20 }
abbrev rm_X0_fit : Room := { frames := 5, cells := 0, slots := 0, locals := 108 }
abbrev rm_X0_fixed : Room := { frames := 4, cells := 0, slots := 0, locals := 87 }
abbrev rm_X0_isRole : Room := { frames := 0, cells := 0, slots := 0, locals := 0 }
abbrev rm_X0_isToken : Room := { frames := 0, cells := 0, slots := 0, locals := 0 }
abbrev rm_X0_labels : Room := { frames := 1, cells := 0, slots := 0, locals := 20 }
abbrev rm_X0_labelsOf : Room := { frames := 0, cells := 0, slots := 0, locals := 0 }
abbrev rm_X0_learn : Room := { frames := 3, cells := 0, slots := 0, locals := 62 }
abbrev rm_X0_missing : Room := { frames := 1, cells := 0, slots := 0, locals := 20 }
abbrev rm_X0_over : Room := { frames := 0, cells := 0, slots := 0, locals := 0 }
abbrev rm_X0_partFor : Room := { frames := 0, cells := 0, slots := 0, locals := 0 }
abbrev rm_X0_possible : Room := { frames := 1, cells := 0, slots := 0, locals := 20 }
abbrev rm_X0_project : Room := { frames := 1, cells := 0, slots := 0, locals := 26 }
abbrev rm_X0_receiverOf : Room := { frames := 0, cells := 0, slots := 0, locals := 0 }
abbrev rm_X0_rest : Room := { frames := 1, cells := 0, slots := 0, locals := 20 }
abbrev rm_X0_rub : Room := { frames := 1, cells := 0, slots := 0, locals := 20 }
abbrev rm_X0_runs : Room := { frames := 0, cells := 0, slots := 0, locals := 0 }
abbrev rm_X0_send : Room := { frames := 2, cells := 0, slots := 0, locals := 46 }
abbrev rm_X0_senderOf : Room := { frames := 0, cells := 0, slots := 0, locals := 0 }
abbrev rm_X0_sent : Room := { frames := 0, cells := 0, slots := 0, locals := 0 }
abbrev rm_X0_size : Room := { frames := 5, cells := 0, slots := 0, locals := 108 }
abbrev rm_X0_start : Room := { frames := 6, cells := 0, slots := 0, locals := 128 }
abbrev rm_X0_write : Room := { frames := 3, cells := 0, slots := 0, locals := 62 }
abbrev rm_X1_behind : Room := { frames := 1, cells := 0, slots := 0, locals := 21 }
abbrev rm_X1_choices : Room := { frames := 3, cells := 0, slots := 0, locals := 71 }
abbrev rm_X1_complete : Room := { frames := 1, cells := 0, slots := 0, locals := 21 }
abbrev rm_X1_duty : Room := { frames := 3, cells := 0, slots := 0, locals := 73 }
abbrev rm_X1_first : Room := { frames := 2, cells := 0, slots := 0, locals := 52 }
abbrev rm_X1_fit : Room := { frames := 3, cells := 0, slots := 0, locals := 73 }
abbrev rm_X1_fixed : Room := { frames := 2, cells := 0, slots := 0, locals := 52 }
abbrev rm_X1_front : Room := { frames := 0, cells := 0, slots := 0, locals := 0 }
abbrev rm_X1_join : Room := { frames := 0, cells := 0, slots := 0, locals := 0 }
abbrev rm_X1_labels : Room := { frames := 3, cells := 0, slots := 0, locals := 73 }
abbrev rm_X1_measure : Room := { frames := 0, cells := 0, slots := 0, locals := 0 }
abbrev rm_X1_over : Room := { frames := 4, cells := 0, slots := 0, locals := 95 }
abbrev rm_X1_plans : Room := { frames := 0, cells := 0, slots := 0, locals := 0 }
abbrev rm_X1_possible : Room := { frames := 2, cells := 0, slots := 0, locals := 44 }
abbrev rm_X1_read : Room := { frames := 1, cells := 0, slots := 0, locals := 24 }
abbrev rm_X1_receiver : Room := { frames := 0, cells := 0, slots := 0, locals := 0 }
abbrev rm_X1_rest : Room := { frames := 3, cells := 0, slots := 0, locals := 73 }
abbrev rm_X1_role : Room := { frames := 0, cells := 0, slots := 0, locals := 0 }
abbrev rm_X1_rub : Room := { frames := 0, cells := 0, slots := 0, locals := 0 }
abbrev rm_X1_runs : Room := { frames := 0, cells := 0, slots := 0, locals := 0 }
abbrev rm_X1_send : Room := { frames := 3, cells := 0, slots := 0, locals := 71 }
abbrev rm_X1_sender : Room := { frames := 0, cells := 0, slots := 0, locals := 0 }
abbrev rm_X1_sent : Room := { frames := 0, cells := 0, slots := 0, locals := 0 }
abbrev rm_X1_size : Room := { frames := 3, cells := 0, slots := 0, locals := 73 }
abbrev rm_X1_start : Room := { frames := 4, cells := 0, slots := 0, locals := 93 }
abbrev rm_X1_write : Room := { frames := 2, cells := 0, slots := 0, locals := 43 }
end
section
/-! THE JUDGEMENT rs_J: the machine at a pc, with named locals, an operand stack and a pure picture S of the world. Rows rj_..: one an instruction. -/
abbrev rs_St : Type := Nat → Nat → Int32
abbrev rs_cl : List vw_C := [(RX0, TX0, 13), (RX1, TX1, 9)]
/-- p, e, R, s, m, args, below, meth, c, Q, A, nL, cells, slots -/
abbrev rs_Ev : Type := Program × Env × Room × State × MethodId × Array Value × List Frame × Method × Code × (State → Prop) × (Nat → Prop) × Nat × Nat × Nat
abbrev rs_Gt (σ : Type) : Type := Launch × va_G × List (ClassId × FieldType) × (σ → va_W)
def rs_lk : List (Nat × Value) → Nat → Option Value
  | [], _ => none
  | (j, v) :: r, i => bif Nat.beq j i then some v else rs_lk r i
theorem rs_lk_eq (j i : Nat) (v : Value) (r : List (Nat × Value)) : rs_lk ((j, v) :: r) i = if j = i then some v else rs_lk r i := by
  show (bif Nat.beq j i then some v else rs_lk r i) = _
  by_cases h : j = i
  · subst h
    simp
  · have h2 : Nat.beq j i = false := by
      cases hb : Nat.beq j i with
      | false => rfl
      | true => exact absurd (Nat.eq_of_beq_eq_true hb) h
    rw [h2, if_neg h]
    rfl
theorem rs_lk_mem {lv : List (Nat × Value)} {i : Nat} {v : Value} (h : rs_lk lv i = some v) : (i, v) ∈ lv := by
  induction lv with
  | nil => cases h
  | cons q r ih =>
    obtain ⟨j, w⟩ := q
    rw [rs_lk_eq] at h
    by_cases hj : j = i
    · rw [if_pos hj] at h
      cases h
      rw [hj]
      exact List.mem_cons_self
    · rw [if_neg hj] at h
      exact List.mem_cons_of_mem _ (ih h)
def rs_lh (ls : Array Slot) (nL : Nat) (lv : List (Nat × Value)) : Prop := ls.size = nL ∧ lv_wf ls ∧ ∀ i v, rs_lk lv i = some v → ls[i]? = some (.val v) ∧ v.category = 1
theorem rs_lh_at {ls : Array Slot} {nL : Nat} {lv : List (Nat × Value)} (h : rs_lh ls nL lv) {i : Nat} {v : Value} (hl : rs_lk lv i = some v) : ls[i]? = some (.val v) := (h.2.2 i v hl).1
theorem rs_lh_has {ls : Array Slot} {nL : Nat} {lv : List (Nat × Value)} (h : rs_lh ls nL lv) : lv_has ls nL (lv.filter (fun q => decide (rs_lk lv q.1 = some q.2))) := by
  refine ⟨h.1, h.2.1, fun q hq => ?_⟩
  have h1 := (List.mem_filter.mp hq).2
  exact (h.2.2 q.1 q.2 (of_decide_eq_true h1)).1
theorem rs_lh_store {ls ls' : Array Slot} {nL : Nat} {lv : List (Nat × Value)} {i : Nat} {v : Value} (h : rs_lh ls nL lv) (hc : v.category = 1) (h' : lv_has ls' nL ((i, v) :: (lv.filter (fun q => decide (rs_lk lv q.1 = some q.2))).filter (fun q => !(q.1 == i) && !(q.1 + 1 == i && q.2.category == 2)))) : rs_lh ls' nL ((i, v) :: lv) := by
  refine ⟨h'.1, h'.2.1, fun j w hj => ?_⟩
  rw [rs_lk_eq] at hj
  by_cases hi : i = j
  · rw [if_pos hi] at hj
    cases hj
    refine ⟨?_, hc⟩
    have := h'.2.2 (i, v) List.mem_cons_self
    rw [← hi]
    exact this
  · rw [if_neg hi] at hj
    have hcat := (h.2.2 j w hj).2
    refine ⟨?_, hcat⟩
    refine h'.2.2 (j, w) (List.mem_cons_of_mem _ (List.mem_filter.mpr ⟨List.mem_filter.mpr ⟨rs_lk_mem hj, decide_eq_true hj⟩, ?_⟩))
    have h1 : (j == i) = false := by simp; exact fun e => hi e.symm
    simp [h1, hcat]
def rs_J {σ : Type} (G : rs_Gt σ) (E : rs_Ev) (pc : Nat) (lv : List (Nat × Value)) (st : List Value) (S : σ) : Prop :=
  match G, E with
  | (l, D, tys, w), (p, e, R, s, m, args, below, meth, c, Q, A, nL, cells, slots) =>
    ∀ (H : Heap) (locs : List Loc) (ls : Array Slot), va_P D rs_cl (w S) H → va_D A (w S) → va_S A s.heap H locs → rs_lh ls nL lv → W p l e R s m args below meth c H locs cells slots Q (F0 m pc ls st)
def rs_Fx (E : rs_Ev) (cc : ByteArray) (own : String) (n : Nat) (rm : Room) : Prop :=
  match E with
  | (p, _, R, s, m, args, _, _, c, _, _, nL, cells, slots) => p.tables.exec = Jvm.exec ∧ c.code = cc ∧ c.maxLocals = n ∧ nL = n ∧ s.vm.findClass own = some m.cls ∧ (∀ w ∈ lw_all, w.before args s = true) ∧ R = rm ∧ cells ≤ R.cells ∧ slots ≤ R.slots
def rs_Kx {σ : Type} (G : rs_Gt σ) (E : rs_Ev) : Prop :=
  match G, E with
  | (_, D, tys, _), (_, _, _, s, _, _, _, _, _, _, A, _, _, _) => va_K D rs_cl tys s ∧ ∀ q, s.heap.size ≤ q → A q
def rs_Ri {σ : Type} (G : rs_Gt σ) (E : rs_Ev) (cc : ByteArray) (post : Int32 → σ → Prop) : Prop := ∀ (pc : Nat) (lv : List (Nat × Value)) (r : Int32) (S : σ), decode cc pc = .ok (.ireturn, 1) → post r S → rs_J G E pc lv [.int r] S
def rs_Rz {σ : Type} (G : rs_Gt σ) (E : rs_Ev) (cc : ByteArray) (post : Int32 → σ → Prop) : Prop := ∀ (pc : Nat) (lv : List (Nat × Value)) (r : Int32) (S : σ), decode cc pc = .ok (.ireturn, 1) → r &&& 1 = r → post r S → rs_J G E pc lv [.int r] S
def rs_Rv {σ : Type} (G : rs_Gt σ) (E : rs_Ev) (cc : ByteArray) (post : σ → Prop) : Prop := ∀ (pc : Nat) (lv : List (Nat × Value)) (S : σ), decode cc pc = .ok (.return_, 1) → post S → rs_J G E pc lv [] S
def rs_Sb (lv : List (Nat × Value)) : List (Nat × Value) → Prop
  | [] => True
  | q :: r => rs_lk lv q.1 = some q.2 ∧ rs_Sb lv r
theorem rs_Sb_mem {lv lv' : List (Nat × Value)} (h : rs_Sb lv lv') {i : Nat} {v : Value} (hm : (i, v) ∈ lv') : rs_lk lv i = some v := by
  induction lv' with
  | nil => cases hm
  | cons q r ih =>
    rcases List.mem_cons.mp hm with e | e
    · rw [← e] at h
      exact h.1
    · exact ih h.2 e
section RJ
variable {σ : Type} {G : rs_Gt σ} {E : rs_Ev} {cc : ByteArray} {own : String} {n : Nat} {rm : Room} {pc : Nat} {lv : List (Nat × Value)} {st : List Value} {S : σ}
/-- other locals, fewer or in another order -/
theorem rj_sb {lv' : List (Nat × Value)} (h : rs_Sb lv lv') (k : rs_J G E pc lv' st S) : rs_J G E pc lv st S := by
  obtain ⟨l, D, tys, w⟩ := G
  obtain ⟨p, e, R, s, m, args, below, meth, c, Q, A, nL, cells, slots⟩ := E
  intro H locs ls hP hD hS hl
  exact k H locs ls hP hD hS ⟨hl.1, hl.2.1, fun i v hi => hl.2.2 i v (rs_Sb_mem h (rs_lk_mem hi))⟩
/-- the number on top, written otherwise -/
theorem rj_top {x y : Int32} (h : x = y) (k : rs_J G E pc lv (.int y :: st) S) : rs_J G E pc lv (.int x :: st) S := by
  subst h
  exact k
theorem rj_top2 {v : Value} {x y : Int32} (h : x = y) (k : rs_J G E pc lv (v :: .int y :: st) S) : rs_J G E pc lv (v :: .int x :: st) S := by
  subst h
  exact k
/-- the state, written otherwise -/
theorem rj_st {S' : σ} (h : S = S') (k : rs_J G E pc lv st S') : rs_J G E pc lv st S := by
  subst h
  exact k
theorem rj_iconst (F : rs_Fx E cc own n rm) {z : Int} {v : Int32} (hd : decode cc pc = .ok (.iconst z, 1)) (hv : Int32.ofInt z = v) (k : rs_J G E (pc + 1) lv (.int v :: st) S) : rs_J G E pc lv (st) S := by
  obtain ⟨l, D, tys, w⟩ := G
  obtain ⟨p, e, R, s, m, args, below, meth, c, Q, A, nL, cells, slots⟩ := E
  obtain ⟨hx, hb, hml, rfl, hown, hts, rfl, hf⟩ := F
  intro H locs ls hP hD hS hl
  exact lv_iconst hx hb hd hv (k H locs ls hP hD hS hl)
theorem rj_bipush (F : rs_Fx E cc own n rm) {z : Int} {v : Int32} (hd : decode cc pc = .ok (.bipush z, 2)) (hv : (Int8.ofInt z).toInt32 = v) (k : rs_J G E (pc + 2) lv (.int v :: st) S) : rs_J G E pc lv (st) S := by
  obtain ⟨l, D, tys, w⟩ := G
  obtain ⟨p, e, R, s, m, args, below, meth, c, Q, A, nL, cells, slots⟩ := E
  obtain ⟨hx, hb, hml, rfl, hown, hts, rfl, hf⟩ := F
  intro H locs ls hP hD hS hl
  exact lv_bipush hx hb hd hv (k H locs ls hP hD hS hl)
theorem rj_iload_n (F : rs_Fx E cc own n rm) {i : Fin 4} {x : Int32} (hd : decode cc pc = .ok (.iload_n i, 1)) (hi : rs_lk lv i.val = some (.int x)) (k : rs_J G E (pc + 1) lv (.int x :: st) S) : rs_J G E pc lv (st) S := by
  obtain ⟨l, D, tys, w⟩ := G
  obtain ⟨p, e, R, s, m, args, below, meth, c, Q, A, nL, cells, slots⟩ := E
  obtain ⟨hx, hb, hml, rfl, hown, hts, rfl, hf⟩ := F
  intro H locs ls hP hD hS hl
  exact lv_iload_n hx hb hd rfl (rs_lh_at hl hi) (k H locs ls hP hD hS hl)
theorem rj_iload (F : rs_Fx E cc own n rm) {i : Nat} {x : Int32} (hd : decode cc pc = .ok (.iload i, 2)) (hi : rs_lk lv i = some (.int x)) (k : rs_J G E (pc + 2) lv (.int x :: st) S) : rs_J G E pc lv (st) S := by
  obtain ⟨l, D, tys, w⟩ := G
  obtain ⟨p, e, R, s, m, args, below, meth, c, Q, A, nL, cells, slots⟩ := E
  obtain ⟨hx, hb, hml, rfl, hown, hts, rfl, hf⟩ := F
  intro H locs ls hP hD hS hl
  exact lv_iload hx hb hd (rs_lh_at hl hi) (k H locs ls hP hD hS hl)
theorem rj_aload_n (F : rs_Fx E cc own n rm) {i : Fin 4} {x : Nat} (hd : decode cc pc = .ok (.aload_n i, 1)) (hi : rs_lk lv i.val = some (.ref x)) (k : rs_J G E (pc + 1) lv (.ref x :: st) S) : rs_J G E pc lv (st) S := by
  obtain ⟨l, D, tys, w⟩ := G
  obtain ⟨p, e, R, s, m, args, below, meth, c, Q, A, nL, cells, slots⟩ := E
  obtain ⟨hx, hb, hml, rfl, hown, hts, rfl, hf⟩ := F
  intro H locs ls hP hD hS hl
  exact lv_aload_n hx hb hd rfl (rs_lh_at hl hi) (k H locs ls hP hD hS hl)
theorem rj_iadd (F : rs_Fx E cc own n rm) {x y : Int32} (hd : decode cc pc = .ok (.iadd, 1)) (k : rs_J G E (pc + 1) lv (.int (x + y) :: st) S) : rs_J G E pc lv (.int y :: .int x :: st) S := by
  obtain ⟨l, D, tys, w⟩ := G
  obtain ⟨p, e, R, s, m, args, below, meth, c, Q, A, nL, cells, slots⟩ := E
  obtain ⟨hx, hb, hml, rfl, hown, hts, rfl, hf⟩ := F
  intro H locs ls hP hD hS hl
  exact lv_iadd hx hb hd (k H locs ls hP hD hS hl)
theorem rj_iaddE (F : rs_Fx E cc own n rm) {x y z : Int32} (hd : decode cc pc = .ok (.iadd, 1)) (hz : x + y = z) (k : rs_J G E (pc + 1) lv (.int z :: st) S) : rs_J G E pc lv (.int y :: .int x :: st) S := by
  obtain ⟨l, D, tys, w⟩ := G
  obtain ⟨p, e, R, s, m, args, below, meth, c, Q, A, nL, cells, slots⟩ := E
  obtain ⟨hx, hb, hml, rfl, hown, hts, rfl, hf⟩ := F
  intro H locs ls hP hD hS hl
  exact lv_iadd hx hb hd (hz ▸ (k H locs ls hP hD hS hl))
theorem rj_isub (F : rs_Fx E cc own n rm) {x y : Int32} (hd : decode cc pc = .ok (.isub, 1)) (k : rs_J G E (pc + 1) lv (.int (x - y) :: st) S) : rs_J G E pc lv (.int y :: .int x :: st) S := by
  obtain ⟨l, D, tys, w⟩ := G
  obtain ⟨p, e, R, s, m, args, below, meth, c, Q, A, nL, cells, slots⟩ := E
  obtain ⟨hx, hb, hml, rfl, hown, hts, rfl, hf⟩ := F
  intro H locs ls hP hD hS hl
  exact lv_isub hx hb hd (k H locs ls hP hD hS hl)
theorem rj_isubE (F : rs_Fx E cc own n rm) {x y z : Int32} (hd : decode cc pc = .ok (.isub, 1)) (hz : x - y = z) (k : rs_J G E (pc + 1) lv (.int z :: st) S) : rs_J G E pc lv (.int y :: .int x :: st) S := by
  obtain ⟨l, D, tys, w⟩ := G
  obtain ⟨p, e, R, s, m, args, below, meth, c, Q, A, nL, cells, slots⟩ := E
  obtain ⟨hx, hb, hml, rfl, hown, hts, rfl, hf⟩ := F
  intro H locs ls hP hD hS hl
  exact lv_isub hx hb hd (hz ▸ (k H locs ls hP hD hS hl))
theorem rj_imul (F : rs_Fx E cc own n rm) {x y : Int32} (hd : decode cc pc = .ok (.imul, 1)) (k : rs_J G E (pc + 1) lv (.int (x * y) :: st) S) : rs_J G E pc lv (.int y :: .int x :: st) S := by
  obtain ⟨l, D, tys, w⟩ := G
  obtain ⟨p, e, R, s, m, args, below, meth, c, Q, A, nL, cells, slots⟩ := E
  obtain ⟨hx, hb, hml, rfl, hown, hts, rfl, hf⟩ := F
  intro H locs ls hP hD hS hl
  exact lv_imul hx hb hd (k H locs ls hP hD hS hl)
theorem rj_imulE (F : rs_Fx E cc own n rm) {x y z : Int32} (hd : decode cc pc = .ok (.imul, 1)) (hz : x * y = z) (k : rs_J G E (pc + 1) lv (.int z :: st) S) : rs_J G E pc lv (.int y :: .int x :: st) S := by
  obtain ⟨l, D, tys, w⟩ := G
  obtain ⟨p, e, R, s, m, args, below, meth, c, Q, A, nL, cells, slots⟩ := E
  obtain ⟨hx, hb, hml, rfl, hown, hts, rfl, hf⟩ := F
  intro H locs ls hP hD hS hl
  exact lv_imul hx hb hd (hz ▸ (k H locs ls hP hD hS hl))
theorem rj_iand (F : rs_Fx E cc own n rm) {x y : Int32} (hd : decode cc pc = .ok (.iand, 1)) (k : rs_J G E (pc + 1) lv (.int (x &&& y) :: st) S) : rs_J G E pc lv (.int y :: .int x :: st) S := by
  obtain ⟨l, D, tys, w⟩ := G
  obtain ⟨p, e, R, s, m, args, below, meth, c, Q, A, nL, cells, slots⟩ := E
  obtain ⟨hx, hb, hml, rfl, hown, hts, rfl, hf⟩ := F
  intro H locs ls hP hD hS hl
  exact lv_iand hx hb hd (k H locs ls hP hD hS hl)
theorem rj_iandE (F : rs_Fx E cc own n rm) {x y z : Int32} (hd : decode cc pc = .ok (.iand, 1)) (hz : x &&& y = z) (k : rs_J G E (pc + 1) lv (.int z :: st) S) : rs_J G E pc lv (.int y :: .int x :: st) S := by
  obtain ⟨l, D, tys, w⟩ := G
  obtain ⟨p, e, R, s, m, args, below, meth, c, Q, A, nL, cells, slots⟩ := E
  obtain ⟨hx, hb, hml, rfl, hown, hts, rfl, hf⟩ := F
  intro H locs ls hP hD hS hl
  exact lv_iand hx hb hd (hz ▸ (k H locs ls hP hD hS hl))
theorem rj_ishr (F : rs_Fx E cc own n rm) {x y : Int32} (hd : decode cc pc = .ok (.ishr, 1)) (k : rs_J G E (pc + 1) lv (.int (x >>> (y &&& 31)) :: st) S) : rs_J G E pc lv (.int y :: .int x :: st) S := by
  obtain ⟨l, D, tys, w⟩ := G
  obtain ⟨p, e, R, s, m, args, below, meth, c, Q, A, nL, cells, slots⟩ := E
  obtain ⟨hx, hb, hml, rfl, hown, hts, rfl, hf⟩ := F
  intro H locs ls hP hD hS hl
  exact lv_ishr hx hb hd (k H locs ls hP hD hS hl)
theorem rj_ishrE (F : rs_Fx E cc own n rm) {x y z : Int32} (hd : decode cc pc = .ok (.ishr, 1)) (hz : x >>> (y &&& 31) = z) (k : rs_J G E (pc + 1) lv (.int z :: st) S) : rs_J G E pc lv (.int y :: .int x :: st) S := by
  obtain ⟨l, D, tys, w⟩ := G
  obtain ⟨p, e, R, s, m, args, below, meth, c, Q, A, nL, cells, slots⟩ := E
  obtain ⟨hx, hb, hml, rfl, hown, hts, rfl, hf⟩ := F
  intro H locs ls hP hD hS hl
  exact lv_ishr hx hb hd (hz ▸ (k H locs ls hP hD hS hl))
theorem rj_i2b (F : rs_Fx E cc own n rm) {x v : Int32} (hd : decode cc pc = .ok (.i2b, 1)) (hv : x.toInt8.toInt32 = v) (k : rs_J G E (pc + 1) lv (.int v :: st) S) : rs_J G E pc lv (.int x :: st) S := by
  obtain ⟨l, D, tys, w⟩ := G
  obtain ⟨p, e, R, s, m, args, below, meth, c, Q, A, nL, cells, slots⟩ := E
  obtain ⟨hx, hb, hml, rfl, hown, hts, rfl, hf⟩ := F
  intro H locs ls hP hD hS hl
  exact lv_i2b hx hb hd hv (k H locs ls hP hD hS hl)
theorem rj_dup (F : rs_Fx E cc own n rm) {v : Value} (hd : decode cc pc = .ok (.dup, 1)) (hv : v.category = 1) (k : rs_J G E (pc + 1) lv (v :: v :: st) S) : rs_J G E pc lv (v :: st) S := by
  obtain ⟨l, D, tys, w⟩ := G
  obtain ⟨p, e, R, s, m, args, below, meth, c, Q, A, nL, cells, slots⟩ := E
  obtain ⟨hx, hb, hml, rfl, hown, hts, rfl, hf⟩ := F
  intro H locs ls hP hD hS hl
  exact lv_dup hx hb hd hv (k H locs ls hP hD hS hl)
theorem rj_pop (F : rs_Fx E cc own n rm) {v : Value} (hd : decode cc pc = .ok (.pop, 1)) (hv : v.category = 1) (k : rs_J G E (pc + 1) lv (st) S) : rs_J G E pc lv (v :: st) S := by
  obtain ⟨l, D, tys, w⟩ := G
  obtain ⟨p, e, R, s, m, args, below, meth, c, Q, A, nL, cells, slots⟩ := E
  obtain ⟨hx, hb, hml, rfl, hown, hts, rfl, hf⟩ := F
  intro H locs ls hP hD hS hl
  exact lv_pop hx hb hd hv (k H locs ls hP hD hS hl)
theorem rj_dup2 (F : rs_Fx E cc own n rm) {v u : Value} (hd : decode cc pc = .ok (.dup2, 1)) (hv : v.category = 1) (hu : u.category = 1) (k : rs_J G E (pc + 1) lv (v :: u :: v :: u :: st) S) : rs_J G E pc lv (v :: u :: st) S := by
  obtain ⟨l, D, tys, w⟩ := G
  obtain ⟨p, e, R, s, m, args, below, meth, c, Q, A, nL, cells, slots⟩ := E
  obtain ⟨hx, hb, hml, rfl, hown, hts, rfl, hf⟩ := F
  intro H locs ls hP hD hS hl
  exact lv_dup2_11 hx hb hd hv hu (k H locs ls hP hD hS hl)
theorem rj_istore_n (F : rs_Fx E cc own n rm) {i : Fin 4} {x : Int32} (hd : decode cc pc = .ok (.istore_n i, 1)) (hn : i.val < n) (k : rs_J G E (pc + 1) ((i.val, .int x) :: lv) st S) : rs_J G E pc lv (.int x :: st) S := by
  obtain ⟨l, D, tys, w⟩ := G
  obtain ⟨p, e, R, s, m, args, below, meth, c, Q, A, nL, cells, slots⟩ := E
  obtain ⟨hx, hb, hml, rfl, hown, hts, rfl, hf⟩ := F
  intro H locs ls hP hD hS hl
  exact lv_istore_n hx hb hd rfl (rs_lh_has hl) hn rfl (fun ls2 h2 => k H locs ls2 hP hD hS (rs_lh_store hl rfl h2))
theorem rj_istore (F : rs_Fx E cc own n rm) {i : Nat} {x : Int32} (hd : decode cc pc = .ok (.istore i, 2)) (hn : i < n) (k : rs_J G E (pc + 2) ((i, .int x) :: lv) st S) : rs_J G E pc lv (.int x :: st) S := by
  obtain ⟨l, D, tys, w⟩ := G
  obtain ⟨p, e, R, s, m, args, below, meth, c, Q, A, nL, cells, slots⟩ := E
  obtain ⟨hx, hb, hml, rfl, hown, hts, rfl, hf⟩ := F
  intro H locs ls hP hD hS hl
  exact lv_istore hx hb hd (rs_lh_has hl) hn rfl (fun ls2 h2 => k H locs ls2 hP hD hS (rs_lh_store hl rfl h2))
theorem rj_astore_n (F : rs_Fx E cc own n rm) {i : Fin 4} {x : Nat} (hd : decode cc pc = .ok (.astore_n i, 1)) (hn : i.val < n) (k : rs_J G E (pc + 1) ((i.val, .ref x) :: lv) st S) : rs_J G E pc lv (.ref x :: st) S := by
  obtain ⟨l, D, tys, w⟩ := G
  obtain ⟨p, e, R, s, m, args, below, meth, c, Q, A, nL, cells, slots⟩ := E
  obtain ⟨hx, hb, hml, rfl, hown, hts, rfl, hf⟩ := F
  intro H locs ls hP hD hS hl
  exact lv_astore_n hx hb hd rfl (rs_lh_has hl) hn rfl (fun ls2 h2 => k H locs ls2 hP hD hS (rs_lh_store hl rfl h2))
theorem rj_iinc (F : rs_Fx E cc own n rm) {i : Nat} {z : Int} {x v : Int32} (hd : decode cc pc = .ok (.iinc i z, 3)) (hi : rs_lk lv i = some (.int x)) (hn : i < n) (hv : x + Int32.ofInt z = v) (k : rs_J G E (pc + 3) ((i, .int v) :: lv) st S) : rs_J G E pc lv st S := by
  obtain ⟨l, D, tys, w⟩ := G
  obtain ⟨p, e, R, s, m, args, below, meth, c, Q, A, nL, cells, slots⟩ := E
  obtain ⟨hx, hb, hml, rfl, hown, hts, rfl, hf⟩ := F
  intro H locs ls hP hD hS hl
  obtain ⟨q, hq⟩ := List.getElem?_of_mem (show (i, Value.int x) ∈ lv.filter (fun q => decide (rs_lk lv q.1 = some q.2)) from List.mem_filter.mpr ⟨rs_lk_mem hi, decide_eq_true hi⟩)
  exact lv_iinc hx hb hd (rs_lh_has hl) hq hv hn rfl (fun ls2 h2 => k H locs ls2 hP hD hS (rs_lh_store hl rfl h2))
theorem rj_goto (F : rs_Fx E cc own n rm) {off : Int} {tgt : Nat} (hd : decode cc pc = .ok (.goto off, 3)) (ht : (pc : Int) + off = (tgt : Int)) (k : rs_J G E tgt lv st S) : rs_J G E pc lv st S := by
  obtain ⟨l, D, tys, w⟩ := G
  obtain ⟨p, e, R, s, m, args, below, meth, c, Q, A, nL, cells, slots⟩ := E
  obtain ⟨hx, hb, hml, rfl, hown, hts, rfl, hf⟩ := F
  intro H locs ls hP hD hS hl
  exact lv_goto hx hb hd ht (k H locs ls hP hD hS hl)
theorem rj_if_eq (F : rs_Fx E cc own n rm) {x : Int32} {off : Int} {tgt : Nat} (hd : decode cc pc = .ok (.ifCond .eq off, 3)) (ht : (pc : Int) + off = (tgt : Int)) (kt : x = 0 → rs_J G E tgt lv st S) (kf : ¬ x = 0 → rs_J G E (pc + 3) lv st S) : rs_J G E pc lv (.int x :: st) S := by
  obtain ⟨l, D, tys, w⟩ := G
  obtain ⟨p, e, R, s, m, args, below, meth, c, Q, A, nL, cells, slots⟩ := E
  obtain ⟨hx, hb, hml, rfl, hown, hts, rfl, hf⟩ := F
  intro H locs ls hP hD hS hl
  exact lv_if_eq hx hb hd ht (fun h => kt h H locs ls hP hD hS hl) (fun h => kf h H locs ls hP hD hS hl)
theorem rj_icmp_eq (F : rs_Fx E cc own n rm) {x y : Int32} {off : Int} {tgt : Nat} (hd : decode cc pc = .ok (.if_icmp .eq off, 3)) (ht : (pc : Int) + off = (tgt : Int)) (kt : x = y → rs_J G E tgt lv st S) (kf : ¬ x = y → rs_J G E (pc + 3) lv st S) : rs_J G E pc lv (.int y :: .int x :: st) S := by
  obtain ⟨l, D, tys, w⟩ := G
  obtain ⟨p, e, R, s, m, args, below, meth, c, Q, A, nL, cells, slots⟩ := E
  obtain ⟨hx, hb, hml, rfl, hown, hts, rfl, hf⟩ := F
  intro H locs ls hP hD hS hl
  exact lv_icmp_eq hx hb hd ht (fun h => kt h H locs ls hP hD hS hl) (fun h => kf h H locs ls hP hD hS hl)
theorem rj_if_ne (F : rs_Fx E cc own n rm) {x : Int32} {off : Int} {tgt : Nat} (hd : decode cc pc = .ok (.ifCond .ne off, 3)) (ht : (pc : Int) + off = (tgt : Int)) (kt : ¬ x = 0 → rs_J G E tgt lv st S) (kf : x = 0 → rs_J G E (pc + 3) lv st S) : rs_J G E pc lv (.int x :: st) S := by
  obtain ⟨l, D, tys, w⟩ := G
  obtain ⟨p, e, R, s, m, args, below, meth, c, Q, A, nL, cells, slots⟩ := E
  obtain ⟨hx, hb, hml, rfl, hown, hts, rfl, hf⟩ := F
  intro H locs ls hP hD hS hl
  exact lv_if_ne hx hb hd ht (fun h => kt h H locs ls hP hD hS hl) (fun h => kf h H locs ls hP hD hS hl)
theorem rj_icmp_ne (F : rs_Fx E cc own n rm) {x y : Int32} {off : Int} {tgt : Nat} (hd : decode cc pc = .ok (.if_icmp .ne off, 3)) (ht : (pc : Int) + off = (tgt : Int)) (kt : ¬ x = y → rs_J G E tgt lv st S) (kf : x = y → rs_J G E (pc + 3) lv st S) : rs_J G E pc lv (.int y :: .int x :: st) S := by
  obtain ⟨l, D, tys, w⟩ := G
  obtain ⟨p, e, R, s, m, args, below, meth, c, Q, A, nL, cells, slots⟩ := E
  obtain ⟨hx, hb, hml, rfl, hown, hts, rfl, hf⟩ := F
  intro H locs ls hP hD hS hl
  exact lv_icmp_ne hx hb hd ht (fun h => kt h H locs ls hP hD hS hl) (fun h => kf h H locs ls hP hD hS hl)
theorem rj_if_lt (F : rs_Fx E cc own n rm) {x : Int32} {off : Int} {tgt : Nat} (hd : decode cc pc = .ok (.ifCond .lt off, 3)) (ht : (pc : Int) + off = (tgt : Int)) (kt : x < 0 → rs_J G E tgt lv st S) (kf : ¬ x < 0 → rs_J G E (pc + 3) lv st S) : rs_J G E pc lv (.int x :: st) S := by
  obtain ⟨l, D, tys, w⟩ := G
  obtain ⟨p, e, R, s, m, args, below, meth, c, Q, A, nL, cells, slots⟩ := E
  obtain ⟨hx, hb, hml, rfl, hown, hts, rfl, hf⟩ := F
  intro H locs ls hP hD hS hl
  exact lv_if_lt hx hb hd ht (fun h => kt h H locs ls hP hD hS hl) (fun h => kf h H locs ls hP hD hS hl)
theorem rj_icmp_lt (F : rs_Fx E cc own n rm) {x y : Int32} {off : Int} {tgt : Nat} (hd : decode cc pc = .ok (.if_icmp .lt off, 3)) (ht : (pc : Int) + off = (tgt : Int)) (kt : x < y → rs_J G E tgt lv st S) (kf : ¬ x < y → rs_J G E (pc + 3) lv st S) : rs_J G E pc lv (.int y :: .int x :: st) S := by
  obtain ⟨l, D, tys, w⟩ := G
  obtain ⟨p, e, R, s, m, args, below, meth, c, Q, A, nL, cells, slots⟩ := E
  obtain ⟨hx, hb, hml, rfl, hown, hts, rfl, hf⟩ := F
  intro H locs ls hP hD hS hl
  exact lv_icmp_lt hx hb hd ht (fun h => kt h H locs ls hP hD hS hl) (fun h => kf h H locs ls hP hD hS hl)
theorem rj_if_ge (F : rs_Fx E cc own n rm) {x : Int32} {off : Int} {tgt : Nat} (hd : decode cc pc = .ok (.ifCond .ge off, 3)) (ht : (pc : Int) + off = (tgt : Int)) (kt : 0 ≤ x → rs_J G E tgt lv st S) (kf : ¬ 0 ≤ x → rs_J G E (pc + 3) lv st S) : rs_J G E pc lv (.int x :: st) S := by
  obtain ⟨l, D, tys, w⟩ := G
  obtain ⟨p, e, R, s, m, args, below, meth, c, Q, A, nL, cells, slots⟩ := E
  obtain ⟨hx, hb, hml, rfl, hown, hts, rfl, hf⟩ := F
  intro H locs ls hP hD hS hl
  exact lv_if_ge hx hb hd ht (fun h => kt h H locs ls hP hD hS hl) (fun h => kf h H locs ls hP hD hS hl)
theorem rj_icmp_ge (F : rs_Fx E cc own n rm) {x y : Int32} {off : Int} {tgt : Nat} (hd : decode cc pc = .ok (.if_icmp .ge off, 3)) (ht : (pc : Int) + off = (tgt : Int)) (kt : y ≤ x → rs_J G E tgt lv st S) (kf : ¬ y ≤ x → rs_J G E (pc + 3) lv st S) : rs_J G E pc lv (.int y :: .int x :: st) S := by
  obtain ⟨l, D, tys, w⟩ := G
  obtain ⟨p, e, R, s, m, args, below, meth, c, Q, A, nL, cells, slots⟩ := E
  obtain ⟨hx, hb, hml, rfl, hown, hts, rfl, hf⟩ := F
  intro H locs ls hP hD hS hl
  exact lv_icmp_ge hx hb hd ht (fun h => kt h H locs ls hP hD hS hl) (fun h => kf h H locs ls hP hD hS hl)
theorem rj_if_gt (F : rs_Fx E cc own n rm) {x : Int32} {off : Int} {tgt : Nat} (hd : decode cc pc = .ok (.ifCond .gt off, 3)) (ht : (pc : Int) + off = (tgt : Int)) (kt : 0 < x → rs_J G E tgt lv st S) (kf : ¬ 0 < x → rs_J G E (pc + 3) lv st S) : rs_J G E pc lv (.int x :: st) S := by
  obtain ⟨l, D, tys, w⟩ := G
  obtain ⟨p, e, R, s, m, args, below, meth, c, Q, A, nL, cells, slots⟩ := E
  obtain ⟨hx, hb, hml, rfl, hown, hts, rfl, hf⟩ := F
  intro H locs ls hP hD hS hl
  exact lv_if_gt hx hb hd ht (fun h => kt h H locs ls hP hD hS hl) (fun h => kf h H locs ls hP hD hS hl)
theorem rj_icmp_gt (F : rs_Fx E cc own n rm) {x y : Int32} {off : Int} {tgt : Nat} (hd : decode cc pc = .ok (.if_icmp .gt off, 3)) (ht : (pc : Int) + off = (tgt : Int)) (kt : y < x → rs_J G E tgt lv st S) (kf : ¬ y < x → rs_J G E (pc + 3) lv st S) : rs_J G E pc lv (.int y :: .int x :: st) S := by
  obtain ⟨l, D, tys, w⟩ := G
  obtain ⟨p, e, R, s, m, args, below, meth, c, Q, A, nL, cells, slots⟩ := E
  obtain ⟨hx, hb, hml, rfl, hown, hts, rfl, hf⟩ := F
  intro H locs ls hP hD hS hl
  exact lv_icmp_gt hx hb hd ht (fun h => kt h H locs ls hP hD hS hl) (fun h => kf h H locs ls hP hD hS hl)
theorem rj_if_le (F : rs_Fx E cc own n rm) {x : Int32} {off : Int} {tgt : Nat} (hd : decode cc pc = .ok (.ifCond .le off, 3)) (ht : (pc : Int) + off = (tgt : Int)) (kt : x ≤ 0 → rs_J G E tgt lv st S) (kf : ¬ x ≤ 0 → rs_J G E (pc + 3) lv st S) : rs_J G E pc lv (.int x :: st) S := by
  obtain ⟨l, D, tys, w⟩ := G
  obtain ⟨p, e, R, s, m, args, below, meth, c, Q, A, nL, cells, slots⟩ := E
  obtain ⟨hx, hb, hml, rfl, hown, hts, rfl, hf⟩ := F
  intro H locs ls hP hD hS hl
  exact lv_if_le hx hb hd ht (fun h => kt h H locs ls hP hD hS hl) (fun h => kf h H locs ls hP hD hS hl)
theorem rj_icmp_le (F : rs_Fx E cc own n rm) {x y : Int32} {off : Int} {tgt : Nat} (hd : decode cc pc = .ok (.if_icmp .le off, 3)) (ht : (pc : Int) + off = (tgt : Int)) (kt : x ≤ y → rs_J G E tgt lv st S) (kf : ¬ x ≤ y → rs_J G E (pc + 3) lv st S) : rs_J G E pc lv (.int y :: .int x :: st) S := by
  obtain ⟨l, D, tys, w⟩ := G
  obtain ⟨p, e, R, s, m, args, below, meth, c, Q, A, nL, cells, slots⟩ := E
  obtain ⟨hx, hb, hml, rfl, hown, hts, rfl, hf⟩ := F
  intro H locs ls hP hD hS hl
  exact lv_icmp_le hx hb hd ht (fun h => kt h H locs ls hP hD hS hl) (fun h => kf h H locs ls hP hD hS hl)
end RJ
/-- a method's contract over a pure picture: with these arguments, from S, it returns r and leaves S' with 'post r S'' -/
def rs_CT {σ : Type} (G : rs_Gt σ) (y : MethodName) (cy : ByteArray) (mL : Nat) (ret : Option FieldType) (rm : Room) (args : List Value) (S : σ) (post : Int32 → σ → Prop) : Prop :=
  match G with
  | (l, D, tys, w) => ∀ sz : Nat, Met l y (ws_ y cy mL ret) rm (va_Pc args (fun U => U.heap.size = sz ∧ va_P D rs_cl (w S) U.heap ∧ va_K D rs_cl tys U ∧ va_D (fun _ => True) (w S))) (va_Qi post (fun S' t => va_P D rs_cl (w S') t.heap ∧ va_K D rs_cl tys t ∧ va_D (va_A (w S) sz) (w S')) (va_A (w S) sz)) 0 0 (va_A (w S) sz)
/-- the same for a method that answers nothing -/
def rs_CV {σ : Type} (G : rs_Gt σ) (y : MethodName) (cy : ByteArray) (mL : Nat) (ret : Option FieldType) (rm : Room) (args : List Value) (S : σ) (post : σ → Prop) : Prop :=
  match G with
  | (l, D, tys, w) => ∀ sz : Nat, Met l y (ws_ y cy mL ret) rm (va_Pc args (fun U => U.heap.size = sz ∧ va_P D rs_cl (w S) U.heap ∧ va_K D rs_cl tys U ∧ va_D (fun _ => True) (w S))) (va_Qv post (fun S' t => va_P D rs_cl (w S') t.heap ∧ va_K D rs_cl tys t ∧ va_D (va_A (w S) sz) (w S')) (va_A (w S) sz)) 0 0 (va_A (w S) sz)
/-- the same for a method that looks at no cell -/
def rs_CP (l : Launch) (y : MethodName) (cy : ByteArray) (mL : Nat) (ret : Option FieldType) (rm : Room) (args : List Value) (r : Int32) : Prop :=
  Met l y (ws_ y cy mL ret) rm (va_Pc args (fun _ => True)) (va_Qi (fun (r' : Int32) (_ : Unit) => r' = r) (fun _ _ => True) (fun _ => False)) 0 0 (fun _ => False)
abbrev rs_G0 (l : Launch) : rs_Gt Unit := (l, ((fun _ => 0), fun _ _ => 0), [], fun _ => [])
theorem rs_lh_of {ls : Array Slot} {n : Nat} {lv : List (Nat × Value)} (h : lv_has ls n lv) (hc : lv.all (fun q => q.2.category == 1) = true) : rs_lh ls n lv :=
  ⟨h.1, h.2.1, fun i v hi => ⟨h.2.2 (i, v) (rs_lk_mem hi), by have := List.all_eq_true.mp hc (i, v) (rs_lk_mem hi); simpa using this⟩⟩
theorem rs_nar {r : Int32} (h : r &&& 1 = r) : narrow .boolean (.int r) = .int r := by
  show Value.int (r &&& 1) = _
  rw [h]
theorem rs_ofi {σ : Type} {G : rs_Gt σ} {y : MethodName} {cy : ByteArray} {mL : Nat} {rm : Room} {args : List Value} {S : σ} {post : Int32 → σ → Prop} {own : String} {lv : List (Nat × Value)} (hy : plainName y.cls = true) (hc : y.cls = own) (hlen : (lg_sl args).length ≤ mL) (hlv : lv_args 0 args = lv) (hcat : lv.all (fun q => q.2.category == 1) = true)
    (body : ∀ E : rs_Ev, rs_Fx E cy own mL rm → rs_Kx G E → rs_Ri G E cy post → rs_J G E 0 lv [] S) : rs_CT G y cy mL (some .int) rm args S post := by
  obtain ⟨l, D, tys, w⟩ := G
  intro sz
  refine Met.ofW (cc := cy) (maxL := mL) (ret := (some .int)) hy rfl ?_
  intro p e s m args' below meth c s₁ B hml hv
  obtain ⟨rfl, hsz, hP, hK, hD0⟩ := hv
  have hx := B.exec
  have hb := B.bytes
  have hr := B.returns
  have hts := atoms_spec (ws := ws_ y cy mL (some .int)) B.pre
  have hts : ∀ w ∈ lw_all, w.before _ s = true := fun w h => hts w (List.mem_cons_of_mem _ h)
  have hown : s.vm.findClass own = some m.cls := by rw [← hc]; exact findClass_of_methodNamed B.named
  have hlocks := B.notSynchronized
  subst hsz
  have hD := hD0.self (sz := s.heap.size)
  have hl := lv_entry args (n := mL) hlen
  rw [hlv] at hl
  rw [lg_entry_eq]
  generalize (lg_sl args ++ List.replicate (mL - (lg_sl args).length) Slot.unset).toArray = ls at hl ⊢
  have key := body (p, e, rm, s, m, args.toArray, below, meth, c, MQ below (va_Qi post (fun S' t => va_P D rs_cl (w S') t.heap ∧ va_K D rs_cl tys t ∧ va_D (va_A (w S) s.heap.size) (w S')) (va_A (w S) s.heap.size)) args.toArray s 0 0 (va_A (w S) s.heap.size), va_A (w S) s.heap.size, mL, 0, 0) ⟨hx, hb, hml, rfl, hown, hts, rfl, Nat.zero_le _, Nat.zero_le _⟩ ⟨hK, fun q h => Or.inr h⟩
    (fun pc lv r S' hd hp H locs ls hP hD hS hl => W.iret hx hb hr (fun t ht hW => ⟨⟨r, S', rfl, hp, by rw [ht]; exact hP, va_K.moved hW.alike hK, hD⟩, hS.F ht⟩) hS.2.2 hd)
  exact key s.heap [] ls hP hD va_S.rf (rs_lh_of hl hcat)
theorem rs_ofz {σ : Type} {G : rs_Gt σ} {y : MethodName} {cy : ByteArray} {mL : Nat} {rm : Room} {args : List Value} {S : σ} {post : Int32 → σ → Prop} {own : String} {lv : List (Nat × Value)} (hy : plainName y.cls = true) (hc : y.cls = own) (hlen : (lg_sl args).length ≤ mL) (hlv : lv_args 0 args = lv) (hcat : lv.all (fun q => q.2.category == 1) = true)
    (body : ∀ E : rs_Ev, rs_Fx E cy own mL rm → rs_Kx G E → rs_Rz G E cy post → rs_J G E 0 lv [] S) : rs_CT G y cy mL (some .boolean) rm args S post := by
  obtain ⟨l, D, tys, w⟩ := G
  intro sz
  refine Met.ofW (cc := cy) (maxL := mL) (ret := (some .boolean)) hy rfl ?_
  intro p e s m args' below meth c s₁ B hml hv
  obtain ⟨rfl, hsz, hP, hK, hD0⟩ := hv
  have hx := B.exec
  have hb := B.bytes
  have hr := B.returns
  have hts := atoms_spec (ws := ws_ y cy mL (some .boolean)) B.pre
  have hts : ∀ w ∈ lw_all, w.before _ s = true := fun w h => hts w (List.mem_cons_of_mem _ h)
  have hown : s.vm.findClass own = some m.cls := by rw [← hc]; exact findClass_of_methodNamed B.named
  have hlocks := B.notSynchronized
  subst hsz
  have hD := hD0.self (sz := s.heap.size)
  have hl := lv_entry args (n := mL) hlen
  rw [hlv] at hl
  rw [lg_entry_eq]
  generalize (lg_sl args ++ List.replicate (mL - (lg_sl args).length) Slot.unset).toArray = ls at hl ⊢
  have key := body (p, e, rm, s, m, args.toArray, below, meth, c, MQ below (va_Qi post (fun S' t => va_P D rs_cl (w S') t.heap ∧ va_K D rs_cl tys t ∧ va_D (va_A (w S) s.heap.size) (w S')) (va_A (w S) s.heap.size)) args.toArray s 0 0 (va_A (w S) s.heap.size), va_A (w S) s.heap.size, mL, 0, 0) ⟨hx, hb, hml, rfl, hown, hts, rfl, Nat.zero_le _, Nat.zero_le _⟩ ⟨hK, fun q h => Or.inr h⟩
    (fun pc lv r S' hd hz hp H locs ls hP hD hS hl => W.zret hx hb hr (rs_nar hz) (fun t ht hW => ⟨⟨r, S', rfl, hp, by rw [ht]; exact hP, va_K.moved hW.alike hK, hD⟩, hS.F ht⟩) hS.2.2 hd)
  exact key s.heap [] ls hP hD va_S.rf (rs_lh_of hl hcat)
theorem rs_ofv {σ : Type} {G : rs_Gt σ} {y : MethodName} {cy : ByteArray} {mL : Nat} {rm : Room} {args : List Value} {S : σ} {post : σ → Prop} {own : String} {lv : List (Nat × Value)} (hy : plainName y.cls = true) (hc : y.cls = own) (hlen : (lg_sl args).length ≤ mL) (hlv : lv_args 0 args = lv) (hcat : lv.all (fun q => q.2.category == 1) = true)
    (body : ∀ E : rs_Ev, rs_Fx E cy own mL rm → rs_Kx G E → rs_Rv G E cy post → rs_J G E 0 lv [] S) : rs_CV G y cy mL none rm args S post := by
  obtain ⟨l, D, tys, w⟩ := G
  intro sz
  refine Met.ofW (cc := cy) (maxL := mL) (ret := none) hy rfl ?_
  intro p e s m args' below meth c s₁ B hml hv
  obtain ⟨rfl, hsz, hP, hK, hD0⟩ := hv
  have hx := B.exec
  have hb := B.bytes
  have hr := B.returns
  have hts := atoms_spec (ws := ws_ y cy mL none) B.pre
  have hts : ∀ w ∈ lw_all, w.before _ s = true := fun w h => hts w (List.mem_cons_of_mem _ h)
  have hown : s.vm.findClass own = some m.cls := by rw [← hc]; exact findClass_of_methodNamed B.named
  have hlocks := B.notSynchronized
  subst hsz
  have hD := hD0.self (sz := s.heap.size)
  have hl := lv_entry args (n := mL) hlen
  rw [hlv] at hl
  rw [lg_entry_eq]
  generalize (lg_sl args ++ List.replicate (mL - (lg_sl args).length) Slot.unset).toArray = ls at hl ⊢
  have key := body (p, e, rm, s, m, args.toArray, below, meth, c, MQ below (va_Qv post (fun S' t => va_P D rs_cl (w S') t.heap ∧ va_K D rs_cl tys t ∧ va_D (va_A (w S) s.heap.size) (w S')) (va_A (w S) s.heap.size)) args.toArray s 0 0 (va_A (w S) s.heap.size), va_A (w S) s.heap.size, mL, 0, 0) ⟨hx, hb, hml, rfl, hown, hts, rfl, Nat.zero_le _, Nat.zero_le _⟩ ⟨hK, fun q h => Or.inr h⟩
    (fun pc lv S' hd hp H locs ls hP hD hS hl => W.vret hx hb hr (fun t ht hW => ⟨⟨S', rfl, hp, by rw [ht]; exact hP, va_K.moved hW.alike hK, hD⟩, hS.F ht⟩) hS.2.2 hd)
  exact key s.heap [] ls hP hD va_S.rf (rs_lh_of hl hcat)
theorem rs_ofpi {l : Launch} {y : MethodName} {cy : ByteArray} {mL : Nat} {rm : Room} {args : List Value} {r0 : Int32} {own : String} {lv : List (Nat × Value)} (hy : plainName y.cls = true) (hc : y.cls = own) (hlen : (lg_sl args).length ≤ mL) (hlv : lv_args 0 args = lv) (hcat : lv.all (fun q => q.2.category == 1) = true)
    (body : ∀ E : rs_Ev, rs_Fx E cy own mL rm → rs_Ri (rs_G0 l) E cy (fun r _ => r = r0) → rs_J (rs_G0 l) E 0 lv [] ()) : rs_CP l y cy mL (some .int) rm args r0 := by
  refine Met.ofW (cc := cy) (maxL := mL) (ret := (some .int)) hy rfl ?_
  intro p e s m args' below meth c s₁ B hml hv
  obtain ⟨rfl, -⟩ := hv
  have hx := B.exec
  have hb := B.bytes
  have hr := B.returns
  have hts := atoms_spec (ws := ws_ y cy mL (some .int)) B.pre
  have hts : ∀ w ∈ lw_all, w.before _ s = true := fun w h => hts w (List.mem_cons_of_mem _ h)
  have hown : s.vm.findClass own = some m.cls := by rw [← hc]; exact findClass_of_methodNamed B.named
  have hlocks := B.notSynchronized
  have hl := lv_entry args (n := mL) hlen
  rw [hlv] at hl
  rw [lg_entry_eq]
  generalize (lg_sl args ++ List.replicate (mL - (lg_sl args).length) Slot.unset).toArray = ls at hl ⊢
  have key := body (p, e, rm, s, m, args.toArray, below, meth, c, MQ below (va_Qi (fun (r' : Int32) (_ : Unit) => r' = r0) (fun _ _ => True) (fun _ => False)) args.toArray s 0 0 (fun _ => False), (fun _ => False), mL, 0, 0) ⟨hx, hb, hml, rfl, hown, hts, rfl, Nat.zero_le _, Nat.zero_le _⟩
    (fun pc lv r S' hd hp H locs ls hP hD hS hl => W.iret hx hb hr (fun t ht hW => ⟨⟨r, (), rfl, hp, trivial⟩, hS.F ht⟩) hS.2.2 hd)
  exact key s.heap [] ls (fun k q h => by simp at h) ⟨fun i j p q h => by simp at h, fun k q h => by simp at h⟩ va_S.rf (rs_lh_of hl hcat)
theorem rs_ofpz {l : Launch} {y : MethodName} {cy : ByteArray} {mL : Nat} {rm : Room} {args : List Value} {r0 : Int32} {own : String} {lv : List (Nat × Value)} (hy : plainName y.cls = true) (hc : y.cls = own) (hlen : (lg_sl args).length ≤ mL) (hlv : lv_args 0 args = lv) (hcat : lv.all (fun q => q.2.category == 1) = true)
    (body : ∀ E : rs_Ev, rs_Fx E cy own mL rm → rs_Rz (rs_G0 l) E cy (fun r _ => r = r0) → rs_J (rs_G0 l) E 0 lv [] ()) : rs_CP l y cy mL (some .boolean) rm args r0 := by
  refine Met.ofW (cc := cy) (maxL := mL) (ret := (some .boolean)) hy rfl ?_
  intro p e s m args' below meth c s₁ B hml hv
  obtain ⟨rfl, -⟩ := hv
  have hx := B.exec
  have hb := B.bytes
  have hr := B.returns
  have hts := atoms_spec (ws := ws_ y cy mL (some .boolean)) B.pre
  have hts : ∀ w ∈ lw_all, w.before _ s = true := fun w h => hts w (List.mem_cons_of_mem _ h)
  have hown : s.vm.findClass own = some m.cls := by rw [← hc]; exact findClass_of_methodNamed B.named
  have hlocks := B.notSynchronized
  have hl := lv_entry args (n := mL) hlen
  rw [hlv] at hl
  rw [lg_entry_eq]
  generalize (lg_sl args ++ List.replicate (mL - (lg_sl args).length) Slot.unset).toArray = ls at hl ⊢
  have key := body (p, e, rm, s, m, args.toArray, below, meth, c, MQ below (va_Qi (fun (r' : Int32) (_ : Unit) => r' = r0) (fun _ _ => True) (fun _ => False)) args.toArray s 0 0 (fun _ => False), (fun _ => False), mL, 0, 0) ⟨hx, hb, hml, rfl, hown, hts, rfl, Nat.zero_le _, Nat.zero_le _⟩
    (fun pc lv r S' hd hz hp H locs ls hP hD hS hl => W.zret hx hb hr (rs_nar hz) (fun t ht hW => ⟨⟨r, (), rfl, hp, trivial⟩, hS.F ht⟩) hS.2.2 hd)
  exact key s.heap [] ls (fun k q h => by simp at h) ⟨fun i j p q h => by simp at h, fun k q h => by simp at h⟩ va_S.rf (rs_lh_of hl hcat)
/-- the object at h is of class C in every picture -/
def rs_Rc {σ : Type} (G : rs_Gt σ) (h : Nat) (C : String) : Prop :=
  match G with
  | (_, _, _, w) => ∀ S : σ, ∃ (q0 ci : Nat) (q : vw_C) (fs : List Value), rs_cl[ci]? = some q ∧ q.1 = C ∧ (w S)[q0]? = some (h, .inr (ci, fs))
theorem rs_free {A : Nat → Prop} {ws : va_W} {H0 H : Heap} {locs : List Loc} (hD : va_D A ws) (hS : va_S A H0 H locs) (hA : ∀ q, H0.size ≤ q → A q) : ∀ q, va_A ws H.size q → A q := by
  intro q h
  rcases h with ⟨k, e, h⟩ | h
  · exact hD.2 k (q, e) h
  · exact hA q (Nat.le_trans hS.1 h)
section RC
variable {σ : Type} {l : Launch} {D : va_G} {tys : List (ClassId × FieldType)} {w : σ → va_W} {E : rs_Ev} {cc : ByteArray} {own : String} {n : Nat} {rm : Room} {pc : Nat} {lv : List (Nat × Value)} {st : List Value} {S : σ}
variable {y : MethodName} {cy : ByteArray} {mL : Nat} {ret : Option FieldType} {rm' : Room} {As : List Value} {h idx na : Nat} {C : String} {rest : List Value}
theorem rj_calli (F : rs_Fx E cc own n rm) (K : rs_Kx (l, D, tys, w) E) (hrc : rs_Rc (l, D, tys, w) h C) {post : Int32 → σ → Prop} (hM : rs_CT (l, D, tys, w) y cy mL ret rm' (.ref h :: As) S post) (hw : GoodIn lw_all (wsV own idx C y (ws_ y cy mL ret))) (hy : y.cls = C ∧ y.cls ≠ "java/lang/invoke/MethodHandle" ∧ y.cls ≠ "java/lang/invoke/VarHandle" ∧ (parseMethodDescriptor y.desc).map (fun d => d.parameters.length) = some na) (hr0 : rm'.cells = 0 ∧ rm'.slots = 0) (hR : rm'.frames + 1 ≤ rm.frames ∧ 8 + (mL + 11) + rm'.locals ≤ rm.locals) (hna : As.length = na) (hst : st = As.reverse ++ .ref h :: rest) (hcat : (rest.map fun v => v.category).sum ≤ 8) (hd : decode cc pc = .ok (.invokevirtual idx, 3))
    (k : ∀ (r : Int32) (S' : σ), post r S' → rs_J (l, D, tys, w) E (pc + 3) lv (.int r :: rest) S') : rs_J (l, D, tys, w) E pc lv st S := by
  obtain ⟨p, e, R, s, m, args, below, meth, c, Q, A, nL, cells, slots⟩ := E
  obtain ⟨hx, hb, hml, rfl, hown, hts, rfl, hf⟩ := F
  obtain ⟨hK, hA⟩ := K
  intro H locs ls hP hD hS hl
  obtain ⟨q0, ci, q, fs, hc1, hc2, hc3⟩ := hrc S
  have hFc := rs_free hD hS hA
  refine va_calli (va_runV (As := As) (rest := rest) ⟨hx, hb, hml, hown, hts⟩ (hM H.size) (cwV na hts hw rfl hr0.1 hr0.2 hy hR) ⟨fun a U g mk q => by obtain ⟨q0, q1, qP, qK, qD⟩ := q; exact ⟨q0, q1, qP, va_K.moved (u := U) (U := U.calling g mk a) (Vm.Alike.refl U.vm) qK, qD⟩, by rw [← hc2]; exact va_recv hK hP hc1 hc3, fun U hU hW => ⟨rfl, by rw [hU], by rw [hU]; exact hP, va_K.moved hW.alike hK, hD.weaken (fun _ _ _ _ => trivial)⟩⟩ rfl hna hl.1 hst (lv_room hcat) hd hf) hS (fun q _ h => hFc q h) hFc (fun r u t H1 locs1 ht hvm hp hB hz1 hk1 hS1 => ?_)
  obtain ⟨hP1, hK1, hD1⟩ := hB
  rw [ht] at hP1
  exact k r u hp H1 locs1 ls hP1 (hD1.weaken (fun _ _ _ h => hFc _ h)) hS1 hl
theorem rj_callv (F : rs_Fx E cc own n rm) (K : rs_Kx (l, D, tys, w) E) (hrc : rs_Rc (l, D, tys, w) h C) {post : σ → Prop} (hM : rs_CV (l, D, tys, w) y cy mL ret rm' (.ref h :: As) S post) (hw : GoodIn lw_all (wsV own idx C y (ws_ y cy mL ret))) (hy : y.cls = C ∧ y.cls ≠ "java/lang/invoke/MethodHandle" ∧ y.cls ≠ "java/lang/invoke/VarHandle" ∧ (parseMethodDescriptor y.desc).map (fun d => d.parameters.length) = some na) (hr0 : rm'.cells = 0 ∧ rm'.slots = 0) (hR : rm'.frames + 1 ≤ rm.frames ∧ 8 + (mL + 11) + rm'.locals ≤ rm.locals) (hna : As.length = na) (hst : st = As.reverse ++ .ref h :: rest) (hcat : (rest.map fun v => v.category).sum ≤ 8) (hd : decode cc pc = .ok (.invokevirtual idx, 3))
    (k : ∀ (S' : σ), post S' → rs_J (l, D, tys, w) E (pc + 3) lv rest S') : rs_J (l, D, tys, w) E pc lv st S := by
  obtain ⟨p, e, R, s, m, args, below, meth, c, Q, A, nL, cells, slots⟩ := E
  obtain ⟨hx, hb, hml, rfl, hown, hts, rfl, hf⟩ := F
  obtain ⟨hK, hA⟩ := K
  intro H locs ls hP hD hS hl
  obtain ⟨q0, ci, q, fs, hc1, hc2, hc3⟩ := hrc S
  have hFc := rs_free hD hS hA
  refine va_callv (va_runV (As := As) (rest := rest) ⟨hx, hb, hml, hown, hts⟩ (hM H.size) (cwV na hts hw rfl hr0.1 hr0.2 hy hR) ⟨fun a U g mk q => by obtain ⟨q0, q1, qP, qK, qD⟩ := q; exact ⟨q0, q1, qP, va_K.moved (u := U) (U := U.calling g mk a) (Vm.Alike.refl U.vm) qK, qD⟩, by rw [← hc2]; exact va_recv hK hP hc1 hc3, fun U hU hW => ⟨rfl, by rw [hU], by rw [hU]; exact hP, va_K.moved hW.alike hK, hD.weaken (fun _ _ _ _ => trivial)⟩⟩ rfl hna hl.1 hst (lv_room hcat) hd hf) hS (fun q _ h => hFc q h) hFc (fun u t H1 locs1 ht hvm hp hB hz1 hk1 hS1 => ?_)
  obtain ⟨hP1, hK1, hD1⟩ := hB
  rw [ht] at hP1
  exact k u hp H1 locs1 ls hP1 (hD1.weaken (fun _ _ _ h => hFc _ h)) hS1 hl
theorem rj_callp (F : rs_Fx E cc own n rm) (K : rs_Kx (l, D, tys, w) E) (hrc : rs_Rc (l, D, tys, w) h C) {r : Int32} (hM : rs_CP l y cy mL ret rm' (.ref h :: As) r) (hw : GoodIn lw_all (wsV own idx C y (ws_ y cy mL ret))) (hy : y.cls = C ∧ y.cls ≠ "java/lang/invoke/MethodHandle" ∧ y.cls ≠ "java/lang/invoke/VarHandle" ∧ (parseMethodDescriptor y.desc).map (fun d => d.parameters.length) = some na) (hr0 : rm'.cells = 0 ∧ rm'.slots = 0) (hR : rm'.frames + 1 ≤ rm.frames ∧ 8 + (mL + 11) + rm'.locals ≤ rm.locals) (hna : As.length = na) (hst : st = As.reverse ++ .ref h :: rest) (hcat : (rest.map fun v => v.category).sum ≤ 8) (hd : decode cc pc = .ok (.invokevirtual idx, 3))
    (k : rs_J (l, D, tys, w) E (pc + 3) lv (.int r :: rest) S) : rs_J (l, D, tys, w) E pc lv st S := by
  obtain ⟨p, e, R, s, m, args, below, meth, c, Q, A, nL, cells, slots⟩ := E
  obtain ⟨hx, hb, hml, rfl, hown, hts, rfl, hf⟩ := F
  obtain ⟨hK, hA⟩ := K
  intro H locs ls hP hD hS hl
  obtain ⟨q0, ci, q, fs, hc1, hc2, hc3⟩ := hrc S
  refine va_calli (va_runV (As := As) (rest := rest) ⟨hx, hb, hml, hown, hts⟩ hM (cwV na hts hw rfl hr0.1 hr0.2 hy hR) ⟨fun a U g mk q => q, by rw [← hc2]; exact va_recv hK hP hc1 hc3, fun U hU hW => ⟨rfl, trivial⟩⟩ rfl hna hl.1 hst (lv_room hcat) hd hf) hS (fun q _ h => h.elim) (fun q h => h.elim) (fun r1 u t H1 locs1 ht hvm hp hB hz1 hk1 hS1 => ?_)
  subst hp
  exact k H1 locs1 ls (hP.kept (fun k q hk => hk1 q.1 (hP k q hk).lt (fun h => h))) hD hS1 hl
theorem rj_callps (F : rs_Fx E cc own n rm) {r : Int32} (hM : rs_CP l y cy mL ret rm' As r) (hw : GoodIn lw_all (va_wsS own idx y (ws_ y cy mL ret))) (hy : y.cls ≠ "java/lang/invoke/MethodHandle" ∧ y.cls ≠ "java/lang/invoke/VarHandle" ∧ (parseMethodDescriptor y.desc).map (fun d => d.parameters.length) = some na) (hr0 : rm'.cells = 0 ∧ rm'.slots = 0) (hR : rm'.frames + 1 ≤ rm.frames ∧ 8 + (mL + 11) + rm'.locals ≤ rm.locals) (hna : As.length = na) (hst : st = As.reverse ++ rest) (hcat : (rest.map fun v => v.category).sum ≤ 8) (hd : decode cc pc = .ok (.invokestatic idx, 3))
    (k : rs_J (l, D, tys, w) E (pc + 3) lv (.int r :: rest) S) : rs_J (l, D, tys, w) E pc lv st S := by
  obtain ⟨p, e, R, s, m, args, below, meth, c, Q, A, nL, cells, slots⟩ := E
  obtain ⟨hx, hb, hml, rfl, hown, hts, rfl, hf⟩ := F
  intro H locs ls hP hD hS hl
  refine va_calli (va_runS (As := As) (rest := rest) ⟨hx, hb, hml, hown, hts⟩ hM (va_cwS na hts hw rfl hr0.1 hr0.2 hy hR) ⟨fun a U g mk q => q, fun U hU hW => ⟨rfl, trivial⟩⟩ rfl hna hl.1 hst (lv_room hcat) hd hf) hS (fun q _ h => h.elim) (fun q h => h.elim) (fun r1 u t H1 locs1 ht hvm hp hB hz1 hk1 hS1 => ?_)
  subst hp
  exact k H1 locs1 ls (hP.kept (fun k q hk => hk1 q.1 (hP k q hk).lt (fun h => h))) hD hS1 hl
end RC
section RCA
variable {σ : Type} {l : Launch} {D : va_G} {tys : List (ClassId × FieldType)} {w : σ → va_W} {E : rs_Ev} {cc : ByteArray} {own : String} {n : Nat} {rm : Room} {pc : Nat} {lv : List (Nat × Value)} {S : σ}
variable {y : MethodName} {cy : ByteArray} {mL : Nat} {ret : Option FieldType} {rm' : Room} {h idx : Nat} {C : String} {rest : List Value} {v1 v2 v3 v4 : Value}
theorem rj_calli0 (F : rs_Fx E cc own n rm) (K : rs_Kx (l, D, tys, w) E) (hrc : rs_Rc (l, D, tys, w) h C) {post : Int32 → σ → Prop} (hM : rs_CT (l, D, tys, w) y cy mL ret rm' [.ref h] S post) (hw : GoodIn lw_all (wsV own idx C y (ws_ y cy mL ret))) (hy : y.cls = C ∧ y.cls ≠ "java/lang/invoke/MethodHandle" ∧ y.cls ≠ "java/lang/invoke/VarHandle" ∧ (parseMethodDescriptor y.desc).map (fun d => d.parameters.length) = some 0) (hr0 : rm'.cells = 0 ∧ rm'.slots = 0) (hR : rm'.frames + 1 ≤ rm.frames ∧ 8 + (mL + 11) + rm'.locals ≤ rm.locals) (hcat : (rest.map fun v => v.category).sum ≤ 8) (hd : decode cc pc = .ok (.invokevirtual idx, 3)) (k : ∀ (r : Int32) (S' : σ), post r S' → rs_J (l, D, tys, w) E (pc + 3) lv (.int r :: rest) S') : rs_J (l, D, tys, w) E pc lv (.ref h :: rest) S := rj_calli (As := []) (rest := rest) F K hrc hM hw hy hr0 hR rfl rfl hcat hd k
theorem rj_callv0 (F : rs_Fx E cc own n rm) (K : rs_Kx (l, D, tys, w) E) (hrc : rs_Rc (l, D, tys, w) h C) {post : σ → Prop} (hM : rs_CV (l, D, tys, w) y cy mL ret rm' [.ref h] S post) (hw : GoodIn lw_all (wsV own idx C y (ws_ y cy mL ret))) (hy : y.cls = C ∧ y.cls ≠ "java/lang/invoke/MethodHandle" ∧ y.cls ≠ "java/lang/invoke/VarHandle" ∧ (parseMethodDescriptor y.desc).map (fun d => d.parameters.length) = some 0) (hr0 : rm'.cells = 0 ∧ rm'.slots = 0) (hR : rm'.frames + 1 ≤ rm.frames ∧ 8 + (mL + 11) + rm'.locals ≤ rm.locals) (hcat : (rest.map fun v => v.category).sum ≤ 8) (hd : decode cc pc = .ok (.invokevirtual idx, 3)) (k : ∀ (S' : σ), post S' → rs_J (l, D, tys, w) E (pc + 3) lv (rest) S') : rs_J (l, D, tys, w) E pc lv (.ref h :: rest) S := rj_callv (As := []) (rest := rest) F K hrc hM hw hy hr0 hR rfl rfl hcat hd k
theorem rj_calli1 (F : rs_Fx E cc own n rm) (K : rs_Kx (l, D, tys, w) E) (hrc : rs_Rc (l, D, tys, w) h C) {post : Int32 → σ → Prop} (hM : rs_CT (l, D, tys, w) y cy mL ret rm' [.ref h, v1] S post) (hw : GoodIn lw_all (wsV own idx C y (ws_ y cy mL ret))) (hy : y.cls = C ∧ y.cls ≠ "java/lang/invoke/MethodHandle" ∧ y.cls ≠ "java/lang/invoke/VarHandle" ∧ (parseMethodDescriptor y.desc).map (fun d => d.parameters.length) = some 1) (hr0 : rm'.cells = 0 ∧ rm'.slots = 0) (hR : rm'.frames + 1 ≤ rm.frames ∧ 8 + (mL + 11) + rm'.locals ≤ rm.locals) (hcat : (rest.map fun v => v.category).sum ≤ 8) (hd : decode cc pc = .ok (.invokevirtual idx, 3)) (k : ∀ (r : Int32) (S' : σ), post r S' → rs_J (l, D, tys, w) E (pc + 3) lv (.int r :: rest) S') : rs_J (l, D, tys, w) E pc lv (v1 :: .ref h :: rest) S := rj_calli (As := [v1]) (rest := rest) F K hrc hM hw hy hr0 hR rfl rfl hcat hd k
theorem rj_callp1 (F : rs_Fx E cc own n rm) (K : rs_Kx (l, D, tys, w) E) (hrc : rs_Rc (l, D, tys, w) h C) {r : Int32} (hM : rs_CP l y cy mL ret rm' [.ref h, v1] r) (hw : GoodIn lw_all (wsV own idx C y (ws_ y cy mL ret))) (hy : y.cls = C ∧ y.cls ≠ "java/lang/invoke/MethodHandle" ∧ y.cls ≠ "java/lang/invoke/VarHandle" ∧ (parseMethodDescriptor y.desc).map (fun d => d.parameters.length) = some 1) (hr0 : rm'.cells = 0 ∧ rm'.slots = 0) (hR : rm'.frames + 1 ≤ rm.frames ∧ 8 + (mL + 11) + rm'.locals ≤ rm.locals) (hcat : (rest.map fun v => v.category).sum ≤ 8) (hd : decode cc pc = .ok (.invokevirtual idx, 3)) (k : rs_J (l, D, tys, w) E (pc + 3) lv (.int r :: rest) S) : rs_J (l, D, tys, w) E pc lv (v1 :: .ref h :: rest) S := rj_callp (As := [v1]) (rest := rest) F K hrc hM hw hy hr0 hR rfl rfl hcat hd k
theorem rj_callps1 (F : rs_Fx E cc own n rm) {r : Int32} (hM : rs_CP l y cy mL ret rm' [v1] r) (hw : GoodIn lw_all (va_wsS own idx y (ws_ y cy mL ret))) (hy : y.cls ≠ "java/lang/invoke/MethodHandle" ∧ y.cls ≠ "java/lang/invoke/VarHandle" ∧ (parseMethodDescriptor y.desc).map (fun d => d.parameters.length) = some 1) (hr0 : rm'.cells = 0 ∧ rm'.slots = 0) (hR : rm'.frames + 1 ≤ rm.frames ∧ 8 + (mL + 11) + rm'.locals ≤ rm.locals) (hcat : (rest.map fun v => v.category).sum ≤ 8) (hd : decode cc pc = .ok (.invokestatic idx, 3)) (k : rs_J (l, D, tys, w) E (pc + 3) lv (.int r :: rest) S) : rs_J (l, D, tys, w) E pc lv (v1 :: rest) S := rj_callps (As := [v1]) (rest := rest) F hM hw hy hr0 hR rfl rfl hcat hd k
theorem rj_calli2 (F : rs_Fx E cc own n rm) (K : rs_Kx (l, D, tys, w) E) (hrc : rs_Rc (l, D, tys, w) h C) {post : Int32 → σ → Prop} (hM : rs_CT (l, D, tys, w) y cy mL ret rm' [.ref h, v1, v2] S post) (hw : GoodIn lw_all (wsV own idx C y (ws_ y cy mL ret))) (hy : y.cls = C ∧ y.cls ≠ "java/lang/invoke/MethodHandle" ∧ y.cls ≠ "java/lang/invoke/VarHandle" ∧ (parseMethodDescriptor y.desc).map (fun d => d.parameters.length) = some 2) (hr0 : rm'.cells = 0 ∧ rm'.slots = 0) (hR : rm'.frames + 1 ≤ rm.frames ∧ 8 + (mL + 11) + rm'.locals ≤ rm.locals) (hcat : (rest.map fun v => v.category).sum ≤ 8) (hd : decode cc pc = .ok (.invokevirtual idx, 3)) (k : ∀ (r : Int32) (S' : σ), post r S' → rs_J (l, D, tys, w) E (pc + 3) lv (.int r :: rest) S') : rs_J (l, D, tys, w) E pc lv (v2 :: v1 :: .ref h :: rest) S := rj_calli (As := [v1, v2]) (rest := rest) F K hrc hM hw hy hr0 hR rfl rfl hcat hd k
theorem rj_callv2 (F : rs_Fx E cc own n rm) (K : rs_Kx (l, D, tys, w) E) (hrc : rs_Rc (l, D, tys, w) h C) {post : σ → Prop} (hM : rs_CV (l, D, tys, w) y cy mL ret rm' [.ref h, v1, v2] S post) (hw : GoodIn lw_all (wsV own idx C y (ws_ y cy mL ret))) (hy : y.cls = C ∧ y.cls ≠ "java/lang/invoke/MethodHandle" ∧ y.cls ≠ "java/lang/invoke/VarHandle" ∧ (parseMethodDescriptor y.desc).map (fun d => d.parameters.length) = some 2) (hr0 : rm'.cells = 0 ∧ rm'.slots = 0) (hR : rm'.frames + 1 ≤ rm.frames ∧ 8 + (mL + 11) + rm'.locals ≤ rm.locals) (hcat : (rest.map fun v => v.category).sum ≤ 8) (hd : decode cc pc = .ok (.invokevirtual idx, 3)) (k : ∀ (S' : σ), post S' → rs_J (l, D, tys, w) E (pc + 3) lv (rest) S') : rs_J (l, D, tys, w) E pc lv (v2 :: v1 :: .ref h :: rest) S := rj_callv (As := [v1, v2]) (rest := rest) F K hrc hM hw hy hr0 hR rfl rfl hcat hd k
theorem rj_calli3 (F : rs_Fx E cc own n rm) (K : rs_Kx (l, D, tys, w) E) (hrc : rs_Rc (l, D, tys, w) h C) {post : Int32 → σ → Prop} (hM : rs_CT (l, D, tys, w) y cy mL ret rm' [.ref h, v1, v2, v3] S post) (hw : GoodIn lw_all (wsV own idx C y (ws_ y cy mL ret))) (hy : y.cls = C ∧ y.cls ≠ "java/lang/invoke/MethodHandle" ∧ y.cls ≠ "java/lang/invoke/VarHandle" ∧ (parseMethodDescriptor y.desc).map (fun d => d.parameters.length) = some 3) (hr0 : rm'.cells = 0 ∧ rm'.slots = 0) (hR : rm'.frames + 1 ≤ rm.frames ∧ 8 + (mL + 11) + rm'.locals ≤ rm.locals) (hcat : (rest.map fun v => v.category).sum ≤ 8) (hd : decode cc pc = .ok (.invokevirtual idx, 3)) (k : ∀ (r : Int32) (S' : σ), post r S' → rs_J (l, D, tys, w) E (pc + 3) lv (.int r :: rest) S') : rs_J (l, D, tys, w) E pc lv (v3 :: v2 :: v1 :: .ref h :: rest) S := rj_calli (As := [v1, v2, v3]) (rest := rest) F K hrc hM hw hy hr0 hR rfl rfl hcat hd k
theorem rj_calli4 (F : rs_Fx E cc own n rm) (K : rs_Kx (l, D, tys, w) E) (hrc : rs_Rc (l, D, tys, w) h C) {post : Int32 → σ → Prop} (hM : rs_CT (l, D, tys, w) y cy mL ret rm' [.ref h, v1, v2, v3, v4] S post) (hw : GoodIn lw_all (wsV own idx C y (ws_ y cy mL ret))) (hy : y.cls = C ∧ y.cls ≠ "java/lang/invoke/MethodHandle" ∧ y.cls ≠ "java/lang/invoke/VarHandle" ∧ (parseMethodDescriptor y.desc).map (fun d => d.parameters.length) = some 4) (hr0 : rm'.cells = 0 ∧ rm'.slots = 0) (hR : rm'.frames + 1 ≤ rm.frames ∧ 8 + (mL + 11) + rm'.locals ≤ rm.locals) (hcat : (rest.map fun v => v.category).sum ≤ 8) (hd : decode cc pc = .ok (.invokevirtual idx, 3)) (k : ∀ (r : Int32) (S' : σ), post r S' → rs_J (l, D, tys, w) E (pc + 3) lv (.int r :: rest) S') : rs_J (l, D, tys, w) E pc lv (v4 :: v3 :: v2 :: v1 :: .ref h :: rest) S := rj_calli (As := [v1, v2, v3, v4]) (rest := rest) F K hrc hM hw hy hr0 hR rfl rfl hcat hd k
end RCA
end
section
/-! THE WORLDS of the two objects, as pure pictures: S k j is field k (a number: j = 0) or place j of the array in field k; a k its address (a 0 for k = the object itself: h) -/
def rs_sU (S : rs_St) (k j : Nat) (v : Int32) : rs_St := fun k' => if k' = k then upd (S k) j v else S k'
theorem rs_sU_s (S : rs_St) (k j : Nat) (v : Int32) : rs_sU S k j v k j = v := by simp [rs_sU, upd]
theorem rs_sU_j (S : rs_St) (k : Nat) {j j' : Nat} (v : Int32) (h : j' ≠ j) : rs_sU S k j v k j' = S k j' := by simp [rs_sU, upd, h]
theorem rs_sU_k (S : rs_St) {k k' : Nat} (j j' : Nat) (v : Int32) (h : k' ≠ k) : rs_sU S k j v k' j' = S k' j' := by simp [rs_sU, h]
theorem rs_sU_if (S : rs_St) (k j k' j' : Nat) (v : Int32) : rs_sU S k j v k' j' = if k' = k ∧ j' = j then v else S k' j' := by
  by_cases h : k' = k
  · subst h
    by_cases h2 : j' = j
    · subst h2
      simp [rs_sU, upd]
    · simp [rs_sU, upd, h2]
  · simp [rs_sU, h]
abbrev rs_fX (a : Nat → Nat) (S : rs_St) : List Value := [.int (S 0 0), .ref (a 2), .int (S 2 0), .ref (a 4), .ref (a 5), .int (S 5 0), .ref (a 7), .ref (a 8), .ref (a 9), .ref (a 10), .int (S 10 0), .ref (a 12), .int (S 12 0)]
abbrev rs_wX (dB dI : ClassId) (a : Nat → Nat) (S : rs_St) : va_W := [(a 0, .inr (0, rs_fX a S)), (a 2, .inl (dB, 21, .inl (S 1))), (a 4, .inl (dB, 21, .inl (S 3))), (a 5, .inl (dB, 84, .inl (S 4))), (a 7, .inl (dB, 48, .inl (S 6))), (a 8, .inl (dB, 48, .inl (S 7))), (a 9, .inl (dB, 96, .inl (S 8))), (a 10, .inl (dI, 48, .inl (S 9))), (a 12, .inl (dB, 4, .inl (S 11)))]
abbrev rs_GX (l : Launch) (D : va_G) (dB dI : ClassId) (a : Nat → Nat) : rs_Gt rs_St := (l, D, [(dB, .byte), (dI, .int)], rs_wX dB dI a)
theorem rs_rcX {l : Launch} {D : va_G} {dB dI : ClassId} {a : Nat → Nat} : rs_Rc (rs_GX l D dB dI a) (a 0) RX0 := fun S => ⟨0, 0, (RX0, TX0, 13), rs_fX a S, rfl, rfl, rfl⟩
section RHX
variable {l : Launch} {D : va_G} {dB dI : ClassId} {a : Nat → Nat} {E : rs_Ev} {cc : ByteArray} {n : Nat} {rm : Room} {pc : Nat} {lv : List (Nat × Value)} {st : List Value} {S : rs_St}
theorem rx_g0 (F : rs_Fx E cc RX0 n rm) (K : rs_Kx (rs_GX l D dB dI a) E) {idx : Nat} (hq : Cond.fieldLink RX0 idx (TX0 0).1 (TX0 0).2.1 (TX0 0).2.2.1 ∈ lw_all) (hd : decode cc pc = .ok (.getfield idx, 3)) (kk : rs_J (rs_GX l D dB dI a) E (pc + 3) lv (.int (S 0 0) :: st) S) : rs_J (rs_GX l D dB dI a) E pc lv (.ref (a 0) :: st) S := by
  obtain ⟨p, e, R, s, m, args, below, meth, c, Q, A, nL, cells, slots⟩ := E
  obtain ⟨hx, hb, hml, rfl, hown, hts, rfl, hf⟩ := F
  obtain ⟨hK, hA⟩ := K
  intro H locs ls hP hD hS hl
  exact va_get (D := D) (ci := 0) (v := .int (S 0 0)) (C := RX0) (T := TX0) (N := 13) hx hb hts in_X0 hown hK hP 0 rfl rfl 0 (by decide) (hts _ hq) (fun _ h9 => h9) rfl hd (kk H locs ls hP hD hS hl)
theorem rx_p0 (F : rs_Fx E cc RX0 n rm) (K : rs_Kx (rs_GX l D dB dI a) E) {idx : Nat} {x : Int32} (hq : Cond.fieldLink RX0 idx (TX0 0).1 (TX0 0).2.1 (TX0 0).2.2.1 ∈ lw_all) (hd : decode cc pc = .ok (.putfield idx, 3)) (kk : rs_J (rs_GX l D dB dI a) E (pc + 3) lv st (rs_sU S 0 0 x)) : rs_J (rs_GX l D dB dI a) E pc lv (.int x :: .ref (a 0) :: st) S := by
  obtain ⟨p, e, R, s, m, args, below, meth, c, Q, A, nL, cells, slots⟩ := E
  obtain ⟨hx, hb, hml, rfl, hown, hts, rfl, hf⟩ := F
  obtain ⟨hK, hA⟩ := K
  intro H locs ls hP hD hS hl
  exact va_put (D := D) (ci := 0) (v := .int x) (ty := .int) (C := RX0) (T := TX0) (N := 13) hx hb hts in_X0 tyX0 tyX0_ok nmX0 hown hK hP hD hS 0 rfl rfl 0 (by decide) (hts _ hq) (fun _ h9 => h9) rfl (by decide +kernel) rfl rfl (Nat.le_of_ble_eq_true rfl) hd (fun H1 locs1 hP1 hD1 hS1 => kk H1 locs1 ls hP1 hD1 hS1 hl)
theorem rx_g1 (F : rs_Fx E cc RX0 n rm) (K : rs_Kx (rs_GX l D dB dI a) E) {idx : Nat} (hq : Cond.fieldLink RX0 idx (TX0 1).1 (TX0 1).2.1 (TX0 1).2.2.1 ∈ lw_all) (hd : decode cc pc = .ok (.getfield idx, 3)) (kk : rs_J (rs_GX l D dB dI a) E (pc + 3) lv (.ref (a 2) :: st) S) : rs_J (rs_GX l D dB dI a) E pc lv (.ref (a 0) :: st) S := by
  obtain ⟨p, e, R, s, m, args, below, meth, c, Q, A, nL, cells, slots⟩ := E
  obtain ⟨hx, hb, hml, rfl, hown, hts, rfl, hf⟩ := F
  obtain ⟨hK, hA⟩ := K
  intro H locs ls hP hD hS hl
  exact va_get (D := D) (ci := 0) (v := .ref (a 2)) (C := RX0) (T := TX0) (N := 13) hx hb hts in_X0 hown hK hP 0 rfl rfl 1 (by decide) (hts _ hq) (fun _ h9 => h9) rfl hd (kk H locs ls hP hD hS hl)
theorem rx_g2 (F : rs_Fx E cc RX0 n rm) (K : rs_Kx (rs_GX l D dB dI a) E) {idx : Nat} (hq : Cond.fieldLink RX0 idx (TX0 2).1 (TX0 2).2.1 (TX0 2).2.2.1 ∈ lw_all) (hd : decode cc pc = .ok (.getfield idx, 3)) (kk : rs_J (rs_GX l D dB dI a) E (pc + 3) lv (.int (S 2 0) :: st) S) : rs_J (rs_GX l D dB dI a) E pc lv (.ref (a 0) :: st) S := by
  obtain ⟨p, e, R, s, m, args, below, meth, c, Q, A, nL, cells, slots⟩ := E
  obtain ⟨hx, hb, hml, rfl, hown, hts, rfl, hf⟩ := F
  obtain ⟨hK, hA⟩ := K
  intro H locs ls hP hD hS hl
  exact va_get (D := D) (ci := 0) (v := .int (S 2 0)) (C := RX0) (T := TX0) (N := 13) hx hb hts in_X0 hown hK hP 0 rfl rfl 2 (by decide) (hts _ hq) (fun _ h9 => h9) rfl hd (kk H locs ls hP hD hS hl)
theorem rx_p2 (F : rs_Fx E cc RX0 n rm) (K : rs_Kx (rs_GX l D dB dI a) E) {idx : Nat} {x : Int32} (hq : Cond.fieldLink RX0 idx (TX0 2).1 (TX0 2).2.1 (TX0 2).2.2.1 ∈ lw_all) (hd : decode cc pc = .ok (.putfield idx, 3)) (hn : narrow .boolean (.int x) = .int x) (hfit : fits .boolean (.int x) = true) (kk : rs_J (rs_GX l D dB dI a) E (pc + 3) lv st (rs_sU S 2 0 x)) : rs_J (rs_GX l D dB dI a) E pc lv (.int x :: .ref (a 0) :: st) S := by
  obtain ⟨p, e, R, s, m, args, below, meth, c, Q, A, nL, cells, slots⟩ := E
  obtain ⟨hx, hb, hml, rfl, hown, hts, rfl, hf⟩ := F
  obtain ⟨hK, hA⟩ := K
  intro H locs ls hP hD hS hl
  exact va_put (D := D) (ci := 0) (v := .int x) (ty := .boolean) (C := RX0) (T := TX0) (N := 13) hx hb hts in_X0 tyX0 tyX0_ok nmX0 hown hK hP hD hS 0 rfl rfl 2 (by decide) (hts _ hq) (fun _ h9 => h9) rfl (by decide +kernel) hn hfit (Nat.le_of_ble_eq_true rfl) hd (fun H1 locs1 hP1 hD1 hS1 => kk H1 locs1 ls hP1 hD1 hS1 hl)
theorem rx_g3 (F : rs_Fx E cc RX0 n rm) (K : rs_Kx (rs_GX l D dB dI a) E) {idx : Nat} (hq : Cond.fieldLink RX0 idx (TX0 3).1 (TX0 3).2.1 (TX0 3).2.2.1 ∈ lw_all) (hd : decode cc pc = .ok (.getfield idx, 3)) (kk : rs_J (rs_GX l D dB dI a) E (pc + 3) lv (.ref (a 4) :: st) S) : rs_J (rs_GX l D dB dI a) E pc lv (.ref (a 0) :: st) S := by
  obtain ⟨p, e, R, s, m, args, below, meth, c, Q, A, nL, cells, slots⟩ := E
  obtain ⟨hx, hb, hml, rfl, hown, hts, rfl, hf⟩ := F
  obtain ⟨hK, hA⟩ := K
  intro H locs ls hP hD hS hl
  exact va_get (D := D) (ci := 0) (v := .ref (a 4)) (C := RX0) (T := TX0) (N := 13) hx hb hts in_X0 hown hK hP 0 rfl rfl 3 (by decide) (hts _ hq) (fun _ h9 => h9) rfl hd (kk H locs ls hP hD hS hl)
theorem rx_g4 (F : rs_Fx E cc RX0 n rm) (K : rs_Kx (rs_GX l D dB dI a) E) {idx : Nat} (hq : Cond.fieldLink RX0 idx (TX0 4).1 (TX0 4).2.1 (TX0 4).2.2.1 ∈ lw_all) (hd : decode cc pc = .ok (.getfield idx, 3)) (kk : rs_J (rs_GX l D dB dI a) E (pc + 3) lv (.ref (a 5) :: st) S) : rs_J (rs_GX l D dB dI a) E pc lv (.ref (a 0) :: st) S := by
  obtain ⟨p, e, R, s, m, args, below, meth, c, Q, A, nL, cells, slots⟩ := E
  obtain ⟨hx, hb, hml, rfl, hown, hts, rfl, hf⟩ := F
  obtain ⟨hK, hA⟩ := K
  intro H locs ls hP hD hS hl
  exact va_get (D := D) (ci := 0) (v := .ref (a 5)) (C := RX0) (T := TX0) (N := 13) hx hb hts in_X0 hown hK hP 0 rfl rfl 4 (by decide) (hts _ hq) (fun _ h9 => h9) rfl hd (kk H locs ls hP hD hS hl)
theorem rx_g5 (F : rs_Fx E cc RX0 n rm) (K : rs_Kx (rs_GX l D dB dI a) E) {idx : Nat} (hq : Cond.fieldLink RX0 idx (TX0 5).1 (TX0 5).2.1 (TX0 5).2.2.1 ∈ lw_all) (hd : decode cc pc = .ok (.getfield idx, 3)) (kk : rs_J (rs_GX l D dB dI a) E (pc + 3) lv (.int (S 5 0) :: st) S) : rs_J (rs_GX l D dB dI a) E pc lv (.ref (a 0) :: st) S := by
  obtain ⟨p, e, R, s, m, args, below, meth, c, Q, A, nL, cells, slots⟩ := E
  obtain ⟨hx, hb, hml, rfl, hown, hts, rfl, hf⟩ := F
  obtain ⟨hK, hA⟩ := K
  intro H locs ls hP hD hS hl
  exact va_get (D := D) (ci := 0) (v := .int (S 5 0)) (C := RX0) (T := TX0) (N := 13) hx hb hts in_X0 hown hK hP 0 rfl rfl 5 (by decide) (hts _ hq) (fun _ h9 => h9) rfl hd (kk H locs ls hP hD hS hl)
theorem rx_p5 (F : rs_Fx E cc RX0 n rm) (K : rs_Kx (rs_GX l D dB dI a) E) {idx : Nat} {x : Int32} (hq : Cond.fieldLink RX0 idx (TX0 5).1 (TX0 5).2.1 (TX0 5).2.2.1 ∈ lw_all) (hd : decode cc pc = .ok (.putfield idx, 3)) (kk : rs_J (rs_GX l D dB dI a) E (pc + 3) lv st (rs_sU S 5 0 x)) : rs_J (rs_GX l D dB dI a) E pc lv (.int x :: .ref (a 0) :: st) S := by
  obtain ⟨p, e, R, s, m, args, below, meth, c, Q, A, nL, cells, slots⟩ := E
  obtain ⟨hx, hb, hml, rfl, hown, hts, rfl, hf⟩ := F
  obtain ⟨hK, hA⟩ := K
  intro H locs ls hP hD hS hl
  exact va_put (D := D) (ci := 0) (v := .int x) (ty := .int) (C := RX0) (T := TX0) (N := 13) hx hb hts in_X0 tyX0 tyX0_ok nmX0 hown hK hP hD hS 0 rfl rfl 5 (by decide) (hts _ hq) (fun _ h9 => h9) rfl (by decide +kernel) rfl rfl (Nat.le_of_ble_eq_true rfl) hd (fun H1 locs1 hP1 hD1 hS1 => kk H1 locs1 ls hP1 hD1 hS1 hl)
theorem rx_g6 (F : rs_Fx E cc RX0 n rm) (K : rs_Kx (rs_GX l D dB dI a) E) {idx : Nat} (hq : Cond.fieldLink RX0 idx (TX0 6).1 (TX0 6).2.1 (TX0 6).2.2.1 ∈ lw_all) (hd : decode cc pc = .ok (.getfield idx, 3)) (kk : rs_J (rs_GX l D dB dI a) E (pc + 3) lv (.ref (a 7) :: st) S) : rs_J (rs_GX l D dB dI a) E pc lv (.ref (a 0) :: st) S := by
  obtain ⟨p, e, R, s, m, args, below, meth, c, Q, A, nL, cells, slots⟩ := E
  obtain ⟨hx, hb, hml, rfl, hown, hts, rfl, hf⟩ := F
  obtain ⟨hK, hA⟩ := K
  intro H locs ls hP hD hS hl
  exact va_get (D := D) (ci := 0) (v := .ref (a 7)) (C := RX0) (T := TX0) (N := 13) hx hb hts in_X0 hown hK hP 0 rfl rfl 6 (by decide) (hts _ hq) (fun _ h9 => h9) rfl hd (kk H locs ls hP hD hS hl)
theorem rx_g7 (F : rs_Fx E cc RX0 n rm) (K : rs_Kx (rs_GX l D dB dI a) E) {idx : Nat} (hq : Cond.fieldLink RX0 idx (TX0 7).1 (TX0 7).2.1 (TX0 7).2.2.1 ∈ lw_all) (hd : decode cc pc = .ok (.getfield idx, 3)) (kk : rs_J (rs_GX l D dB dI a) E (pc + 3) lv (.ref (a 8) :: st) S) : rs_J (rs_GX l D dB dI a) E pc lv (.ref (a 0) :: st) S := by
  obtain ⟨p, e, R, s, m, args, below, meth, c, Q, A, nL, cells, slots⟩ := E
  obtain ⟨hx, hb, hml, rfl, hown, hts, rfl, hf⟩ := F
  obtain ⟨hK, hA⟩ := K
  intro H locs ls hP hD hS hl
  exact va_get (D := D) (ci := 0) (v := .ref (a 8)) (C := RX0) (T := TX0) (N := 13) hx hb hts in_X0 hown hK hP 0 rfl rfl 7 (by decide) (hts _ hq) (fun _ h9 => h9) rfl hd (kk H locs ls hP hD hS hl)
theorem rx_g8 (F : rs_Fx E cc RX0 n rm) (K : rs_Kx (rs_GX l D dB dI a) E) {idx : Nat} (hq : Cond.fieldLink RX0 idx (TX0 8).1 (TX0 8).2.1 (TX0 8).2.2.1 ∈ lw_all) (hd : decode cc pc = .ok (.getfield idx, 3)) (kk : rs_J (rs_GX l D dB dI a) E (pc + 3) lv (.ref (a 9) :: st) S) : rs_J (rs_GX l D dB dI a) E pc lv (.ref (a 0) :: st) S := by
  obtain ⟨p, e, R, s, m, args, below, meth, c, Q, A, nL, cells, slots⟩ := E
  obtain ⟨hx, hb, hml, rfl, hown, hts, rfl, hf⟩ := F
  obtain ⟨hK, hA⟩ := K
  intro H locs ls hP hD hS hl
  exact va_get (D := D) (ci := 0) (v := .ref (a 9)) (C := RX0) (T := TX0) (N := 13) hx hb hts in_X0 hown hK hP 0 rfl rfl 8 (by decide) (hts _ hq) (fun _ h9 => h9) rfl hd (kk H locs ls hP hD hS hl)
theorem rx_g9 (F : rs_Fx E cc RX0 n rm) (K : rs_Kx (rs_GX l D dB dI a) E) {idx : Nat} (hq : Cond.fieldLink RX0 idx (TX0 9).1 (TX0 9).2.1 (TX0 9).2.2.1 ∈ lw_all) (hd : decode cc pc = .ok (.getfield idx, 3)) (kk : rs_J (rs_GX l D dB dI a) E (pc + 3) lv (.ref (a 10) :: st) S) : rs_J (rs_GX l D dB dI a) E pc lv (.ref (a 0) :: st) S := by
  obtain ⟨p, e, R, s, m, args, below, meth, c, Q, A, nL, cells, slots⟩ := E
  obtain ⟨hx, hb, hml, rfl, hown, hts, rfl, hf⟩ := F
  obtain ⟨hK, hA⟩ := K
  intro H locs ls hP hD hS hl
  exact va_get (D := D) (ci := 0) (v := .ref (a 10)) (C := RX0) (T := TX0) (N := 13) hx hb hts in_X0 hown hK hP 0 rfl rfl 9 (by decide) (hts _ hq) (fun _ h9 => h9) rfl hd (kk H locs ls hP hD hS hl)
theorem rx_g10 (F : rs_Fx E cc RX0 n rm) (K : rs_Kx (rs_GX l D dB dI a) E) {idx : Nat} (hq : Cond.fieldLink RX0 idx (TX0 10).1 (TX0 10).2.1 (TX0 10).2.2.1 ∈ lw_all) (hd : decode cc pc = .ok (.getfield idx, 3)) (kk : rs_J (rs_GX l D dB dI a) E (pc + 3) lv (.int (S 10 0) :: st) S) : rs_J (rs_GX l D dB dI a) E pc lv (.ref (a 0) :: st) S := by
  obtain ⟨p, e, R, s, m, args, below, meth, c, Q, A, nL, cells, slots⟩ := E
  obtain ⟨hx, hb, hml, rfl, hown, hts, rfl, hf⟩ := F
  obtain ⟨hK, hA⟩ := K
  intro H locs ls hP hD hS hl
  exact va_get (D := D) (ci := 0) (v := .int (S 10 0)) (C := RX0) (T := TX0) (N := 13) hx hb hts in_X0 hown hK hP 0 rfl rfl 10 (by decide) (hts _ hq) (fun _ h9 => h9) rfl hd (kk H locs ls hP hD hS hl)
theorem rx_p10 (F : rs_Fx E cc RX0 n rm) (K : rs_Kx (rs_GX l D dB dI a) E) {idx : Nat} {x : Int32} (hq : Cond.fieldLink RX0 idx (TX0 10).1 (TX0 10).2.1 (TX0 10).2.2.1 ∈ lw_all) (hd : decode cc pc = .ok (.putfield idx, 3)) (hn : narrow .boolean (.int x) = .int x) (hfit : fits .boolean (.int x) = true) (kk : rs_J (rs_GX l D dB dI a) E (pc + 3) lv st (rs_sU S 10 0 x)) : rs_J (rs_GX l D dB dI a) E pc lv (.int x :: .ref (a 0) :: st) S := by
  obtain ⟨p, e, R, s, m, args, below, meth, c, Q, A, nL, cells, slots⟩ := E
  obtain ⟨hx, hb, hml, rfl, hown, hts, rfl, hf⟩ := F
  obtain ⟨hK, hA⟩ := K
  intro H locs ls hP hD hS hl
  exact va_put (D := D) (ci := 0) (v := .int x) (ty := .boolean) (C := RX0) (T := TX0) (N := 13) hx hb hts in_X0 tyX0 tyX0_ok nmX0 hown hK hP hD hS 0 rfl rfl 10 (by decide) (hts _ hq) (fun _ h9 => h9) rfl (by decide +kernel) hn hfit (Nat.le_of_ble_eq_true rfl) hd (fun H1 locs1 hP1 hD1 hS1 => kk H1 locs1 ls hP1 hD1 hS1 hl)
theorem rx_g11 (F : rs_Fx E cc RX0 n rm) (K : rs_Kx (rs_GX l D dB dI a) E) {idx : Nat} (hq : Cond.fieldLink RX0 idx (TX0 11).1 (TX0 11).2.1 (TX0 11).2.2.1 ∈ lw_all) (hd : decode cc pc = .ok (.getfield idx, 3)) (kk : rs_J (rs_GX l D dB dI a) E (pc + 3) lv (.ref (a 12) :: st) S) : rs_J (rs_GX l D dB dI a) E pc lv (.ref (a 0) :: st) S := by
  obtain ⟨p, e, R, s, m, args, below, meth, c, Q, A, nL, cells, slots⟩ := E
  obtain ⟨hx, hb, hml, rfl, hown, hts, rfl, hf⟩ := F
  obtain ⟨hK, hA⟩ := K
  intro H locs ls hP hD hS hl
  exact va_get (D := D) (ci := 0) (v := .ref (a 12)) (C := RX0) (T := TX0) (N := 13) hx hb hts in_X0 hown hK hP 0 rfl rfl 11 (by decide) (hts _ hq) (fun _ h9 => h9) rfl hd (kk H locs ls hP hD hS hl)
theorem rx_g12 (F : rs_Fx E cc RX0 n rm) (K : rs_Kx (rs_GX l D dB dI a) E) {idx : Nat} (hq : Cond.fieldLink RX0 idx (TX0 12).1 (TX0 12).2.1 (TX0 12).2.2.1 ∈ lw_all) (hd : decode cc pc = .ok (.getfield idx, 3)) (kk : rs_J (rs_GX l D dB dI a) E (pc + 3) lv (.int (S 12 0) :: st) S) : rs_J (rs_GX l D dB dI a) E pc lv (.ref (a 0) :: st) S := by
  obtain ⟨p, e, R, s, m, args, below, meth, c, Q, A, nL, cells, slots⟩ := E
  obtain ⟨hx, hb, hml, rfl, hown, hts, rfl, hf⟩ := F
  obtain ⟨hK, hA⟩ := K
  intro H locs ls hP hD hS hl
  exact va_get (D := D) (ci := 0) (v := .int (S 12 0)) (C := RX0) (T := TX0) (N := 13) hx hb hts in_X0 hown hK hP 0 rfl rfl 12 (by decide) (hts _ hq) (fun _ h9 => h9) rfl hd (kk H locs ls hP hD hS hl)
theorem rx_p12 (F : rs_Fx E cc RX0 n rm) (K : rs_Kx (rs_GX l D dB dI a) E) {idx : Nat} {x : Int32} (hq : Cond.fieldLink RX0 idx (TX0 12).1 (TX0 12).2.1 (TX0 12).2.2.1 ∈ lw_all) (hd : decode cc pc = .ok (.putfield idx, 3)) (kk : rs_J (rs_GX l D dB dI a) E (pc + 3) lv st (rs_sU S 12 0 x)) : rs_J (rs_GX l D dB dI a) E pc lv (.int x :: .ref (a 0) :: st) S := by
  obtain ⟨p, e, R, s, m, args, below, meth, c, Q, A, nL, cells, slots⟩ := E
  obtain ⟨hx, hb, hml, rfl, hown, hts, rfl, hf⟩ := F
  obtain ⟨hK, hA⟩ := K
  intro H locs ls hP hD hS hl
  exact va_put (D := D) (ci := 0) (v := .int x) (ty := .int) (C := RX0) (T := TX0) (N := 13) hx hb hts in_X0 tyX0 tyX0_ok nmX0 hown hK hP hD hS 0 rfl rfl 12 (by decide) (hts _ hq) (fun _ h9 => h9) rfl (by decide +kernel) rfl rfl (Nat.le_of_ble_eq_true rfl) hd (fun H1 locs1 hP1 hD1 hS1 => kk H1 locs1 ls hP1 hD1 hS1 hl)
theorem rx_l1 (F : rs_Fx E cc RX0 n rm) (K : rs_Kx (rs_GX l D dB dI a) E) {i : Int32} {j : Nat} (hd : decode cc pc = .ok (.baload, 1)) (hi : i = nI j) (hj : j < 21) (kk : rs_J (rs_GX l D dB dI a) E (pc + 1) lv (.int (S 1 j) :: st) S) : rs_J (rs_GX l D dB dI a) E pc lv (.int i :: .ref (a 2) :: st) S := by
  obtain ⟨p, e, R, s, m, args, below, meth, c, Q, A, nL, cells, slots⟩ := E
  obtain ⟨hx, hb, hml, rfl, hown, hts, rfl, hf⟩ := F
  obtain ⟨hK, hA⟩ := K
  intro H locs ls hP hD hS hl
  subst hi
  have hc : (nI j).toNatClampNeg = j := nI_clamp (by omega)
  have h1 := kk H locs ls hP hD hS hl
  rw [← hc] at h1
  exact va_bald (D := D) hx hb hK hP 1 0 rfl rfl (vp_in_nI hj (by decide)) hd h1
theorem rx_s1 (F : rs_Fx E cc RX0 n rm) (K : rs_Kx (rs_GX l D dB dI a) E) {i x v : Int32} {j : Nat} (hd : decode cc pc = .ok (.bastore, 1)) (hi : i = nI j) (hj : j < 21) (hv : vp_nar .byte x = v) (kk : rs_J (rs_GX l D dB dI a) E (pc + 1) lv st (rs_sU S 1 j v)) : rs_J (rs_GX l D dB dI a) E pc lv (.int x :: .int i :: .ref (a 2) :: st) S := by
  obtain ⟨p, e, R, s, m, args, below, meth, c, Q, A, nL, cells, slots⟩ := E
  obtain ⟨hx, hb, hml, rfl, hown, hts, rfl, hf⟩ := F
  obtain ⟨hK, hA⟩ := K
  intro H locs ls hP hD hS hl
  subst hi
  have hc : (nI j).toNatClampNeg = j := nI_clamp (by omega)
  refine va_bast (D := D) hx hb hK hP hD hS 1 0 rfl rfl (vp_in_nI hj (by decide)) hd (fun H1 locs1 hP1 hD1 hS1 => ?_)
  rw [hc, hv] at hP1 hD1
  exact kk H1 locs1 ls hP1 hD1 hS1 hl
theorem rx_l3 (F : rs_Fx E cc RX0 n rm) (K : rs_Kx (rs_GX l D dB dI a) E) {i : Int32} {j : Nat} (hd : decode cc pc = .ok (.baload, 1)) (hi : i = nI j) (hj : j < 21) (kk : rs_J (rs_GX l D dB dI a) E (pc + 1) lv (.int (S 3 j) :: st) S) : rs_J (rs_GX l D dB dI a) E pc lv (.int i :: .ref (a 4) :: st) S := by
  obtain ⟨p, e, R, s, m, args, below, meth, c, Q, A, nL, cells, slots⟩ := E
  obtain ⟨hx, hb, hml, rfl, hown, hts, rfl, hf⟩ := F
  obtain ⟨hK, hA⟩ := K
  intro H locs ls hP hD hS hl
  subst hi
  have hc : (nI j).toNatClampNeg = j := nI_clamp (by omega)
  have h1 := kk H locs ls hP hD hS hl
  rw [← hc] at h1
  exact va_bald (D := D) hx hb hK hP 2 0 rfl rfl (vp_in_nI hj (by decide)) hd h1
theorem rx_s3 (F : rs_Fx E cc RX0 n rm) (K : rs_Kx (rs_GX l D dB dI a) E) {i x v : Int32} {j : Nat} (hd : decode cc pc = .ok (.bastore, 1)) (hi : i = nI j) (hj : j < 21) (hv : vp_nar .byte x = v) (kk : rs_J (rs_GX l D dB dI a) E (pc + 1) lv st (rs_sU S 3 j v)) : rs_J (rs_GX l D dB dI a) E pc lv (.int x :: .int i :: .ref (a 4) :: st) S := by
  obtain ⟨p, e, R, s, m, args, below, meth, c, Q, A, nL, cells, slots⟩ := E
  obtain ⟨hx, hb, hml, rfl, hown, hts, rfl, hf⟩ := F
  obtain ⟨hK, hA⟩ := K
  intro H locs ls hP hD hS hl
  subst hi
  have hc : (nI j).toNatClampNeg = j := nI_clamp (by omega)
  refine va_bast (D := D) hx hb hK hP hD hS 2 0 rfl rfl (vp_in_nI hj (by decide)) hd (fun H1 locs1 hP1 hD1 hS1 => ?_)
  rw [hc, hv] at hP1 hD1
  exact kk H1 locs1 ls hP1 hD1 hS1 hl
theorem rx_l4 (F : rs_Fx E cc RX0 n rm) (K : rs_Kx (rs_GX l D dB dI a) E) {i : Int32} {j : Nat} (hd : decode cc pc = .ok (.baload, 1)) (hi : i = nI j) (hj : j < 84) (kk : rs_J (rs_GX l D dB dI a) E (pc + 1) lv (.int (S 4 j) :: st) S) : rs_J (rs_GX l D dB dI a) E pc lv (.int i :: .ref (a 5) :: st) S := by
  obtain ⟨p, e, R, s, m, args, below, meth, c, Q, A, nL, cells, slots⟩ := E
  obtain ⟨hx, hb, hml, rfl, hown, hts, rfl, hf⟩ := F
  obtain ⟨hK, hA⟩ := K
  intro H locs ls hP hD hS hl
  subst hi
  have hc : (nI j).toNatClampNeg = j := nI_clamp (by omega)
  have h1 := kk H locs ls hP hD hS hl
  rw [← hc] at h1
  exact va_bald (D := D) hx hb hK hP 3 0 rfl rfl (vp_in_nI hj (by decide)) hd h1
theorem rx_s4 (F : rs_Fx E cc RX0 n rm) (K : rs_Kx (rs_GX l D dB dI a) E) {i x v : Int32} {j : Nat} (hd : decode cc pc = .ok (.bastore, 1)) (hi : i = nI j) (hj : j < 84) (hv : vp_nar .byte x = v) (kk : rs_J (rs_GX l D dB dI a) E (pc + 1) lv st (rs_sU S 4 j v)) : rs_J (rs_GX l D dB dI a) E pc lv (.int x :: .int i :: .ref (a 5) :: st) S := by
  obtain ⟨p, e, R, s, m, args, below, meth, c, Q, A, nL, cells, slots⟩ := E
  obtain ⟨hx, hb, hml, rfl, hown, hts, rfl, hf⟩ := F
  obtain ⟨hK, hA⟩ := K
  intro H locs ls hP hD hS hl
  subst hi
  have hc : (nI j).toNatClampNeg = j := nI_clamp (by omega)
  refine va_bast (D := D) hx hb hK hP hD hS 3 0 rfl rfl (vp_in_nI hj (by decide)) hd (fun H1 locs1 hP1 hD1 hS1 => ?_)
  rw [hc, hv] at hP1 hD1
  exact kk H1 locs1 ls hP1 hD1 hS1 hl
theorem rx_l6 (F : rs_Fx E cc RX0 n rm) (K : rs_Kx (rs_GX l D dB dI a) E) {i : Int32} {j : Nat} (hd : decode cc pc = .ok (.baload, 1)) (hi : i = nI j) (hj : j < 48) (kk : rs_J (rs_GX l D dB dI a) E (pc + 1) lv (.int (S 6 j) :: st) S) : rs_J (rs_GX l D dB dI a) E pc lv (.int i :: .ref (a 7) :: st) S := by
  obtain ⟨p, e, R, s, m, args, below, meth, c, Q, A, nL, cells, slots⟩ := E
  obtain ⟨hx, hb, hml, rfl, hown, hts, rfl, hf⟩ := F
  obtain ⟨hK, hA⟩ := K
  intro H locs ls hP hD hS hl
  subst hi
  have hc : (nI j).toNatClampNeg = j := nI_clamp (by omega)
  have h1 := kk H locs ls hP hD hS hl
  rw [← hc] at h1
  exact va_bald (D := D) hx hb hK hP 4 0 rfl rfl (vp_in_nI hj (by decide)) hd h1
theorem rx_s6 (F : rs_Fx E cc RX0 n rm) (K : rs_Kx (rs_GX l D dB dI a) E) {i x v : Int32} {j : Nat} (hd : decode cc pc = .ok (.bastore, 1)) (hi : i = nI j) (hj : j < 48) (hv : vp_nar .byte x = v) (kk : rs_J (rs_GX l D dB dI a) E (pc + 1) lv st (rs_sU S 6 j v)) : rs_J (rs_GX l D dB dI a) E pc lv (.int x :: .int i :: .ref (a 7) :: st) S := by
  obtain ⟨p, e, R, s, m, args, below, meth, c, Q, A, nL, cells, slots⟩ := E
  obtain ⟨hx, hb, hml, rfl, hown, hts, rfl, hf⟩ := F
  obtain ⟨hK, hA⟩ := K
  intro H locs ls hP hD hS hl
  subst hi
  have hc : (nI j).toNatClampNeg = j := nI_clamp (by omega)
  refine va_bast (D := D) hx hb hK hP hD hS 4 0 rfl rfl (vp_in_nI hj (by decide)) hd (fun H1 locs1 hP1 hD1 hS1 => ?_)
  rw [hc, hv] at hP1 hD1
  exact kk H1 locs1 ls hP1 hD1 hS1 hl
theorem rx_l7 (F : rs_Fx E cc RX0 n rm) (K : rs_Kx (rs_GX l D dB dI a) E) {i : Int32} {j : Nat} (hd : decode cc pc = .ok (.baload, 1)) (hi : i = nI j) (hj : j < 48) (kk : rs_J (rs_GX l D dB dI a) E (pc + 1) lv (.int (S 7 j) :: st) S) : rs_J (rs_GX l D dB dI a) E pc lv (.int i :: .ref (a 8) :: st) S := by
  obtain ⟨p, e, R, s, m, args, below, meth, c, Q, A, nL, cells, slots⟩ := E
  obtain ⟨hx, hb, hml, rfl, hown, hts, rfl, hf⟩ := F
  obtain ⟨hK, hA⟩ := K
  intro H locs ls hP hD hS hl
  subst hi
  have hc : (nI j).toNatClampNeg = j := nI_clamp (by omega)
  have h1 := kk H locs ls hP hD hS hl
  rw [← hc] at h1
  exact va_bald (D := D) hx hb hK hP 5 0 rfl rfl (vp_in_nI hj (by decide)) hd h1
theorem rx_s7 (F : rs_Fx E cc RX0 n rm) (K : rs_Kx (rs_GX l D dB dI a) E) {i x v : Int32} {j : Nat} (hd : decode cc pc = .ok (.bastore, 1)) (hi : i = nI j) (hj : j < 48) (hv : vp_nar .byte x = v) (kk : rs_J (rs_GX l D dB dI a) E (pc + 1) lv st (rs_sU S 7 j v)) : rs_J (rs_GX l D dB dI a) E pc lv (.int x :: .int i :: .ref (a 8) :: st) S := by
  obtain ⟨p, e, R, s, m, args, below, meth, c, Q, A, nL, cells, slots⟩ := E
  obtain ⟨hx, hb, hml, rfl, hown, hts, rfl, hf⟩ := F
  obtain ⟨hK, hA⟩ := K
  intro H locs ls hP hD hS hl
  subst hi
  have hc : (nI j).toNatClampNeg = j := nI_clamp (by omega)
  refine va_bast (D := D) hx hb hK hP hD hS 5 0 rfl rfl (vp_in_nI hj (by decide)) hd (fun H1 locs1 hP1 hD1 hS1 => ?_)
  rw [hc, hv] at hP1 hD1
  exact kk H1 locs1 ls hP1 hD1 hS1 hl
theorem rx_l8 (F : rs_Fx E cc RX0 n rm) (K : rs_Kx (rs_GX l D dB dI a) E) {i : Int32} {j : Nat} (hd : decode cc pc = .ok (.baload, 1)) (hi : i = nI j) (hj : j < 96) (kk : rs_J (rs_GX l D dB dI a) E (pc + 1) lv (.int (S 8 j) :: st) S) : rs_J (rs_GX l D dB dI a) E pc lv (.int i :: .ref (a 9) :: st) S := by
  obtain ⟨p, e, R, s, m, args, below, meth, c, Q, A, nL, cells, slots⟩ := E
  obtain ⟨hx, hb, hml, rfl, hown, hts, rfl, hf⟩ := F
  obtain ⟨hK, hA⟩ := K
  intro H locs ls hP hD hS hl
  subst hi
  have hc : (nI j).toNatClampNeg = j := nI_clamp (by omega)
  have h1 := kk H locs ls hP hD hS hl
  rw [← hc] at h1
  exact va_bald (D := D) hx hb hK hP 6 0 rfl rfl (vp_in_nI hj (by decide)) hd h1
theorem rx_s8 (F : rs_Fx E cc RX0 n rm) (K : rs_Kx (rs_GX l D dB dI a) E) {i x v : Int32} {j : Nat} (hd : decode cc pc = .ok (.bastore, 1)) (hi : i = nI j) (hj : j < 96) (hv : vp_nar .byte x = v) (kk : rs_J (rs_GX l D dB dI a) E (pc + 1) lv st (rs_sU S 8 j v)) : rs_J (rs_GX l D dB dI a) E pc lv (.int x :: .int i :: .ref (a 9) :: st) S := by
  obtain ⟨p, e, R, s, m, args, below, meth, c, Q, A, nL, cells, slots⟩ := E
  obtain ⟨hx, hb, hml, rfl, hown, hts, rfl, hf⟩ := F
  obtain ⟨hK, hA⟩ := K
  intro H locs ls hP hD hS hl
  subst hi
  have hc : (nI j).toNatClampNeg = j := nI_clamp (by omega)
  refine va_bast (D := D) hx hb hK hP hD hS 6 0 rfl rfl (vp_in_nI hj (by decide)) hd (fun H1 locs1 hP1 hD1 hS1 => ?_)
  rw [hc, hv] at hP1 hD1
  exact kk H1 locs1 ls hP1 hD1 hS1 hl
theorem rx_l9 (F : rs_Fx E cc RX0 n rm) (K : rs_Kx (rs_GX l D dB dI a) E) {i : Int32} {j : Nat} (hd : decode cc pc = .ok (.iaload, 1)) (hi : i = nI j) (hj : j < 48) (kk : rs_J (rs_GX l D dB dI a) E (pc + 1) lv (.int (S 9 j) :: st) S) : rs_J (rs_GX l D dB dI a) E pc lv (.int i :: .ref (a 10) :: st) S := by
  obtain ⟨p, e, R, s, m, args, below, meth, c, Q, A, nL, cells, slots⟩ := E
  obtain ⟨hx, hb, hml, rfl, hown, hts, rfl, hf⟩ := F
  obtain ⟨hK, hA⟩ := K
  intro H locs ls hP hD hS hl
  subst hi
  have hc : (nI j).toNatClampNeg = j := nI_clamp (by omega)
  have h1 := kk H locs ls hP hD hS hl
  rw [← hc] at h1
  exact va_iald (D := D) hx hb hK hP 7 1 rfl rfl (vp_in_nI hj (by decide)) hd h1
theorem rx_s9 (F : rs_Fx E cc RX0 n rm) (K : rs_Kx (rs_GX l D dB dI a) E) {i x : Int32} {j : Nat} (hd : decode cc pc = .ok (.iastore, 1)) (hi : i = nI j) (hj : j < 48) (kk : rs_J (rs_GX l D dB dI a) E (pc + 1) lv st (rs_sU S 9 j x)) : rs_J (rs_GX l D dB dI a) E pc lv (.int x :: .int i :: .ref (a 10) :: st) S := by
  obtain ⟨p, e, R, s, m, args, below, meth, c, Q, A, nL, cells, slots⟩ := E
  obtain ⟨hx, hb, hml, rfl, hown, hts, rfl, hf⟩ := F
  obtain ⟨hK, hA⟩ := K
  intro H locs ls hP hD hS hl
  subst hi
  have hc : (nI j).toNatClampNeg = j := nI_clamp (by omega)
  refine va_iast (D := D) hx hb hK hP hD hS 7 1 rfl rfl (vp_in_nI hj (by decide)) hd (fun H1 locs1 hP1 hD1 hS1 => ?_)
  rw [hc] at hP1 hD1
  exact kk H1 locs1 ls hP1 hD1 hS1 hl
theorem rx_l11 (F : rs_Fx E cc RX0 n rm) (K : rs_Kx (rs_GX l D dB dI a) E) {i : Int32} {j : Nat} (hd : decode cc pc = .ok (.baload, 1)) (hi : i = nI j) (hj : j < 4) (kk : rs_J (rs_GX l D dB dI a) E (pc + 1) lv (.int (S 11 j) :: st) S) : rs_J (rs_GX l D dB dI a) E pc lv (.int i :: .ref (a 12) :: st) S := by
  obtain ⟨p, e, R, s, m, args, below, meth, c, Q, A, nL, cells, slots⟩ := E
  obtain ⟨hx, hb, hml, rfl, hown, hts, rfl, hf⟩ := F
  obtain ⟨hK, hA⟩ := K
  intro H locs ls hP hD hS hl
  subst hi
  have hc : (nI j).toNatClampNeg = j := nI_clamp (by omega)
  have h1 := kk H locs ls hP hD hS hl
  rw [← hc] at h1
  exact va_bald (D := D) hx hb hK hP 8 0 rfl rfl (vp_in_nI hj (by decide)) hd h1
theorem rx_s11 (F : rs_Fx E cc RX0 n rm) (K : rs_Kx (rs_GX l D dB dI a) E) {i x v : Int32} {j : Nat} (hd : decode cc pc = .ok (.bastore, 1)) (hi : i = nI j) (hj : j < 4) (hv : vp_nar .byte x = v) (kk : rs_J (rs_GX l D dB dI a) E (pc + 1) lv st (rs_sU S 11 j v)) : rs_J (rs_GX l D dB dI a) E pc lv (.int x :: .int i :: .ref (a 12) :: st) S := by
  obtain ⟨p, e, R, s, m, args, below, meth, c, Q, A, nL, cells, slots⟩ := E
  obtain ⟨hx, hb, hml, rfl, hown, hts, rfl, hf⟩ := F
  obtain ⟨hK, hA⟩ := K
  intro H locs ls hP hD hS hl
  subst hi
  have hc : (nI j).toNatClampNeg = j := nI_clamp (by omega)
  refine va_bast (D := D) hx hb hK hP hD hS 8 0 rfl rfl (vp_in_nI hj (by decide)) hd (fun H1 locs1 hP1 hD1 hS1 => ?_)
  rw [hc, hv] at hP1 hD1
  exact kk H1 locs1 ls hP1 hD1 hS1 hl
end RHX
abbrev rs_fM (a : Nat → Nat) (S : rs_St) : List Value := [.ref (a 1), .ref (a 2), .int (S 2 0), .int (S 3 0), .int (S 4 0), .ref (a 6), .int (S 6 0), .ref (a 8), .ref (a 9)]
abbrev rs_wM (dI : ClassId) (a : Nat → Nat) (S : rs_St) : va_W := [(a 0, .inr (1, rs_fM a S)), (a 1, .inl (dI, 42, .inl (S 0))), (a 2, .inl (dI, 2, .inl (S 1))), (a 6, .inl (dI, 21, .inl (S 5))), (a 8, .inl (dI, 21, .inl (S 7))), (a 9, .inl (dI, 21, .inl (S 8)))]
abbrev rs_GM (l : Launch) (D : va_G) (dI : ClassId) (a : Nat → Nat) : rs_Gt rs_St := (l, D, [(dI, .int)], rs_wM dI a)
theorem rs_rcM {l : Launch} {D : va_G} {dI : ClassId} {a : Nat → Nat} : rs_Rc (rs_GM l D dI a) (a 0) RX1 := fun S => ⟨0, 1, (RX1, TX1, 9), rs_fM a S, rfl, rfl, rfl⟩
section RHM
variable {l : Launch} {D : va_G} {dI : ClassId} {a : Nat → Nat} {E : rs_Ev} {cc : ByteArray} {n : Nat} {rm : Room} {pc : Nat} {lv : List (Nat × Value)} {st : List Value} {S : rs_St}
theorem ry_g0 (F : rs_Fx E cc RX1 n rm) (K : rs_Kx (rs_GM l D dI a) E) {idx : Nat} (hq : Cond.fieldLink RX1 idx (TX1 0).1 (TX1 0).2.1 (TX1 0).2.2.1 ∈ lw_all) (hd : decode cc pc = .ok (.getfield idx, 3)) (kk : rs_J (rs_GM l D dI a) E (pc + 3) lv (.ref (a 1) :: st) S) : rs_J (rs_GM l D dI a) E pc lv (.ref (a 0) :: st) S := by
  obtain ⟨p, e, R, s, m, args, below, meth, c, Q, A, nL, cells, slots⟩ := E
  obtain ⟨hx, hb, hml, rfl, hown, hts, rfl, hf⟩ := F
  obtain ⟨hK, hA⟩ := K
  intro H locs ls hP hD hS hl
  exact va_get (D := D) (ci := 1) (v := .ref (a 1)) (C := RX1) (T := TX1) (N := 9) hx hb hts in_X1 hown hK hP 0 rfl rfl 0 (by decide) (hts _ hq) (fun _ h9 => h9) rfl hd (kk H locs ls hP hD hS hl)
theorem ry_g1 (F : rs_Fx E cc RX1 n rm) (K : rs_Kx (rs_GM l D dI a) E) {idx : Nat} (hq : Cond.fieldLink RX1 idx (TX1 1).1 (TX1 1).2.1 (TX1 1).2.2.1 ∈ lw_all) (hd : decode cc pc = .ok (.getfield idx, 3)) (kk : rs_J (rs_GM l D dI a) E (pc + 3) lv (.ref (a 2) :: st) S) : rs_J (rs_GM l D dI a) E pc lv (.ref (a 0) :: st) S := by
  obtain ⟨p, e, R, s, m, args, below, meth, c, Q, A, nL, cells, slots⟩ := E
  obtain ⟨hx, hb, hml, rfl, hown, hts, rfl, hf⟩ := F
  obtain ⟨hK, hA⟩ := K
  intro H locs ls hP hD hS hl
  exact va_get (D := D) (ci := 1) (v := .ref (a 2)) (C := RX1) (T := TX1) (N := 9) hx hb hts in_X1 hown hK hP 0 rfl rfl 1 (by decide) (hts _ hq) (fun _ h9 => h9) rfl hd (kk H locs ls hP hD hS hl)
theorem ry_g2 (F : rs_Fx E cc RX1 n rm) (K : rs_Kx (rs_GM l D dI a) E) {idx : Nat} (hq : Cond.fieldLink RX1 idx (TX1 2).1 (TX1 2).2.1 (TX1 2).2.2.1 ∈ lw_all) (hd : decode cc pc = .ok (.getfield idx, 3)) (kk : rs_J (rs_GM l D dI a) E (pc + 3) lv (.int (S 2 0) :: st) S) : rs_J (rs_GM l D dI a) E pc lv (.ref (a 0) :: st) S := by
  obtain ⟨p, e, R, s, m, args, below, meth, c, Q, A, nL, cells, slots⟩ := E
  obtain ⟨hx, hb, hml, rfl, hown, hts, rfl, hf⟩ := F
  obtain ⟨hK, hA⟩ := K
  intro H locs ls hP hD hS hl
  exact va_get (D := D) (ci := 1) (v := .int (S 2 0)) (C := RX1) (T := TX1) (N := 9) hx hb hts in_X1 hown hK hP 0 rfl rfl 2 (by decide) (hts _ hq) (fun _ h9 => h9) rfl hd (kk H locs ls hP hD hS hl)
theorem ry_p2 (F : rs_Fx E cc RX1 n rm) (K : rs_Kx (rs_GM l D dI a) E) {idx : Nat} {x : Int32} (hq : Cond.fieldLink RX1 idx (TX1 2).1 (TX1 2).2.1 (TX1 2).2.2.1 ∈ lw_all) (hd : decode cc pc = .ok (.putfield idx, 3)) (hn : narrow .boolean (.int x) = .int x) (hfit : fits .boolean (.int x) = true) (kk : rs_J (rs_GM l D dI a) E (pc + 3) lv st (rs_sU S 2 0 x)) : rs_J (rs_GM l D dI a) E pc lv (.int x :: .ref (a 0) :: st) S := by
  obtain ⟨p, e, R, s, m, args, below, meth, c, Q, A, nL, cells, slots⟩ := E
  obtain ⟨hx, hb, hml, rfl, hown, hts, rfl, hf⟩ := F
  obtain ⟨hK, hA⟩ := K
  intro H locs ls hP hD hS hl
  exact va_put (D := D) (ci := 1) (v := .int x) (ty := .boolean) (C := RX1) (T := TX1) (N := 9) hx hb hts in_X1 tyX1 tyX1_ok nmX1 hown hK hP hD hS 0 rfl rfl 2 (by decide) (hts _ hq) (fun _ h9 => h9) rfl (by decide +kernel) hn hfit (Nat.le_of_ble_eq_true rfl) hd (fun H1 locs1 hP1 hD1 hS1 => kk H1 locs1 ls hP1 hD1 hS1 hl)
theorem ry_g3 (F : rs_Fx E cc RX1 n rm) (K : rs_Kx (rs_GM l D dI a) E) {idx : Nat} (hq : Cond.fieldLink RX1 idx (TX1 3).1 (TX1 3).2.1 (TX1 3).2.2.1 ∈ lw_all) (hd : decode cc pc = .ok (.getfield idx, 3)) (kk : rs_J (rs_GM l D dI a) E (pc + 3) lv (.int (S 3 0) :: st) S) : rs_J (rs_GM l D dI a) E pc lv (.ref (a 0) :: st) S := by
  obtain ⟨p, e, R, s, m, args, below, meth, c, Q, A, nL, cells, slots⟩ := E
  obtain ⟨hx, hb, hml, rfl, hown, hts, rfl, hf⟩ := F
  obtain ⟨hK, hA⟩ := K
  intro H locs ls hP hD hS hl
  exact va_get (D := D) (ci := 1) (v := .int (S 3 0)) (C := RX1) (T := TX1) (N := 9) hx hb hts in_X1 hown hK hP 0 rfl rfl 3 (by decide) (hts _ hq) (fun _ h9 => h9) rfl hd (kk H locs ls hP hD hS hl)
theorem ry_p3 (F : rs_Fx E cc RX1 n rm) (K : rs_Kx (rs_GM l D dI a) E) {idx : Nat} {x : Int32} (hq : Cond.fieldLink RX1 idx (TX1 3).1 (TX1 3).2.1 (TX1 3).2.2.1 ∈ lw_all) (hd : decode cc pc = .ok (.putfield idx, 3)) (kk : rs_J (rs_GM l D dI a) E (pc + 3) lv st (rs_sU S 3 0 x)) : rs_J (rs_GM l D dI a) E pc lv (.int x :: .ref (a 0) :: st) S := by
  obtain ⟨p, e, R, s, m, args, below, meth, c, Q, A, nL, cells, slots⟩ := E
  obtain ⟨hx, hb, hml, rfl, hown, hts, rfl, hf⟩ := F
  obtain ⟨hK, hA⟩ := K
  intro H locs ls hP hD hS hl
  exact va_put (D := D) (ci := 1) (v := .int x) (ty := .int) (C := RX1) (T := TX1) (N := 9) hx hb hts in_X1 tyX1 tyX1_ok nmX1 hown hK hP hD hS 0 rfl rfl 3 (by decide) (hts _ hq) (fun _ h9 => h9) rfl (by decide +kernel) rfl rfl (Nat.le_of_ble_eq_true rfl) hd (fun H1 locs1 hP1 hD1 hS1 => kk H1 locs1 ls hP1 hD1 hS1 hl)
theorem ry_g4 (F : rs_Fx E cc RX1 n rm) (K : rs_Kx (rs_GM l D dI a) E) {idx : Nat} (hq : Cond.fieldLink RX1 idx (TX1 4).1 (TX1 4).2.1 (TX1 4).2.2.1 ∈ lw_all) (hd : decode cc pc = .ok (.getfield idx, 3)) (kk : rs_J (rs_GM l D dI a) E (pc + 3) lv (.int (S 4 0) :: st) S) : rs_J (rs_GM l D dI a) E pc lv (.ref (a 0) :: st) S := by
  obtain ⟨p, e, R, s, m, args, below, meth, c, Q, A, nL, cells, slots⟩ := E
  obtain ⟨hx, hb, hml, rfl, hown, hts, rfl, hf⟩ := F
  obtain ⟨hK, hA⟩ := K
  intro H locs ls hP hD hS hl
  exact va_get (D := D) (ci := 1) (v := .int (S 4 0)) (C := RX1) (T := TX1) (N := 9) hx hb hts in_X1 hown hK hP 0 rfl rfl 4 (by decide) (hts _ hq) (fun _ h9 => h9) rfl hd (kk H locs ls hP hD hS hl)
theorem ry_p4 (F : rs_Fx E cc RX1 n rm) (K : rs_Kx (rs_GM l D dI a) E) {idx : Nat} {x : Int32} (hq : Cond.fieldLink RX1 idx (TX1 4).1 (TX1 4).2.1 (TX1 4).2.2.1 ∈ lw_all) (hd : decode cc pc = .ok (.putfield idx, 3)) (kk : rs_J (rs_GM l D dI a) E (pc + 3) lv st (rs_sU S 4 0 x)) : rs_J (rs_GM l D dI a) E pc lv (.int x :: .ref (a 0) :: st) S := by
  obtain ⟨p, e, R, s, m, args, below, meth, c, Q, A, nL, cells, slots⟩ := E
  obtain ⟨hx, hb, hml, rfl, hown, hts, rfl, hf⟩ := F
  obtain ⟨hK, hA⟩ := K
  intro H locs ls hP hD hS hl
  exact va_put (D := D) (ci := 1) (v := .int x) (ty := .int) (C := RX1) (T := TX1) (N := 9) hx hb hts in_X1 tyX1 tyX1_ok nmX1 hown hK hP hD hS 0 rfl rfl 4 (by decide) (hts _ hq) (fun _ h9 => h9) rfl (by decide +kernel) rfl rfl (Nat.le_of_ble_eq_true rfl) hd (fun H1 locs1 hP1 hD1 hS1 => kk H1 locs1 ls hP1 hD1 hS1 hl)
theorem ry_g5 (F : rs_Fx E cc RX1 n rm) (K : rs_Kx (rs_GM l D dI a) E) {idx : Nat} (hq : Cond.fieldLink RX1 idx (TX1 5).1 (TX1 5).2.1 (TX1 5).2.2.1 ∈ lw_all) (hd : decode cc pc = .ok (.getfield idx, 3)) (kk : rs_J (rs_GM l D dI a) E (pc + 3) lv (.ref (a 6) :: st) S) : rs_J (rs_GM l D dI a) E pc lv (.ref (a 0) :: st) S := by
  obtain ⟨p, e, R, s, m, args, below, meth, c, Q, A, nL, cells, slots⟩ := E
  obtain ⟨hx, hb, hml, rfl, hown, hts, rfl, hf⟩ := F
  obtain ⟨hK, hA⟩ := K
  intro H locs ls hP hD hS hl
  exact va_get (D := D) (ci := 1) (v := .ref (a 6)) (C := RX1) (T := TX1) (N := 9) hx hb hts in_X1 hown hK hP 0 rfl rfl 5 (by decide) (hts _ hq) (fun _ h9 => h9) rfl hd (kk H locs ls hP hD hS hl)
theorem ry_g6 (F : rs_Fx E cc RX1 n rm) (K : rs_Kx (rs_GM l D dI a) E) {idx : Nat} (hq : Cond.fieldLink RX1 idx (TX1 6).1 (TX1 6).2.1 (TX1 6).2.2.1 ∈ lw_all) (hd : decode cc pc = .ok (.getfield idx, 3)) (kk : rs_J (rs_GM l D dI a) E (pc + 3) lv (.int (S 6 0) :: st) S) : rs_J (rs_GM l D dI a) E pc lv (.ref (a 0) :: st) S := by
  obtain ⟨p, e, R, s, m, args, below, meth, c, Q, A, nL, cells, slots⟩ := E
  obtain ⟨hx, hb, hml, rfl, hown, hts, rfl, hf⟩ := F
  obtain ⟨hK, hA⟩ := K
  intro H locs ls hP hD hS hl
  exact va_get (D := D) (ci := 1) (v := .int (S 6 0)) (C := RX1) (T := TX1) (N := 9) hx hb hts in_X1 hown hK hP 0 rfl rfl 6 (by decide) (hts _ hq) (fun _ h9 => h9) rfl hd (kk H locs ls hP hD hS hl)
theorem ry_p6 (F : rs_Fx E cc RX1 n rm) (K : rs_Kx (rs_GM l D dI a) E) {idx : Nat} {x : Int32} (hq : Cond.fieldLink RX1 idx (TX1 6).1 (TX1 6).2.1 (TX1 6).2.2.1 ∈ lw_all) (hd : decode cc pc = .ok (.putfield idx, 3)) (kk : rs_J (rs_GM l D dI a) E (pc + 3) lv st (rs_sU S 6 0 x)) : rs_J (rs_GM l D dI a) E pc lv (.int x :: .ref (a 0) :: st) S := by
  obtain ⟨p, e, R, s, m, args, below, meth, c, Q, A, nL, cells, slots⟩ := E
  obtain ⟨hx, hb, hml, rfl, hown, hts, rfl, hf⟩ := F
  obtain ⟨hK, hA⟩ := K
  intro H locs ls hP hD hS hl
  exact va_put (D := D) (ci := 1) (v := .int x) (ty := .int) (C := RX1) (T := TX1) (N := 9) hx hb hts in_X1 tyX1 tyX1_ok nmX1 hown hK hP hD hS 0 rfl rfl 6 (by decide) (hts _ hq) (fun _ h9 => h9) rfl (by decide +kernel) rfl rfl (Nat.le_of_ble_eq_true rfl) hd (fun H1 locs1 hP1 hD1 hS1 => kk H1 locs1 ls hP1 hD1 hS1 hl)
theorem ry_g7 (F : rs_Fx E cc RX1 n rm) (K : rs_Kx (rs_GM l D dI a) E) {idx : Nat} (hq : Cond.fieldLink RX1 idx (TX1 7).1 (TX1 7).2.1 (TX1 7).2.2.1 ∈ lw_all) (hd : decode cc pc = .ok (.getfield idx, 3)) (kk : rs_J (rs_GM l D dI a) E (pc + 3) lv (.ref (a 8) :: st) S) : rs_J (rs_GM l D dI a) E pc lv (.ref (a 0) :: st) S := by
  obtain ⟨p, e, R, s, m, args, below, meth, c, Q, A, nL, cells, slots⟩ := E
  obtain ⟨hx, hb, hml, rfl, hown, hts, rfl, hf⟩ := F
  obtain ⟨hK, hA⟩ := K
  intro H locs ls hP hD hS hl
  exact va_get (D := D) (ci := 1) (v := .ref (a 8)) (C := RX1) (T := TX1) (N := 9) hx hb hts in_X1 hown hK hP 0 rfl rfl 7 (by decide) (hts _ hq) (fun _ h9 => h9) rfl hd (kk H locs ls hP hD hS hl)
theorem ry_g8 (F : rs_Fx E cc RX1 n rm) (K : rs_Kx (rs_GM l D dI a) E) {idx : Nat} (hq : Cond.fieldLink RX1 idx (TX1 8).1 (TX1 8).2.1 (TX1 8).2.2.1 ∈ lw_all) (hd : decode cc pc = .ok (.getfield idx, 3)) (kk : rs_J (rs_GM l D dI a) E (pc + 3) lv (.ref (a 9) :: st) S) : rs_J (rs_GM l D dI a) E pc lv (.ref (a 0) :: st) S := by
  obtain ⟨p, e, R, s, m, args, below, meth, c, Q, A, nL, cells, slots⟩ := E
  obtain ⟨hx, hb, hml, rfl, hown, hts, rfl, hf⟩ := F
  obtain ⟨hK, hA⟩ := K
  intro H locs ls hP hD hS hl
  exact va_get (D := D) (ci := 1) (v := .ref (a 9)) (C := RX1) (T := TX1) (N := 9) hx hb hts in_X1 hown hK hP 0 rfl rfl 8 (by decide) (hts _ hq) (fun _ h9 => h9) rfl hd (kk H locs ls hP hD hS hl)
theorem ry_l0 (F : rs_Fx E cc RX1 n rm) (K : rs_Kx (rs_GM l D dI a) E) {i : Int32} {j : Nat} (hd : decode cc pc = .ok (.iaload, 1)) (hi : i = nI j) (hj : j < 42) (kk : rs_J (rs_GM l D dI a) E (pc + 1) lv (.int (S 0 j) :: st) S) : rs_J (rs_GM l D dI a) E pc lv (.int i :: .ref (a 1) :: st) S := by
  obtain ⟨p, e, R, s, m, args, below, meth, c, Q, A, nL, cells, slots⟩ := E
  obtain ⟨hx, hb, hml, rfl, hown, hts, rfl, hf⟩ := F
  obtain ⟨hK, hA⟩ := K
  intro H locs ls hP hD hS hl
  subst hi
  have hc : (nI j).toNatClampNeg = j := nI_clamp (by omega)
  have h1 := kk H locs ls hP hD hS hl
  rw [← hc] at h1
  exact va_iald (D := D) hx hb hK hP 1 0 rfl rfl (vp_in_nI hj (by decide)) hd h1
theorem ry_s0 (F : rs_Fx E cc RX1 n rm) (K : rs_Kx (rs_GM l D dI a) E) {i x : Int32} {j : Nat} (hd : decode cc pc = .ok (.iastore, 1)) (hi : i = nI j) (hj : j < 42) (kk : rs_J (rs_GM l D dI a) E (pc + 1) lv st (rs_sU S 0 j x)) : rs_J (rs_GM l D dI a) E pc lv (.int x :: .int i :: .ref (a 1) :: st) S := by
  obtain ⟨p, e, R, s, m, args, below, meth, c, Q, A, nL, cells, slots⟩ := E
  obtain ⟨hx, hb, hml, rfl, hown, hts, rfl, hf⟩ := F
  obtain ⟨hK, hA⟩ := K
  intro H locs ls hP hD hS hl
  subst hi
  have hc : (nI j).toNatClampNeg = j := nI_clamp (by omega)
  refine va_iast (D := D) hx hb hK hP hD hS 1 0 rfl rfl (vp_in_nI hj (by decide)) hd (fun H1 locs1 hP1 hD1 hS1 => ?_)
  rw [hc] at hP1 hD1
  exact kk H1 locs1 ls hP1 hD1 hS1 hl
theorem ry_l1 (F : rs_Fx E cc RX1 n rm) (K : rs_Kx (rs_GM l D dI a) E) {i : Int32} {j : Nat} (hd : decode cc pc = .ok (.iaload, 1)) (hi : i = nI j) (hj : j < 2) (kk : rs_J (rs_GM l D dI a) E (pc + 1) lv (.int (S 1 j) :: st) S) : rs_J (rs_GM l D dI a) E pc lv (.int i :: .ref (a 2) :: st) S := by
  obtain ⟨p, e, R, s, m, args, below, meth, c, Q, A, nL, cells, slots⟩ := E
  obtain ⟨hx, hb, hml, rfl, hown, hts, rfl, hf⟩ := F
  obtain ⟨hK, hA⟩ := K
  intro H locs ls hP hD hS hl
  subst hi
  have hc : (nI j).toNatClampNeg = j := nI_clamp (by omega)
  have h1 := kk H locs ls hP hD hS hl
  rw [← hc] at h1
  exact va_iald (D := D) hx hb hK hP 2 0 rfl rfl (vp_in_nI hj (by decide)) hd h1
theorem ry_s1 (F : rs_Fx E cc RX1 n rm) (K : rs_Kx (rs_GM l D dI a) E) {i x : Int32} {j : Nat} (hd : decode cc pc = .ok (.iastore, 1)) (hi : i = nI j) (hj : j < 2) (kk : rs_J (rs_GM l D dI a) E (pc + 1) lv st (rs_sU S 1 j x)) : rs_J (rs_GM l D dI a) E pc lv (.int x :: .int i :: .ref (a 2) :: st) S := by
  obtain ⟨p, e, R, s, m, args, below, meth, c, Q, A, nL, cells, slots⟩ := E
  obtain ⟨hx, hb, hml, rfl, hown, hts, rfl, hf⟩ := F
  obtain ⟨hK, hA⟩ := K
  intro H locs ls hP hD hS hl
  subst hi
  have hc : (nI j).toNatClampNeg = j := nI_clamp (by omega)
  refine va_iast (D := D) hx hb hK hP hD hS 2 0 rfl rfl (vp_in_nI hj (by decide)) hd (fun H1 locs1 hP1 hD1 hS1 => ?_)
  rw [hc] at hP1 hD1
  exact kk H1 locs1 ls hP1 hD1 hS1 hl
theorem ry_l5 (F : rs_Fx E cc RX1 n rm) (K : rs_Kx (rs_GM l D dI a) E) {i : Int32} {j : Nat} (hd : decode cc pc = .ok (.iaload, 1)) (hi : i = nI j) (hj : j < 21) (kk : rs_J (rs_GM l D dI a) E (pc + 1) lv (.int (S 5 j) :: st) S) : rs_J (rs_GM l D dI a) E pc lv (.int i :: .ref (a 6) :: st) S := by
  obtain ⟨p, e, R, s, m, args, below, meth, c, Q, A, nL, cells, slots⟩ := E
  obtain ⟨hx, hb, hml, rfl, hown, hts, rfl, hf⟩ := F
  obtain ⟨hK, hA⟩ := K
  intro H locs ls hP hD hS hl
  subst hi
  have hc : (nI j).toNatClampNeg = j := nI_clamp (by omega)
  have h1 := kk H locs ls hP hD hS hl
  rw [← hc] at h1
  exact va_iald (D := D) hx hb hK hP 3 0 rfl rfl (vp_in_nI hj (by decide)) hd h1
theorem ry_s5 (F : rs_Fx E cc RX1 n rm) (K : rs_Kx (rs_GM l D dI a) E) {i x : Int32} {j : Nat} (hd : decode cc pc = .ok (.iastore, 1)) (hi : i = nI j) (hj : j < 21) (kk : rs_J (rs_GM l D dI a) E (pc + 1) lv st (rs_sU S 5 j x)) : rs_J (rs_GM l D dI a) E pc lv (.int x :: .int i :: .ref (a 6) :: st) S := by
  obtain ⟨p, e, R, s, m, args, below, meth, c, Q, A, nL, cells, slots⟩ := E
  obtain ⟨hx, hb, hml, rfl, hown, hts, rfl, hf⟩ := F
  obtain ⟨hK, hA⟩ := K
  intro H locs ls hP hD hS hl
  subst hi
  have hc : (nI j).toNatClampNeg = j := nI_clamp (by omega)
  refine va_iast (D := D) hx hb hK hP hD hS 3 0 rfl rfl (vp_in_nI hj (by decide)) hd (fun H1 locs1 hP1 hD1 hS1 => ?_)
  rw [hc] at hP1 hD1
  exact kk H1 locs1 ls hP1 hD1 hS1 hl
theorem ry_l7 (F : rs_Fx E cc RX1 n rm) (K : rs_Kx (rs_GM l D dI a) E) {i : Int32} {j : Nat} (hd : decode cc pc = .ok (.iaload, 1)) (hi : i = nI j) (hj : j < 21) (kk : rs_J (rs_GM l D dI a) E (pc + 1) lv (.int (S 7 j) :: st) S) : rs_J (rs_GM l D dI a) E pc lv (.int i :: .ref (a 8) :: st) S := by
  obtain ⟨p, e, R, s, m, args, below, meth, c, Q, A, nL, cells, slots⟩ := E
  obtain ⟨hx, hb, hml, rfl, hown, hts, rfl, hf⟩ := F
  obtain ⟨hK, hA⟩ := K
  intro H locs ls hP hD hS hl
  subst hi
  have hc : (nI j).toNatClampNeg = j := nI_clamp (by omega)
  have h1 := kk H locs ls hP hD hS hl
  rw [← hc] at h1
  exact va_iald (D := D) hx hb hK hP 4 0 rfl rfl (vp_in_nI hj (by decide)) hd h1
theorem ry_s7 (F : rs_Fx E cc RX1 n rm) (K : rs_Kx (rs_GM l D dI a) E) {i x : Int32} {j : Nat} (hd : decode cc pc = .ok (.iastore, 1)) (hi : i = nI j) (hj : j < 21) (kk : rs_J (rs_GM l D dI a) E (pc + 1) lv st (rs_sU S 7 j x)) : rs_J (rs_GM l D dI a) E pc lv (.int x :: .int i :: .ref (a 8) :: st) S := by
  obtain ⟨p, e, R, s, m, args, below, meth, c, Q, A, nL, cells, slots⟩ := E
  obtain ⟨hx, hb, hml, rfl, hown, hts, rfl, hf⟩ := F
  obtain ⟨hK, hA⟩ := K
  intro H locs ls hP hD hS hl
  subst hi
  have hc : (nI j).toNatClampNeg = j := nI_clamp (by omega)
  refine va_iast (D := D) hx hb hK hP hD hS 4 0 rfl rfl (vp_in_nI hj (by decide)) hd (fun H1 locs1 hP1 hD1 hS1 => ?_)
  rw [hc] at hP1 hD1
  exact kk H1 locs1 ls hP1 hD1 hS1 hl
theorem ry_l8 (F : rs_Fx E cc RX1 n rm) (K : rs_Kx (rs_GM l D dI a) E) {i : Int32} {j : Nat} (hd : decode cc pc = .ok (.iaload, 1)) (hi : i = nI j) (hj : j < 21) (kk : rs_J (rs_GM l D dI a) E (pc + 1) lv (.int (S 8 j) :: st) S) : rs_J (rs_GM l D dI a) E pc lv (.int i :: .ref (a 9) :: st) S := by
  obtain ⟨p, e, R, s, m, args, below, meth, c, Q, A, nL, cells, slots⟩ := E
  obtain ⟨hx, hb, hml, rfl, hown, hts, rfl, hf⟩ := F
  obtain ⟨hK, hA⟩ := K
  intro H locs ls hP hD hS hl
  subst hi
  have hc : (nI j).toNatClampNeg = j := nI_clamp (by omega)
  have h1 := kk H locs ls hP hD hS hl
  rw [← hc] at h1
  exact va_iald (D := D) hx hb hK hP 5 0 rfl rfl (vp_in_nI hj (by decide)) hd h1
theorem ry_s8 (F : rs_Fx E cc RX1 n rm) (K : rs_Kx (rs_GM l D dI a) E) {i x : Int32} {j : Nat} (hd : decode cc pc = .ok (.iastore, 1)) (hi : i = nI j) (hj : j < 21) (kk : rs_J (rs_GM l D dI a) E (pc + 1) lv st (rs_sU S 8 j x)) : rs_J (rs_GM l D dI a) E pc lv (.int x :: .int i :: .ref (a 9) :: st) S := by
  obtain ⟨p, e, R, s, m, args, below, meth, c, Q, A, nL, cells, slots⟩ := E
  obtain ⟨hx, hb, hml, rfl, hown, hts, rfl, hf⟩ := F
  obtain ⟨hK, hA⟩ := K
  intro H locs ls hP hD hS hl
  subst hi
  have hc : (nI j).toNatClampNeg = j := nI_clamp (by omega)
  refine va_iast (D := D) hx hb hK hP hD hS 5 0 rfl rfl (vp_in_nI hj (by decide)) hd (fun H1 locs1 hP1 hD1 hS1 => ?_)
  rw [hc] at hP1 hD1
  exact kk H1 locs1 ls hP1 hD1 hS1 hl
end RHM
end
section
/-! PURE, in general: lists in preorder, read from the right by a stack. ar: how many trees a sign takes. -/
section PP
variable {α β : Type} {ar : Nat → Nat} {c : Nat → List α → α}
def pp_ev (ar : Nat → Nat) (c : Nat → List α → α) : List Nat → List α
  | [] => []
  | t :: ts => c t ((pp_ev ar c ts).take (ar t)) :: (pp_ev ar c ts).drop (ar t)
def pp_hg (ar : Nat → Nat) : List Nat → Nat
  | [] => 0
  | t :: ts => pp_hg ar ts - ar t + 1
def pp_vd (ar : Nat → Nat) : List Nat → Prop
  | [] => True
  | t :: ts => ar t ≤ pp_hg ar ts ∧ pp_vd ar ts
theorem pp_ev_len (ts : List Nat) : (pp_ev ar c ts).length = pp_hg ar ts := by
  induction ts with
  | nil => rfl
  | cons t ts ih => simp [pp_ev, pp_hg, ih]
theorem pp_hg_le (ts : List Nat) : pp_hg ar ts ≤ ts.length := by
  induction ts with
  | nil => exact Nat.le_refl _
  | cons t ts ih => simp only [pp_hg, List.length_cons]; omega
theorem pp_hg_pos {ts : List Nat} (h : ts ≠ []) : 1 ≤ pp_hg ar ts := by
  cases ts with
  | nil => exact absurd rfl h
  | cons t ts => simp only [pp_hg]; omega
theorem pp_ev_app {a b : List Nat} (hv : pp_vd ar a) : pp_ev ar c (a ++ b) = pp_ev ar c a ++ pp_ev ar c b := by
  induction a with
  | nil => rfl
  | cons t a ih =>
    have h1 : ar t ≤ (pp_ev ar c a).length := by rw [pp_ev_len]; exact hv.1
    show c t ((pp_ev ar c (a ++ b)).take (ar t)) :: (pp_ev ar c (a ++ b)).drop (ar t) = (c t ((pp_ev ar c a).take (ar t)) :: (pp_ev ar c a).drop (ar t)) ++ pp_ev ar c b
    rw [ih hv.2, List.take_append_of_le_length h1, List.drop_append_of_le_length h1]
    rfl
theorem pp_hg_app {a b : List Nat} (hv : pp_vd ar a) : pp_hg ar (a ++ b) = pp_hg ar a + pp_hg ar b := by
  have h := congrArg List.length (pp_ev_app (c := fun _ _ => ()) (b := b) hv)
  rw [List.length_append, pp_ev_len, pp_ev_len, pp_ev_len] at h
  exact h
theorem pp_vd_app {a b : List Nat} (hv : pp_vd ar a) (hb : pp_vd ar b) : pp_vd ar (a ++ b) := by
  induction a with
  | nil => exact hb
  | cons t a ih =>
    refine ⟨?_, ih hv.2⟩
    show ar t ≤ pp_hg ar (a ++ b)
    rw [pp_hg_app hv.2]
    have := hv.1
    omega
theorem pp_vd_drop {ts : List Nat} (hv : pp_vd ar ts) (j : Nat) : pp_vd ar (ts.drop j) := by
  induction ts generalizing j with
  | nil => simp [pp_vd]
  | cons t ts ih =>
    cases j with
    | zero => exact hv
    | succ j => exact ih hv.2 j
/-- what every tree has -/
theorem pp_all {T : Nat → Prop} {P : α → Prop} (hc : ∀ t l, T t → l.length = ar t → (∀ x ∈ l, P x) → P (c t l)) {ts : List Nat} (ht : ∀ t ∈ ts, T t) (hv : pp_vd ar ts) : ∀ x ∈ pp_ev ar c ts, P x := by
  induction ts with
  | nil => intro x hx; cases hx
  | cons t ts ih =>
    have ih := ih (fun u hu => ht u (List.mem_cons_of_mem _ hu)) hv.2
    have h1 : ar t ≤ (pp_ev ar c ts).length := by rw [pp_ev_len]; exact hv.1
    intro x hx
    rcases List.mem_cons.mp hx with e | e
    · rw [e]
      exact hc t _ (ht t List.mem_cons_self) (List.length_take_of_le h1) (fun y hy => ih y (List.mem_of_mem_take hy))
    · exact ih x (List.mem_of_mem_drop e)
/-- one reading out of another -/
theorem pp_map {T : Nat → Prop} {f : α → β} {d : Nat → List β → β} (hc : ∀ t l, T t → l.length = ar t → f (c t l) = d t (l.map f)) {ts : List Nat} (ht : ∀ t ∈ ts, T t) (hv : pp_vd ar ts) : (pp_ev ar c ts).map f = pp_ev ar d ts := by
  induction ts with
  | nil => rfl
  | cons t ts ih =>
    have ih := ih (fun u hu => ht u (List.mem_cons_of_mem _ hu)) hv.2
    have h1 : ar t ≤ (pp_ev ar c ts).length := by rw [pp_ev_len]; exact hv.1
    show f (c t ((pp_ev ar c ts).take (ar t))) :: ((pp_ev ar c ts).drop (ar t)).map f = d t ((pp_ev ar d ts).take (ar t)) :: (pp_ev ar d ts).drop (ar t)
    rw [hc t _ (ht t List.mem_cons_self) (List.length_take_of_le h1), List.map_take, List.map_drop, ih]
/-- the trees of a list -/
def pp_fo (ar : Nat → Nat) (ts : List Nat) : List (List Nat) := pp_ev ar (fun t l => t :: l.flatten) ts
theorem pp_fo_flat (ts : List Nat) : (pp_fo ar ts).flatten = ts := by
  induction ts with
  | nil => rfl
  | cons t ts ih =>
    show (t :: ((pp_fo ar ts).take (ar t)).flatten) ++ ((pp_fo ar ts).drop (ar t)).flatten = t :: ts
    rw [List.cons_append, ← List.flatten_append, List.take_append_drop, ih]
theorem pp_fo_len (ts : List Nat) : (pp_fo ar ts).length = pp_hg ar ts := pp_ev_len ts
theorem pp_flat {l : List (List Nat)} (h : ∀ x ∈ l, pp_vd ar x ∧ pp_hg ar x = 1) : pp_vd ar l.flatten ∧ pp_hg ar l.flatten = l.length := by
  induction l with
  | nil => exact ⟨trivial, rfl⟩
  | cons x l ih =>
    obtain ⟨h1, h2⟩ := h x List.mem_cons_self
    obtain ⟨h3, h4⟩ := ih (fun y hy => h y (List.mem_cons_of_mem _ hy))
    rw [List.flatten_cons]
    refine ⟨pp_vd_app h1 h3, ?_⟩
    rw [pp_hg_app h1, h2, h4, List.length_cons]
    omega
theorem pp_node {t : Nat} {l : List (List Nat)} (hl : l.length = ar t) (h : ∀ x ∈ l, pp_vd ar x ∧ pp_hg ar x = 1) : pp_vd ar (t :: l.flatten) ∧ pp_hg ar (t :: l.flatten) = 1 := by
  obtain ⟨h1, h2⟩ := pp_flat h
  refine ⟨⟨by rw [h2, hl]; exact Nat.le_refl _, h1⟩, ?_⟩
  show pp_hg ar l.flatten - ar t + 1 = 1
  omega
theorem pp_fo_tree {ts : List Nat} (hv : pp_vd ar ts) : ∀ x ∈ pp_fo ar ts, pp_vd ar x ∧ pp_hg ar x = 1 :=
  pp_all (ar := ar) (c := fun t l => t :: l.flatten) (T := fun _ => True) (P := fun x => pp_vd ar x ∧ pp_hg ar x = 1) (fun t l _ hl h => pp_node hl h) (fun _ _ => trivial) hv
/-- the one reading of one tree -/
def pp_e1 (ar : Nat → Nat) (c : Nat → List α → α) (d : α) (ts : List Nat) : α := (pp_ev ar c ts).headD d
theorem pp_e1_eq {ts : List Nat} (d : α) (h : pp_hg ar ts = 1) : pp_ev ar c ts = [pp_e1 ar c d ts] := by
  have h1 := pp_ev_len (ar := ar) (c := c) ts
  unfold pp_e1
  cases hq : pp_ev ar c ts with
  | nil => rw [hq] at h1; simp at h1; omega
  | cons x r =>
    cases r with
    | nil => rfl
    | cons y r => rw [hq] at h1; simp at h1; omega
theorem pp_ev_flat (d : α) {l : List (List Nat)} (h : ∀ x ∈ l, pp_vd ar x ∧ pp_hg ar x = 1) : pp_ev ar c l.flatten = l.map (pp_e1 ar c d) := by
  induction l with
  | nil => rfl
  | cons x l ih =>
    obtain ⟨h1, h2⟩ := h x List.mem_cons_self
    rw [List.flatten_cons, pp_ev_app h1, ih (fun y hy => h y (List.mem_cons_of_mem _ hy)), pp_e1_eq d h2]
    rfl
theorem pp_e1_node (d : α) {t : Nat} {l : List (List Nat)} (hl : l.length = ar t) (h : ∀ x ∈ l, pp_vd ar x ∧ pp_hg ar x = 1) : pp_e1 ar c d (t :: l.flatten) = c t (l.map (pp_e1 ar c d)) := by
  unfold pp_e1
  show ((c t ((pp_ev ar c l.flatten).take (ar t)) :: (pp_ev ar c l.flatten).drop (ar t)).headD d) = _
  rw [pp_ev_flat d h, List.headD_cons, ← hl, show l.length = (l.map (pp_e1 ar c d)).length by simp, List.take_length]
  rfl
/-- the length of the first k trees -/
def pp_ln (ar : Nat → Nat) (k : Nat) (ts : List Nat) : Nat := ((pp_fo ar ts).take k).flatten.length
theorem pp_ln_0 (ts : List Nat) : pp_ln ar 0 ts = 0 := rfl
theorem pp_ln_cons (k t : Nat) (ts : List Nat) : pp_ln ar (k + 1) (t :: ts) = 1 + pp_ln ar (ar t + k) ts := by
  unfold pp_ln
  show (List.take (k + 1) ((t :: ((pp_fo ar ts).take (ar t)).flatten) :: (pp_fo ar ts).drop (ar t))).flatten.length = _
  rw [List.take_succ_cons, List.flatten_cons, List.take_add, List.flatten_append]
  simp only [List.length_append, List.length_cons]
  omega
theorem pp_ln_le (k : Nat) (ts : List Nat) : pp_ln ar k ts ≤ ts.length := by
  have h := congrArg List.length (pp_fo_flat (ar := ar) ts)
  rw [← List.take_append_drop k (pp_fo ar ts), List.flatten_append, List.length_append] at h
  unfold pp_ln
  omega
theorem pp_drop_ln (k : Nat) (ts : List Nat) : ts.drop (pp_ln ar k ts) = ((pp_fo ar ts).drop k).flatten := by
  have h := pp_fo_flat (ar := ar) ts
  rw [← List.take_append_drop k (pp_fo ar ts), List.flatten_append] at h
  unfold pp_ln
  exact (congrArg (List.drop ((pp_fo ar ts).take k).flatten.length) h.symm).trans List.drop_left
theorem pp_take_ln (k : Nat) (ts : List Nat) : ts.take (pp_ln ar k ts) = ((pp_fo ar ts).take k).flatten := by
  have h := pp_fo_flat (ar := ar) ts
  rw [← List.take_append_drop k (pp_fo ar ts), List.flatten_append] at h
  unfold pp_ln
  exact (congrArg (List.take ((pp_fo ar ts).take k).flatten.length) h.symm).trans List.take_left
/-- behind the first k trees -/
theorem pp_skip {ts : List Nat} (hv : pp_vd ar ts) {k : Nat} (hk : k ≤ pp_hg ar ts) : pp_ev ar c (ts.drop (pp_ln ar k ts)) = (pp_ev ar c ts).drop k := by
  have h3 : pp_vd ar ((pp_fo ar ts).take k).flatten ∧ pp_hg ar ((pp_fo ar ts).take k).flatten = ((pp_fo ar ts).take k).length := pp_flat (fun x hx => pp_fo_tree hv x (List.mem_of_mem_take hx))
  have h4 : ts = ts.take (pp_ln ar k ts) ++ ts.drop (pp_ln ar k ts) := (List.take_append_drop _ _).symm
  have h5 : pp_vd ar (ts.take (pp_ln ar k ts)) := by rw [pp_take_ln]; exact h3.1
  have h6 : (pp_ev ar c (ts.take (pp_ln ar k ts))).length = k := by
    rw [pp_ev_len, pp_take_ln, h3.2, List.length_take, pp_fo_len]
    omega
  have h7 := pp_ev_app (c := c) (b := ts.drop (pp_ln ar k ts)) h5
  rw [List.take_append_drop] at h7
  rw [h7, List.drop_left' h6]
theorem pp_hg_skip {ts : List Nat} (hv : pp_vd ar ts) {k : Nat} (hk : k ≤ pp_hg ar ts) : pp_hg ar (ts.drop (pp_ln ar k ts)) = pp_hg ar ts - k := by
  have h := congrArg List.length (pp_skip (c := fun _ (_ : List Unit) => ()) hv hk)
  rw [pp_ev_len, List.length_drop, pp_ev_len] at h
  exact h
theorem pp_ln_add {ts : List Nat} (hv : pp_vd ar ts) {k : Nat} (hk : 1 ≤ pp_hg ar ts) : pp_ln ar (1 + k) ts = pp_ln ar 1 ts + pp_ln ar k (ts.drop (pp_ln ar 1 ts)) := by
  have h : pp_fo ar (ts.drop (pp_ln ar 1 ts)) = (pp_fo ar ts).drop 1 := pp_skip hv hk
  show ((pp_fo ar ts).take (1 + k)).flatten.length = _
  rw [List.take_add, List.flatten_append, List.length_append]
  show _ = _ + ((pp_fo ar (ts.drop (pp_ln ar 1 ts))).take k).flatten.length
  rw [h]
  rfl
theorem pp_ln_pos {ts : List Nat} (h : ts ≠ []) : 1 ≤ pp_ln ar 1 ts := by
  cases ts with
  | nil => exact absurd rfl h
  | cons t ts => rw [show (1 : Nat) = 0 + 1 from rfl, pp_ln_cons]; omega
/-- the scan from the left: how many trees are still owed -/
def pp_op (ar : Nat → Nat) : Nat → List Nat → Nat
  | o, [] => o
  | o, t :: ts => pp_op ar (o - 1 + ar t) ts
def pp_pr (ar : Nat → Nat) : Nat → List Nat → Prop
  | _, [] => True
  | o, t :: ts => 1 ≤ o ∧ pp_pr ar (o - 1 + ar t) ts
theorem pp_op_vd {ts : List Nat} : ∀ {o : Nat}, pp_pr ar o ts → pp_op ar o ts = 0 → pp_vd ar ts ∧ pp_hg ar ts = o := by
  induction ts with
  | nil => intro o _ h; exact ⟨trivial, h.symm⟩
  | cons t ts ih =>
    intro o hp h
    obtain ⟨h1, h2⟩ := ih hp.2 h
    have h0 := hp.1
    refine ⟨⟨by omega, h1⟩, ?_⟩
    show pp_hg ar ts - ar t + 1 = o
    omega
theorem pp_op_app (a : List Nat) (t : Nat) : ∀ o : Nat, pp_op ar o (a ++ [t]) = pp_op ar o a - 1 + ar t := by
  induction a with
  | nil => intro o; rfl
  | cons u a ih => intro o; exact ih _
theorem pp_pr_app {a : List Nat} {t : Nat} : ∀ {o : Nat}, pp_pr ar o (a ++ [t]) ↔ pp_pr ar o a ∧ 1 ≤ pp_op ar o a := by
  induction a with
  | nil => intro o; simp [pp_pr, pp_op]
  | cons u a ih =>
    intro o
    show (1 ≤ o ∧ pp_pr ar (o - 1 + ar u) (a ++ [t])) ↔ (1 ≤ o ∧ pp_pr ar (o - 1 + ar u) a) ∧ 1 ≤ pp_op ar (o - 1 + ar u) a
    rw [ih]
    exact and_assoc.symm
end PP
end
section
/-! PURE, of plans: signs (0 the end, 1 + s + 4 r a message with one label, 16 more with two), what a role has to do (a list in preorder as well: 1 + s to send, 5 + r to receive, 8 more with two labels) -/
def pp_ar (t : Nat) : Nat := if t = 0 then 0 else if t ≤ 16 then 1 else 2
def pp_sn (t : Nat) : Nat := (t + 3) % 4
def pp_rc (t : Nat) : Nat := (t + 15) / 4 % 4
abbrev pp_tk (t : Nat) : Prop := t < 33 ∧ (t = 0 ∨ pp_sn t ≠ pp_rc t)
def pp_la (v : Nat) : Nat := if v = 0 then 0 else if v ≤ 8 then 1 else 2
def pp_du (v : Nat) : Nat := if v ≤ 8 then v else v - 8
abbrev pp_mi (x t : Nat) : Prop := pp_sn t = x ∨ pp_rc t = x
def pp_pv (x t : Nat) : Nat := (if pp_sn t = x then 1 + pp_rc t else 5 + pp_sn t) + (if t ≤ 16 then 0 else 8)
theorem pp_sn_lt (t : Nat) : pp_sn t < 4 := Nat.mod_lt _ (by decide)
theorem pp_rc_lt (t : Nat) : pp_rc t < 4 := Nat.mod_lt _ (by decide)
theorem pp_pv_in (x t : Nat) : 1 ≤ pp_pv x t ∧ pp_pv x t ≤ 16 := by
  have h1 := pp_sn_lt t
  have h2 := pp_rc_lt t
  unfold pp_pv
  split <;> split <;> omega
theorem pp_pv_la {x t : Nat} (h : t ≠ 0) : pp_la (pp_pv x t) = pp_ar t := by
  have h1 := pp_sn_lt t
  have h2 := pp_rc_lt t
  unfold pp_la pp_pv pp_ar
  rw [if_neg h]
  by_cases h3 : t ≤ 16
  · rw [if_pos h3, if_pos h3]
    by_cases h4 : pp_sn t = x
    · rw [if_pos h4, if_neg (by omega), if_pos (by omega)]
    · rw [if_neg h4, if_neg (by omega), if_pos (by omega)]
  · rw [if_neg h3, if_neg h3]
    by_cases h4 : pp_sn t = x
    · rw [if_pos h4, if_neg (by omega), if_neg (by omega)]
    · rw [if_neg h4, if_neg (by omega), if_neg (by omega)]
theorem pp_pv_du (x t : Nat) : pp_du (pp_pv x t) = if pp_sn t = x then 1 + pp_rc t else 5 + pp_sn t := by
  have h1 := pp_sn_lt t
  have h2 := pp_rc_lt t
  unfold pp_du pp_pv
  by_cases h3 : t ≤ 16
  · rw [if_pos h3]
    by_cases h4 : pp_sn t = x
    · rw [if_pos h4, if_pos (by omega)]; omega
    · rw [if_neg h4, if_pos (by omega)]; omega
  · rw [if_neg h3]
    by_cases h4 : pp_sn t = x
    · rw [if_pos h4, if_neg (by omega)]; omega
    · rw [if_neg h4, if_neg (by omega)]; omega
theorem pp_ar_0 {t : Nat} (h : pp_ar t = 0) : t = 0 := by
  unfold pp_ar at h
  by_cases h0 : t = 0
  · exact h0
  · rw [if_neg h0] at h
    split at h <;> omega
theorem pp_ar_1 {t : Nat} (h : pp_ar t = 1) : t ≠ 0 ∧ t ≤ 16 := by
  unfold pp_ar at h
  by_cases h0 : t = 0
  · rw [if_pos h0] at h; omega
  · rw [if_neg h0] at h
    split at h
    · exact ⟨h0, by assumption⟩
    · omega
theorem pp_ar_2 {t : Nat} (h : pp_ar t = 2) : t ≠ 0 ∧ ¬ t ≤ 16 := by
  unfold pp_ar at h
  by_cases h0 : t = 0
  · rw [if_pos h0] at h; omega
  · rw [if_neg h0] at h
    split at h
    · omega
    · exact ⟨h0, by assumption⟩
/-- by the number of labels -/
theorem pp_cases (t : Nat) {α : Type} {l : List α} (hl : l.length = pp_ar t) : (t = 0 ∧ l = []) ∨ (t ≠ 0 ∧ t ≤ 16 ∧ pp_ar t = 1 ∧ ∃ a, l = [a]) ∨ (t ≠ 0 ∧ ¬ t ≤ 16 ∧ pp_ar t = 2 ∧ ∃ a b, l = [a, b]) := by
  have h3 : pp_ar t = 0 ∨ pp_ar t = 1 ∨ pp_ar t = 2 := by
    unfold pp_ar
    split
    · exact Or.inl rfl
    · split
      · exact Or.inr (Or.inl rfl)
      · exact Or.inr (Or.inr rfl)
  rcases h3 with h | h | h
  · exact Or.inl ⟨pp_ar_0 h, List.length_eq_zero_iff.mp (hl.trans h)⟩
  · refine Or.inr (Or.inl ⟨(pp_ar_1 h).1, (pp_ar_1 h).2, h, ?_⟩)
    exact List.length_eq_one_iff.mp (hl.trans h)
  · refine Or.inr (Or.inr ⟨(pp_ar_2 h).1, (pp_ar_2 h).2, h, ?_⟩)
    rw [h] at hl
    match l, hl with
    | [a, b], _ => exact ⟨a, b, rfl⟩
/-- what role x has to do; none: it isn't fixed -/
def pp_pc (x t : Nat) (l : List (Option (List Nat))) : Option (List Nat) :=
  if t = 0 then some [0]
  else match l with
    | [a] => if pp_mi x t then a.map (fun u => pp_pv x t :: u) else a
    | [some u, some v] => if pp_mi x t then some (pp_pv x t :: (u ++ v)) else if u = v then some u else none
    | _ => none
theorem pp_pc_0 (x : Nat) (l : List (Option (List Nat))) : pp_pc x 0 l = some [0] := by simp [pp_pc]
theorem pp_pc_1 {x t : Nat} (h : t ≠ 0) (a : Option (List Nat)) : pp_pc x t [a] = if pp_mi x t then a.map (fun u => pp_pv x t :: u) else a := by simp [pp_pc, h]
theorem pp_pc_2 {x t : Nat} (h : t ≠ 0) (u v : List Nat) : pp_pc x t [some u, some v] = if pp_mi x t then some (pp_pv x t :: (u ++ v)) else if u = v then some u else none := by simp [pp_pc, h]
theorem pp_pc_n {x t : Nat} (h : t ≠ 0) (a b : Option (List Nat)) (hn : a = none ∨ b = none) : pp_pc x t [a, b] = none := by
  rcases hn with rfl | rfl
  · simp [pp_pc, h]
  · cases a <;> simp [pp_pc, h]
/-- two labels, and fixed: both parts are -/
theorem pp_pc_some {x t : Nat} (h : t ≠ 0) {a b : Option (List Nat)} {L : List Nat} (hs : pp_pc x t [a, b] = some L) : ∃ u v, a = some u ∧ b = some v ∧ ((pp_mi x t ∧ L = pp_pv x t :: (u ++ v)) ∨ (¬ pp_mi x t ∧ u = v ∧ L = u)) := by
  cases a with
  | none => rw [pp_pc_n h _ _ (Or.inl rfl)] at hs; cases hs
  | some u =>
    cases b with
    | none => rw [pp_pc_n h _ _ (Or.inr rfl)] at hs; cases hs
    | some v =>
      refine ⟨u, v, rfl, rfl, ?_⟩
      rw [pp_pc_2 h] at hs
      by_cases hm : pp_mi x t
      · rw [if_pos hm] at hs
        exact Or.inl ⟨hm, (Option.some.inj hs).symm⟩
      · rw [if_neg hm] at hs
        by_cases hu : u = v
        · rw [if_pos hu] at hs
          exact Or.inr ⟨hm, hu, (Option.some.inj hs).symm⟩
        · rw [if_neg hu] at hs
          cases hs
theorem pp_pc_some1 {x t : Nat} (h : t ≠ 0) {a : Option (List Nat)} {L : List Nat} (hs : pp_pc x t [a] = some L) : ∃ u, a = some u ∧ ((pp_mi x t ∧ L = pp_pv x t :: u) ∨ (¬ pp_mi x t ∧ L = u)) := by
  rw [pp_pc_1 h] at hs
  cases a with
  | none => by_cases hm : pp_mi x t <;> simp [hm] at hs
  | some u =>
    refine ⟨u, rfl, ?_⟩
    by_cases hm : pp_mi x t
    · rw [if_pos hm] at hs
      exact Or.inl ⟨hm, (Option.some.inj hs).symm⟩
    · rw [if_neg hm] at hs
      exact Or.inr ⟨hm, (Option.some.inj hs).symm⟩
/-- a part is one tree of its own kind, of small numbers -/
def pp_lt (L : List Nat) : Prop := pp_vd pp_la L ∧ pp_hg pp_la L = 1 ∧ ∀ v ∈ L, v ≤ 16
theorem pp_lt_0 : pp_lt [0] := ⟨⟨Nat.zero_le _, trivial⟩, rfl, fun v h => by rw [List.mem_singleton.mp h]; decide⟩
theorem pp_lt_node {v : Nat} {l : List (List Nat)} (hv : v ≤ 16) (hl : l.length = pp_la v) (h : ∀ L ∈ l, pp_lt L) : pp_lt (v :: l.flatten) := by
  obtain ⟨h1, h2⟩ := pp_node hl (fun x hx => ⟨(h x hx).1, (h x hx).2.1⟩)
  refine ⟨h1, h2, fun u hu => ?_⟩
  rcases List.mem_cons.mp hu with e | e
  · rw [e]; exact hv
  · obtain ⟨L, hL, hm⟩ := List.mem_flatten.mp e
    exact (h L hL).2.2 u hm
theorem pp_pc_lt {x t : Nat} {l : List (Option (List Nat))} (hl : l.length = pp_ar t) (h : ∀ o ∈ l, ∀ L, o = some L → pp_lt L) : ∀ L, pp_pc x t l = some L → pp_lt L := by
  intro L hL
  rcases pp_cases t hl with ⟨h0, rfl⟩ | ⟨h0, h1, h2, a, rfl⟩ | ⟨h0, h1, h2, a, b, rfl⟩
  · rw [h0, pp_pc_0] at hL
    rw [← Option.some.inj hL]
    exact pp_lt_0
  · obtain ⟨u, rfl, h3 | h3⟩ := pp_pc_some1 h0 hL
    · rw [h3.2]
      have := pp_lt_node (v := pp_pv x t) (l := [u]) (pp_pv_in x t).2 (by rw [pp_pv_la h0, h2]; rfl) (fun M hM => by rw [List.mem_singleton.mp hM]; exact h (some u) List.mem_cons_self u rfl)
      simpa using this
    · rw [h3.2]
      exact h (some u) List.mem_cons_self u rfl
  · obtain ⟨u, v, rfl, rfl, h3 | h3⟩ := pp_pc_some h0 hL
    · rw [h3.2]
      have := pp_lt_node (v := pp_pv x t) (l := [u, v]) (pp_pv_in x t).2 (by rw [pp_pv_la h0, h2]; rfl) (fun M hM => by
        rcases List.mem_cons.mp hM with e | e
        · rw [e]; exact h (some u) List.mem_cons_self u rfl
        · rw [List.mem_singleton.mp e]; exact h (some v) (List.mem_cons_of_mem _ List.mem_cons_self) v rfl)
      simpa using this
    · rw [h3.2.2]
      exact h (some u) List.mem_cons_self u rfl
/-- the stack of what role x has to do by the plans of a list, and by one plan -/
abbrev pp_pj (x : Nat) (ts : List Nat) : List (Option (List Nat)) := pp_ev pp_ar (pp_pc x) ts
abbrev pp_p1 (x : Nat) (ts : List Nat) : Option (List Nat) := pp_e1 pp_ar (pp_pc x) none ts
theorem pp_pj_1 (x : Nat) {ts : List Nat} (h : pp_hg pp_ar ts = 1) : pp_pj x ts = [pp_p1 x ts] := pp_e1_eq none h
theorem pp_pj_lt {x : Nat} {ts : List Nat} (hv : pp_vd pp_ar ts) : ∀ o ∈ pp_pj x ts, ∀ L, o = some L → pp_lt L :=
  pp_all (ar := pp_ar) (c := pp_pc x) (T := fun _ => True) (P := fun o => ∀ L, o = some L → pp_lt L) (fun _ _ _ hl h => pp_pc_lt hl h) (fun _ _ => trivial) hv
theorem pp_p1_lt {x : Nat} {ts : List Nat} (hv : pp_vd pp_ar ts) (h1 : pp_hg pp_ar ts = 1) {L : List Nat} (h : pp_p1 x ts = some L) : pp_lt L :=
  pp_pj_lt (x := x) hv (some L) (by rw [pp_pj_1 x h1, ← h]; exact List.mem_cons_self) L rfl
/-- two trees behind each other are told apart -/
theorem pp_lt_two {u v : List Nat} (hu : pp_lt u) (hv : pp_lt v) : pp_fo pp_la (u ++ v) = [u, v] := by
  have h1 : ∀ {w : List Nat}, pp_lt w → pp_fo pp_la w = [w] := by
    intro w hw
    have h2 := pp_e1_eq (ar := pp_la) (c := fun t l => t :: l.flatten) (ts := w) [] hw.2.1
    have h3 := pp_fo_flat (ar := pp_la) w
    unfold pp_fo at h3 ⊢
    rw [h2] at h3 ⊢
    simp at h3
    rw [h3]
  have h2 : pp_fo pp_la (u ++ v) = pp_fo pp_la u ++ pp_fo pp_la v := pp_ev_app hu.1
  rw [h2, h1 hu, h1 hv]
  rfl
theorem pp_lt_one {w : List Nat} (hw : pp_lt w) : pp_fo pp_la w = [w] := by
  have h2 := pp_e1_eq (ar := pp_la) (c := fun t l => t :: l.flatten) (ts := w) [] hw.2.1
  have h3 := pp_fo_flat (ar := pp_la) w
  unfold pp_fo at h3 ⊢
  rw [h2] at h3 ⊢
  simp at h3
  rw [h3]
/-- what is left of a part behind label k -/
def pp_ch (k : Nat) (L : List Nat) : List Nat := (pp_fo pp_la L.tail).getD k []
theorem pp_ch_1 {v : Nat} {u : List Nat} (hu : pp_lt u) : pp_ch 0 (v :: u) = u := by
  unfold pp_ch
  rw [List.tail_cons, pp_lt_one hu]
  rfl
theorem pp_ch_2 {v : Nat} {u w : List Nat} (hu : pp_lt u) (hw : pp_lt w) : pp_ch 0 (v :: (u ++ w)) = u ∧ pp_ch 1 (v :: (u ++ w)) = w := by
  unfold pp_ch
  rw [List.tail_cons, pp_lt_two hu hw]
  exact ⟨rfl, rfl⟩
/-- the number of messages in a part -/
def pp_ct : List Nat → Nat
  | [] => 0
  | v :: l => (if v = 0 then 0 else 1) + pp_ct l
theorem pp_ct_app (a b : List Nat) : pp_ct (a ++ b) = pp_ct a + pp_ct b := by
  induction a with
  | nil => simp [pp_ct]
  | cons v a ih => rw [List.cons_append]; simp only [pp_ct, ih]; omega
theorem pp_ct_le (a : List Nat) : pp_ct a ≤ a.length := by
  induction a with
  | nil => exact Nat.le_refl _
  | cons v a ih => simp only [pp_ct, List.length_cons]; split <;> omega
/-- the reference's reading: a part of some kind in any case, and whether all was fixed -/
def pp_ck (x t : Nat) (l : List (List Nat)) : Bool := if t = 0 ∨ pp_mi x t then true else match l with
  | [a, b] => decide (a = b)
  | _ => true
def pp_rd (x t : Nat) (l : List (List Nat)) : List Nat := if t = 0 then [0] else if pp_mi x t then pp_pv x t :: l.flatten else match l with
  | [a] => a
  | [_, b] => b
  | _ => []
def pp_cm (x t : Nat) (l : List (List Nat × Bool)) : List Nat × Bool := (pp_rd x t (l.map Prod.fst), l.all Prod.snd && pp_ck x t (l.map Prod.fst))
def pp_op1 (q : List Nat × Bool) : Option (List Nat) := if q.2 = true then some q.1 else none
theorem pp_cm_op (x t : Nat) (l : List (List Nat × Bool)) (hl : l.length = pp_ar t) : pp_op1 (pp_cm x t l) = pp_pc x t (l.map pp_op1) := by
  rcases pp_cases t hl with ⟨h0, rfl⟩ | ⟨h0, h1, h2, a, rfl⟩ | ⟨h0, h1, h2, a, b, rfl⟩
  · subst h0
    simp [pp_op1, pp_cm, pp_rd, pp_ck, pp_pc]
  · obtain ⟨u, o⟩ := a
    by_cases hm : pp_mi x t
    · cases o <;> simp [pp_op1, pp_cm, pp_rd, pp_ck, pp_pc, h0, hm]
    · cases o <;> simp [pp_op1, pp_cm, pp_rd, pp_ck, pp_pc, h0, hm]
  · obtain ⟨u, o⟩ := a
    obtain ⟨v, q⟩ := b
    by_cases hm : pp_mi x t
    · cases o <;> cases q <;> simp [pp_op1, pp_cm, pp_rd, pp_ck, pp_pc, h0, hm]
    · by_cases huv : u = v
      · subst huv
        cases o <;> cases q <;> simp [pp_op1, pp_cm, pp_rd, pp_ck, pp_pc, h0, hm]
      · cases o <;> cases q <;> simp [pp_op1, pp_cm, pp_rd, pp_ck, pp_pc, h0, hm, huv]
abbrev pp_rs (x : Nat) (ts : List Nat) : List (List Nat × Bool) := pp_ev pp_ar (pp_cm x) ts
theorem pp_rs_pj {x : Nat} {ts : List Nat} (hv : pp_vd pp_ar ts) : (pp_rs x ts).map pp_op1 = pp_pj x ts :=
  pp_map (ar := pp_ar) (c := pp_cm x) (d := pp_pc x) (f := pp_op1) (T := fun _ => True) (fun t l _ hl => pp_cm_op x t l hl) (fun _ _ => trivial) hv
/-- one plan: the reference's reading is the part, if it is fixed -/
theorem pp_rs_1 {x : Nat} {ts : List Nat} (hv : pp_vd pp_ar ts) (h1 : pp_hg pp_ar ts = 1) : ∃ q, pp_rs x ts = [q] ∧ pp_op1 q = pp_p1 x ts := by
  have h2 := pp_rs_pj (x := x) hv
  have h3 : pp_rs x ts = [pp_e1 pp_ar (pp_cm x) ([], true) ts] := pp_e1_eq ([], true) h1
  refine ⟨_, h3, ?_⟩
  rw [h3, pp_pj_1 x h1] at h2
  simpa using h2
theorem pp_rd_small {x t : Nat} {l : List (List Nat × Bool)} (hl : l.length = pp_ar t) (h : ∀ q ∈ l, ∀ v ∈ q.1, v ≤ 16) : ∀ v ∈ (pp_cm x t l).1, v ≤ 16 := by
  intro v hv
  rcases pp_cases t hl with ⟨h0, rfl⟩ | ⟨h0, h1, h2, a, rfl⟩ | ⟨h0, h1, h2, a, b, rfl⟩
  · have : v = 0 := by simpa [pp_cm, pp_rd, h0] using hv
    omega
  · by_cases hm : pp_mi x t
    · have h3 : v = pp_pv x t ∨ v ∈ a.1 := by simpa [pp_cm, pp_rd, h0, hm] using hv
      rcases h3 with e | e
      · rw [e]; exact (pp_pv_in x t).2
      · exact h a List.mem_cons_self v e
    · have h3 : v ∈ a.1 := by simpa [pp_cm, pp_rd, h0, hm] using hv
      exact h a List.mem_cons_self v h3
  · by_cases hm : pp_mi x t
    · have h3 : v = pp_pv x t ∨ v ∈ a.1 ∨ v ∈ b.1 := by simpa [pp_cm, pp_rd, h0, hm] using hv
      rcases h3 with e | e | e
      · rw [e]; exact (pp_pv_in x t).2
      · exact h a List.mem_cons_self v e
      · exact h b (List.mem_cons_of_mem _ List.mem_cons_self) v e
    · have h3 : v ∈ b.1 := by simpa [pp_cm, pp_rd, h0, hm] using hv
      exact h b (List.mem_cons_of_mem _ List.mem_cons_self) v h3
theorem pp_rs_small {x : Nat} {ts : List Nat} (hv : pp_vd pp_ar ts) : ∀ q ∈ pp_rs x ts, ∀ v ∈ q.1, v ≤ 16 :=
  pp_all (ar := pp_ar) (c := pp_cm x) (T := fun _ => True) (P := fun q => ∀ v ∈ q.1, v ≤ 16) (fun _ _ _ hl h => pp_rd_small hl h) (fun _ _ => trivial) hv
end
section
/-! PURE, of messages: when one is possible, and what is left of the plan behind it -/
abbrev pp_mt (r s t : Nat) : Prop := t ≠ 0 ∧ pp_sn t = r ∧ pp_rc t = s
abbrev pp_ot (r s t : Nat) : Prop := t ≠ 0 ∧ pp_sn t ≠ r ∧ pp_sn t ≠ s ∧ pp_rc t ≠ r ∧ pp_rc t ≠ s
def pp_ps (r s k t : Nat) (l : List Bool) : Bool := if pp_mt r s t ∧ k < pp_ar t then true else if pp_ot r s t then l.all id else false
/-- the first duties of two parts meet -/
abbrev pp_hc (r s k : Nat) (A B : List Nat) : Prop := pp_du (A.headD 0) = 1 + s ∧ pp_du (B.headD 0) = 5 + r ∧ k < pp_la (A.headD 0) ∧ k < pp_la (B.headD 0)
def pp_tr (r s k t : Nat) (l : List (Option (List Nat) × Option (List Nat) × Bool)) : Option (List Nat) × Option (List Nat) × Bool := (pp_pc r t (l.map (fun q => q.1)), pp_pc s t (l.map (fun q => q.2.1)), pp_ps r s k t (l.map (fun q => q.2.2)))
/-- a part that begins with a sign of its own -/
theorem pp_pc_mine {x t : Nat} (h0 : t ≠ 0) (hm : pp_mi x t) {l : List (Option (List Nat))} (hl : l.length = pp_ar t) {A : List Nat} (h : pp_pc x t l = some A) : A.headD 0 = pp_pv x t := by
  rcases pp_cases t hl with ⟨hz, rfl⟩ | ⟨_, h1, h2, a, rfl⟩ | ⟨_, h1, h2, a, b, rfl⟩
  · exact absurd hz h0
  · obtain ⟨u, -, h3 | h3⟩ := pp_pc_some1 h0 h
    · rw [h3.2]; rfl
    · exact absurd hm h3.1
  · obtain ⟨u, v, -, -, h3 | h3⟩ := pp_pc_some h0 h
    · rw [h3.2]; rfl
    · exact absurd hm h3.1
theorem pp_tr_ok {r s k : Nat} (hr : r < 4) (hs : s < 4) (hrs : r ≠ s) (t : Nat) (l : List (Option (List Nat) × Option (List Nat) × Bool)) (ht : pp_tk t) (hl : l.length = pp_ar t) (h : ∀ q ∈ l, ∀ A B, q.1 = some A → q.2.1 = some B → (q.2.2 = true ↔ pp_hc r s k A B)) : ∀ A B, (pp_tr r s k t l).1 = some A → (pp_tr r s k t l).2.1 = some B → ((pp_tr r s k t l).2.2 = true ↔ pp_hc r s k A B) := by
  intro A B hA hB
  have hA : pp_pc r t (l.map (fun q => q.1)) = some A := hA
  have hB : pp_pc s t (l.map (fun q => q.2.1)) = some B := hB
  show pp_ps r s k t (l.map (fun q => q.2.2)) = true ↔ _
  have hl1 : (l.map (fun q => q.1)).length = pp_ar t := by rw [List.length_map]; exact hl
  have hl2 : (l.map (fun q => q.2.1)).length = pp_ar t := by rw [List.length_map]; exact hl
  by_cases h0 : t = 0
  · subst h0
    rw [pp_pc_0] at hA
    have e := Option.some.inj hA
    subst e
    unfold pp_ps pp_hc
    rw [if_neg (fun h => h.1.1 rfl), if_neg (fun h => h.1 rfl)]
    constructor
    · intro h; cases h
    · intro h
      have h1 := h.1
      have : pp_du (List.headD [0] 0) = 0 := rfl
      omega
  have htk : pp_sn t ≠ pp_rc t := by
    rcases ht.2 with h | h
    · exact absurd h h0
    · exact h
  have hsn := pp_sn_lt t
  have hrc := pp_rc_lt t
  have head : ∀ {x : Nat} {M : List Nat} {l' : List (Option (List Nat))}, l'.length = pp_ar t → pp_mi x t → pp_pc x t l' = some M → pp_du (M.headD 0) = (if pp_sn t = x then 1 + pp_rc t else 5 + pp_sn t) ∧ pp_la (M.headD 0) = pp_ar t := by
    intro x M l' h1 h2 h3
    rw [pp_pc_mine h0 h2 h1 h3]
    exact ⟨pp_pv_du x t, pp_pv_la h0⟩
  by_cases hm : pp_mt r s t
  · obtain ⟨a1, a2⟩ := head hl1 (Or.inl hm.2.1) hA
    obtain ⟨b1, b2⟩ := head hl2 (Or.inr hm.2.2) hB
    rw [if_pos hm.2.1] at a1
    rw [if_neg (by rw [hm.2.1]; exact hrs)] at b1
    unfold pp_ps pp_hc
    by_cases hk : k < pp_ar t
    · rw [if_pos ⟨hm, hk⟩]
      have h1 := hm.2.1
      have h2 := hm.2.2
      constructor
      · intro _; exact ⟨by omega, by omega, by omega, by omega⟩
      · intro _; rfl
    · rw [if_neg (fun h => hk h.2), if_neg (fun h => h.2.1 hm.2.1)]
      constructor
      · intro h; cases h
      · intro h
        have h1 := h.2.2.1
        omega
  · by_cases ho : pp_ot r s t
    · have nr : ¬ pp_mi r t := fun h => h.elim ho.2.1 ho.2.2.2.1
      have ns : ¬ pp_mi s t := fun h => h.elim ho.2.2.1 ho.2.2.2.2
      unfold pp_ps
      rw [if_neg (fun h => hm h.1), if_pos ho]
      rcases pp_cases t hl with ⟨hz, rfl⟩ | ⟨_, h1, h2, a, rfl⟩ | ⟨_, h1, h2, a, b, rfl⟩
      · exact absurd hz h0
      · obtain ⟨u, e1, h3 | h3⟩ := pp_pc_some1 h0 hA
        · exact absurd h3.1 nr
        · obtain ⟨v, e2, h4 | h4⟩ := pp_pc_some1 h0 hB
          · exact absurd h4.1 ns
          · have := h a List.mem_cons_self u v e1 e2
            rw [h3.2, h4.2, ← this]
            simp
      · obtain ⟨u, u2, e1, e2, h3 | h3⟩ := pp_pc_some h0 hA
        · exact absurd h3.1 nr
        · obtain ⟨v, v2, e3, e4, h4 | h4⟩ := pp_pc_some h0 hB
          · exact absurd h4.1 ns
          · have q1 := h a List.mem_cons_self u v e1 e3
            have q2 := h b (List.mem_cons_of_mem _ List.mem_cons_self) u2 v2 e2 e4
            rw [← h3.2.1, ← h4.2.1] at q2
            rw [h3.2.2, h4.2.2]
            simp only [List.map_cons, List.map_nil, List.all_cons, List.all_nil, id, Bool.and_true, Bool.and_eq_true]
            rw [q1, q2]
            exact and_self_iff
    · unfold pp_ps
      rw [if_neg (fun h => hm h.1), if_neg ho]
      constructor
      · intro h; cases h
      · intro h
        exfalso
        by_cases c1 : pp_sn t = r
        · obtain ⟨a1, a2⟩ := head hl1 (Or.inl c1) hA
          rw [if_pos c1] at a1
          have h1 := h.1
          exact hm ⟨h0, c1, by omega⟩
        · by_cases c2 : pp_rc t = r
          · obtain ⟨a1, a2⟩ := head hl1 (Or.inr c2) hA
            rw [if_neg c1] at a1
            have h1 := h.1
            omega
          · by_cases c3 : pp_sn t = s
            · obtain ⟨b1, b2⟩ := head hl2 (Or.inl c3) hB
              rw [if_pos c3] at b1
              have h1 := h.2.1
              omega
            · by_cases c4 : pp_rc t = s
              · obtain ⟨b1, b2⟩ := head hl2 (Or.inr c4) hB
                rw [if_neg c3] at b1
                have h1 := h.2.1
                omega
              · exact ho ⟨h0, c1, c3, c2, c4⟩
/-- a message is possible by the plan that is left just if the two roles' parts say so -/
theorem pp_possible {r s k : Nat} (hr : r < 4) (hs : s < 4) (hrs : r ≠ s) {g : List Nat} (hv : pp_vd pp_ar g) (h1 : pp_hg pp_ar g = 1) (ht : ∀ t ∈ g, pp_tk t) {A B : List Nat} (hA : pp_p1 r g = some A) (hB : pp_p1 s g = some B) : (pp_ev pp_ar (pp_ps r s k) g).all id = true ↔ pp_hc r s k A B := by
  have m1 : (pp_ev pp_ar (pp_tr r s k) g).map (fun q => q.1) = pp_pj r g := pp_map (ar := pp_ar) (c := pp_tr r s k) (d := pp_pc r) (f := fun q => q.1) (T := fun _ => True) (fun _ _ _ _ => rfl) (fun _ _ => trivial) hv
  have m2 : (pp_ev pp_ar (pp_tr r s k) g).map (fun q => q.2.1) = pp_pj s g := pp_map (ar := pp_ar) (c := pp_tr r s k) (d := pp_pc s) (f := fun q => q.2.1) (T := fun _ => True) (fun _ _ _ _ => rfl) (fun _ _ => trivial) hv
  have m3 : (pp_ev pp_ar (pp_tr r s k) g).map (fun q => q.2.2) = pp_ev pp_ar (pp_ps r s k) g := pp_map (ar := pp_ar) (c := pp_tr r s k) (d := pp_ps r s k) (f := fun q => q.2.2) (T := fun _ => True) (fun _ _ _ _ => rfl) (fun _ _ => trivial) hv
  have key := pp_all (ar := pp_ar) (c := pp_tr r s k) (T := pp_tk) (P := fun q => ∀ A B, q.1 = some A → q.2.1 = some B → (q.2.2 = true ↔ pp_hc r s k A B)) (fun t l h1 h2 h3 => pp_tr_ok (k := k) hr hs hrs t l h1 h2 h3) ht hv
  have e := pp_e1_eq (ar := pp_ar) (c := pp_tr r s k) (ts := g) (none, none, true) h1
  generalize pp_e1 pp_ar (pp_tr r s k) (none, none, true) g = q at e
  rw [e] at m1 m2 m3 key
  rw [pp_pj_1 r h1] at m1
  rw [pp_pj_1 s h1] at m2
  have k1 : q.1 = pp_p1 r g := by simpa using m1
  have k2 : q.2.1 = pp_p1 s g := by simpa using m2
  rw [← m3, ← key q List.mem_cons_self A B (k1.trans hA) (k2.trans hB)]
  simp
/-- what is left: the plan as it was, and as it is behind the message -/
def pp_sc (r s k t : Nat) (l : List (List Nat × List Nat)) : List Nat × List Nat := (t :: (l.map Prod.fst).flatten, if pp_mt r s t then (l.map Prod.fst).getD k [] else t :: (l.map Prod.snd).flatten)
def pp_sd (r s k : Nat) (ts : List Nat) : List Nat := ((pp_ev pp_ar (pp_sc r s k) ts).map Prod.snd).flatten
def pp_sb (r s k t : Nat) (l : List ((List Nat × List Nat) × Bool)) : (List Nat × List Nat) × Bool := (pp_sc r s k t (l.map Prod.fst), pp_ps r s k t (l.map Prod.snd))
def pp_one (o : List Nat) : Prop := pp_vd pp_ar o ∧ pp_hg pp_ar o = 1 ∧ ∀ t ∈ o, pp_tk t
def pp_go (r s k : Nat) (o n : List Nat) : Prop := pp_one n ∧ n.length ≤ o.length ∧ ∀ x L, pp_p1 x o = some L → (x ≠ r → x ≠ s → pp_p1 x n = some L) ∧ (x = r ∨ x = s → pp_p1 x n = some (pp_ch k L))
theorem pp_one_node {t : Nat} {l : List (List Nat)} (ht : pp_tk t) (hl : l.length = pp_ar t) (h : ∀ o ∈ l, pp_one o) : pp_one (t :: l.flatten) := by
  obtain ⟨h1, h2⟩ := pp_node hl (fun x hx => ⟨(h x hx).1, (h x hx).2.1⟩)
  refine ⟨h1, h2, fun u hu => ?_⟩
  rcases List.mem_cons.mp hu with e | e
  · rw [e]; exact ht
  · obtain ⟨L, hL, hm⟩ := List.mem_flatten.mp e
    exact (h L hL).2.2 u hm
theorem pp_p1_node (x : Nat) {t : Nat} {l : List (List Nat)} (hl : l.length = pp_ar t) (h : ∀ o ∈ l, pp_one o) : pp_p1 x (t :: l.flatten) = pp_pc x t (l.map (pp_p1 x)) :=
  pp_e1_node none hl (fun o ho => ⟨(h o ho).1, (h o ho).2.1⟩)
theorem pp_sb_ok {r s k : Nat} (t : Nat) (l : List ((List Nat × List Nat) × Bool)) (ht : pp_tk t) (hl : l.length = pp_ar t) (h : ∀ q ∈ l, pp_one q.1.1 ∧ (q.2 = true → pp_go r s k q.1.1 q.1.2)) : pp_one (pp_sb r s k t l).1.1 ∧ ((pp_sb r s k t l).2 = true → pp_go r s k (pp_sb r s k t l).1.1 (pp_sb r s k t l).1.2) := by
  have e1 : (pp_sb r s k t l).1.1 = t :: (l.map (fun q => q.1.1)).flatten := by
    show t :: ((l.map Prod.fst).map Prod.fst).flatten = _
    rw [List.map_map]
    rfl
  have e2 : (pp_sb r s k t l).1.2 = if pp_mt r s t then (l.map (fun q => q.1.1)).getD k [] else t :: (l.map (fun q => q.1.2)).flatten := by
    show (if pp_mt r s t then ((l.map Prod.fst).map Prod.fst).getD k [] else t :: ((l.map Prod.fst).map Prod.snd).flatten) = _
    rw [List.map_map, List.map_map]
    rfl
  have e3 : (pp_sb r s k t l).2 = pp_ps r s k t (l.map Prod.snd) := rfl
  have ho : ∀ o ∈ l.map (fun q => q.1.1), pp_one o := by
    intro o ho
    obtain ⟨q, hq, rfl⟩ := List.mem_map.mp ho
    exact (h q hq).1
  have hlo : (l.map (fun q => q.1.1)).length = pp_ar t := by rw [List.length_map]; exact hl
  have hO := pp_one_node ht hlo ho
  rw [e1, e2, e3]
  refine ⟨hO, fun hb => ?_⟩
  by_cases hmk : pp_mt r s t ∧ k < pp_ar t
  · obtain ⟨hm, hk⟩ := hmk
    rw [if_pos hm]
    have h0 := hm.1
    have mine : ∀ x, pp_mi x t ↔ (x = r ∨ x = s) := by
      intro x
      constructor
      · intro h
        rcases h with h | h
        · exact Or.inl (h.symm.trans hm.2.1)
        · exact Or.inr (h.symm.trans hm.2.2)
      · intro h
        rcases h with h | h
        · exact Or.inl (hm.2.1.trans h.symm)
        · exact Or.inr (hm.2.2.trans h.symm)
    rcases pp_cases t hl with ⟨hz, rfl⟩ | ⟨_, g1, g2, q, rfl⟩ | ⟨_, g1, g2, q, q2, rfl⟩
    · exact absurd hz h0
    · have hk0 : k = 0 := by omega
      subst hk0
      have hq := ho q.1.1 List.mem_cons_self
      refine ⟨hq, ?_, fun x L hL => ?_⟩
      · simp
      · rw [pp_p1_node x hlo ho] at hL
        obtain ⟨u, a1, h3 | h3⟩ := pp_pc_some1 h0 hL
        · refine ⟨fun n1 n2 => absurd ((mine x).mp h3.1) (fun h => h.elim n1 n2), fun _ => ?_⟩
          rw [h3.2, pp_ch_1 (pp_p1_lt hq.1 hq.2.1 a1)]
          exact a1
        · refine ⟨fun _ _ => ?_, fun h => absurd ((mine x).mpr h) h3.1⟩
          rw [h3.2]
          exact a1
    · have hq := ho q.1.1 List.mem_cons_self
      have hq2 := ho q2.1.1 (List.mem_cons_of_mem _ List.mem_cons_self)
      have hk2 : k = 0 ∨ k = 1 := by omega
      rcases hk2 with rfl | rfl
      · refine ⟨hq, ?_, fun x L hL => ?_⟩
        · simp
          omega
        · rw [pp_p1_node x hlo ho] at hL
          obtain ⟨u, v, a1, a2, h3 | h3⟩ := pp_pc_some h0 hL
          · refine ⟨fun n1 n2 => absurd ((mine x).mp h3.1) (fun h => h.elim n1 n2), fun _ => ?_⟩
            rw [h3.2, (pp_ch_2 (pp_p1_lt hq.1 hq.2.1 a1) (pp_p1_lt hq2.1 hq2.2.1 a2)).1]
            exact a1
          · refine ⟨fun _ _ => ?_, fun h => absurd ((mine x).mpr h) h3.1⟩
            rw [h3.2.2]
            exact a1
      · refine ⟨hq2, ?_, fun x L hL => ?_⟩
        · simp
          omega
        · rw [pp_p1_node x hlo ho] at hL
          obtain ⟨u, v, a1, a2, h3 | h3⟩ := pp_pc_some h0 hL
          · refine ⟨fun n1 n2 => absurd ((mine x).mp h3.1) (fun h => h.elim n1 n2), fun _ => ?_⟩
            rw [h3.2, (pp_ch_2 (pp_p1_lt hq.1 hq.2.1 a1) (pp_p1_lt hq2.1 hq2.2.1 a2)).2]
            exact a2
          · refine ⟨fun _ _ => ?_, fun h => absurd ((mine x).mpr h) h3.1⟩
            rw [h3.2.2, h3.2.1]
            exact a2
  · unfold pp_ps at hb
    rw [if_neg hmk] at hb
    by_cases hot : pp_ot r s t
    · rw [if_pos hot] at hb
      have hm : ¬ pp_mt r s t := fun h => hot.2.1 h.2.1
      rw [if_neg hm]
      have h0 := hot.1
      have hb' : ∀ q ∈ l, q.2 = true := by
        intro q hq
        have := List.all_eq_true.mp hb q.2 (List.mem_map.mpr ⟨q, hq, rfl⟩)
        exact this
      have hg : ∀ q ∈ l, pp_go r s k q.1.1 q.1.2 := fun q hq => (h q hq).2 (hb' q hq)
      have hn : ∀ o ∈ l.map (fun q => q.1.2), pp_one o := by
        intro o ho
        obtain ⟨q, hq, rfl⟩ := List.mem_map.mp ho
        exact (hg q hq).1
      have hln : (l.map (fun q => q.1.2)).length = pp_ar t := by rw [List.length_map]; exact hl
      have notrs : ∀ x, x = r ∨ x = s → ¬ pp_mi x t := by
        intro x h
        rcases h with rfl | rfl
        · exact fun h => h.elim hot.2.1 hot.2.2.2.1
        · exact fun h => h.elim hot.2.2.1 hot.2.2.2.2
      refine ⟨pp_one_node ht hln hn, ?_, fun x L hL => ?_⟩
      · rcases pp_cases t hl with ⟨hz, rfl⟩ | ⟨_, g1, g2, q, rfl⟩ | ⟨_, g1, g2, q, q2, rfl⟩
        · exact absurd hz h0
        · have k1 := (hg q List.mem_cons_self).2.1
          simp
          exact k1
        · have k1 := (hg q List.mem_cons_self).2.1
          have k2 := (hg q2 (List.mem_cons_of_mem _ List.mem_cons_self)).2.1
          simp
          omega
      · rw [pp_p1_node x hlo ho] at hL
        rw [pp_p1_node x hln hn]
        rcases pp_cases t hl with ⟨hz, rfl⟩ | ⟨_, g1, g2, q, rfl⟩ | ⟨_, g1, g2, q, q2, rfl⟩
        · exact absurd hz h0
        · have kq := (hg q List.mem_cons_self).2.2 x
          obtain ⟨u, a1, h3 | h3⟩ := pp_pc_some1 h0 hL
          · refine ⟨fun n1 n2 => ?_, fun h => absurd h3.1 (notrs x h)⟩
            show pp_pc x t [pp_p1 x q.1.2] = _
            rw [(kq u a1).1 n1 n2, pp_pc_1 h0, if_pos h3.1, h3.2]
            rfl
          · show (_ → _ → pp_pc x t [pp_p1 x q.1.2] = _) ∧ (_ → pp_pc x t [pp_p1 x q.1.2] = _)
            rw [pp_pc_1 h0, if_neg h3.1, h3.2]
            exact kq u a1
        · have kq := (hg q List.mem_cons_self).2.2 x
          have kq2 := (hg q2 (List.mem_cons_of_mem _ List.mem_cons_self)).2.2 x
          obtain ⟨u, v, a1, a2, h3 | h3⟩ := pp_pc_some h0 hL
          · refine ⟨fun n1 n2 => ?_, fun h => absurd h3.1 (notrs x h)⟩
            show pp_pc x t [pp_p1 x q.1.2, pp_p1 x q2.1.2] = _
            rw [(kq u a1).1 n1 n2, (kq2 v a2).1 n1 n2, pp_pc_2 h0, if_pos h3.1, h3.2]
          · show (_ → _ → pp_pc x t [pp_p1 x q.1.2, pp_p1 x q2.1.2] = _) ∧ (_ → pp_pc x t [pp_p1 x q.1.2, pp_p1 x q2.1.2] = _)
            rw [← h3.2.1] at a2
            refine ⟨fun n1 n2 => ?_, fun h => ?_⟩
            · rw [(kq u a1).1 n1 n2, (kq2 u a2).1 n1 n2, pp_pc_2 h0, if_neg h3.1, if_pos rfl, h3.2.2]
            · rw [(kq u a1).2 h, (kq2 u a2).2 h, pp_pc_2 h0, if_neg h3.1, if_pos rfl, h3.2.2]
    · rw [if_neg hot] at hb
      cases hb
theorem pp_send {r s k : Nat} {g : List Nat} (hg : pp_one g) (hp : (pp_ev pp_ar (pp_ps r s k) g).all id = true) : pp_go r s k g (pp_sd r s k g) := by
  obtain ⟨hv, h1, ht⟩ := hg
  have m1 : (pp_ev pp_ar (pp_sb r s k) g).map Prod.fst = pp_ev pp_ar (pp_sc r s k) g := pp_map (ar := pp_ar) (c := pp_sb r s k) (d := pp_sc r s k) (f := Prod.fst) (T := fun _ => True) (fun _ _ _ _ => rfl) (fun _ _ => trivial) hv
  have m2 : (pp_ev pp_ar (pp_sb r s k) g).map Prod.snd = pp_ev pp_ar (pp_ps r s k) g := pp_map (ar := pp_ar) (c := pp_sb r s k) (d := pp_ps r s k) (f := Prod.snd) (T := fun _ => True) (fun _ _ _ _ => rfl) (fun _ _ => trivial) hv
  have m3 : (pp_ev pp_ar (pp_sc r s k) g).map Prod.fst = pp_fo pp_ar g := pp_map (ar := pp_ar) (c := pp_sc r s k) (d := fun t l => t :: l.flatten) (f := Prod.fst) (T := fun _ => True) (fun _ _ _ _ => rfl) (fun _ _ => trivial) hv
  have key := pp_all (ar := pp_ar) (c := pp_sb r s k) (T := pp_tk) (P := fun (q : (List Nat × List Nat) × Bool) => pp_one q.1.1 ∧ (q.2 = true → pp_go r s k q.1.1 q.1.2)) (fun t l h1 h2 h3 => pp_sb_ok (r := r) (s := s) (k := k) t l h1 h2 h3) ht hv
  have e := pp_e1_eq (ar := pp_ar) (c := pp_sb r s k) (ts := g) (([], []), true) h1
  generalize pp_e1 pp_ar (pp_sb r s k) (([], []), true) g = q at e
  have key := key q (by rw [e]; exact List.mem_cons_self)
  rw [e] at m1 m2
  have e1 : q.1.1 = g := by
    have h3 := pp_fo_flat (ar := pp_ar) g
    rw [← m3, ← m1] at h3
    simpa using h3
  have e2 : pp_sd r s k g = q.1.2 := by
    unfold pp_sd
    rw [← m1]
    simp
  have e3 : q.2 = true := by
    rw [← m2] at hp
    simpa using hp
  rw [e2, ← e1]
  exact key.2 e3
/-- the walks from the left -/
theorem pp_ps_skip {r s k t : Nat} {u : List Nat} (hv : pp_vd pp_ar (t :: u)) (hm : pp_mt r s t ∧ k < pp_ar t) : (pp_ev pp_ar (pp_ps r s k) (t :: u)).all id = (pp_ev pp_ar (pp_ps r s k) ((t :: u).drop (pp_ln pp_ar 1 (t :: u)))).all id := by
  have h := pp_skip (c := pp_ps r s k) hv (k := 1) (pp_hg_pos (by simp))
  rw [h]
  show (pp_ps r s k t ((pp_ev pp_ar (pp_ps r s k) u).take (pp_ar t)) :: (pp_ev pp_ar (pp_ps r s k) u).drop (pp_ar t)).all id = ((pp_ev pp_ar (pp_ps r s k) u).drop (pp_ar t)).all id
  have h1 : pp_ps r s k t ((pp_ev pp_ar (pp_ps r s k) u).take (pp_ar t)) = true := by
    unfold pp_ps
    rw [if_pos hm]
  rw [List.all_cons, h1]
  rfl
theorem pp_ps_other {r s k t : Nat} {u : List Nat} (hn : ¬ (pp_mt r s t ∧ k < pp_ar t)) (ho : pp_ot r s t) : (pp_ev pp_ar (pp_ps r s k) (t :: u)).all id = (pp_ev pp_ar (pp_ps r s k) u).all id := by
  show (pp_ps r s k t ((pp_ev pp_ar (pp_ps r s k) u).take (pp_ar t)) :: (pp_ev pp_ar (pp_ps r s k) u).drop (pp_ar t)).all id = _
  rw [List.all_cons]
  have h1 : pp_ps r s k t ((pp_ev pp_ar (pp_ps r s k) u).take (pp_ar t)) = ((pp_ev pp_ar (pp_ps r s k) u).take (pp_ar t)).all id := by
    unfold pp_ps
    rw [if_neg hn, if_pos ho]
  rw [h1]
  show (((pp_ev pp_ar (pp_ps r s k) u).take (pp_ar t)).all id && ((pp_ev pp_ar (pp_ps r s k) u).drop (pp_ar t)).all id) = _
  rw [← List.all_append, List.take_append_drop]
theorem pp_ps_no {r s k t : Nat} {u : List Nat} (hn : ¬ (pp_mt r s t ∧ k < pp_ar t)) (ho : ¬ pp_ot r s t) : (pp_ev pp_ar (pp_ps r s k) (t :: u)).all id = false := by
  show (pp_ps r s k t ((pp_ev pp_ar (pp_ps r s k) u).take (pp_ar t)) :: (pp_ev pp_ar (pp_ps r s k) u).drop (pp_ar t)).all id = _
  rw [List.all_cons]
  have h1 : pp_ps r s k t ((pp_ev pp_ar (pp_ps r s k) u).take (pp_ar t)) = false := by
    unfold pp_ps
    rw [if_neg hn, if_neg ho]
  rw [h1]
  rfl
theorem pp_sc_m {r s k t : Nat} (hm : pp_mt r s t) (l : List (List Nat × List Nat)) : (pp_sc r s k t l).2 = (l.map Prod.fst).getD k [] := by
  unfold pp_sc
  rw [if_pos hm]
theorem pp_sd_copy {r s k t : Nat} {u : List Nat} (hn : ¬ pp_mt r s t) : pp_sd r s k (t :: u) = t :: pp_sd r s k u := by
  unfold pp_sd
  show ((pp_sc r s k t ((pp_ev pp_ar (pp_sc r s k) u).take (pp_ar t))).2 :: ((pp_ev pp_ar (pp_sc r s k) u).drop (pp_ar t)).map Prod.snd).flatten = _
  have h1 : (pp_sc r s k t ((pp_ev pp_ar (pp_sc r s k) u).take (pp_ar t))).2 = t :: (((pp_ev pp_ar (pp_sc r s k) u).take (pp_ar t)).map Prod.snd).flatten := by
    unfold pp_sc
    rw [if_neg hn]
  rw [h1, List.flatten_cons, List.cons_append, ← List.flatten_append, ← List.map_append, List.take_append_drop]
theorem pp_sd_skip {r s k t : Nat} {u : List Nat} (hv : pp_vd pp_ar (t :: u)) (hm : pp_mt r s t) (hk : k < pp_ar t) : pp_sd r s k (t :: u) = (pp_fo pp_ar u).getD k [] ++ pp_sd r s k ((t :: u).drop (pp_ln pp_ar 1 (t :: u))) := by
  have h := pp_skip (c := pp_sc r s k) hv (k := 1) (pp_hg_pos (by simp))
  have m3 : (pp_ev pp_ar (pp_sc r s k) u).map Prod.fst = pp_fo pp_ar u := pp_map (ar := pp_ar) (c := pp_sc r s k) (d := fun t l => t :: l.flatten) (f := Prod.fst) (T := fun _ => True) (fun _ _ _ _ => rfl) (fun _ _ => trivial) hv.2
  unfold pp_sd
  rw [h]
  show ((pp_sc r s k t ((pp_ev pp_ar (pp_sc r s k) u).take (pp_ar t))).2 :: ((pp_ev pp_ar (pp_sc r s k) u).drop (pp_ar t)).map Prod.snd).flatten = _
  have h1 : (pp_sc r s k t ((pp_ev pp_ar (pp_sc r s k) u).take (pp_ar t))).2 = (pp_fo pp_ar u).getD k [] := by
    rw [pp_sc_m hm, List.map_take, m3, List.getD_eq_getElem?_getD, List.getD_eq_getElem?_getD, List.getElem?_take_of_lt hk]
  rw [h1, List.flatten_cons]
  rfl
theorem pp_tree0 {u : List Nat} (h : u ≠ []) : u.take (pp_ln pp_ar 1 u) = (pp_fo pp_ar u).getD 0 [] := by
  rw [pp_take_ln]
  cases hq : pp_fo pp_ar u with
  | nil =>
    have h1 := pp_fo_flat (ar := pp_ar) u
    rw [hq] at h1
    exact absurd h1.symm h
  | cons x r => simp
theorem pp_tree1 {u : List Nat} (hv : pp_vd pp_ar u) (h2 : 2 ≤ pp_hg pp_ar u) : (u.drop (pp_ln pp_ar 1 u)).take (pp_ln pp_ar 1 (u.drop (pp_ln pp_ar 1 u))) = (pp_fo pp_ar u).getD 1 [] := by
  have h : pp_fo pp_ar (u.drop (pp_ln pp_ar 1 u)) = (pp_fo pp_ar u).drop 1 := pp_skip hv (by omega)
  rw [pp_take_ln, h]
  have hl := pp_fo_len (ar := pp_ar) u
  cases hq : pp_fo pp_ar u with
  | nil => rw [hq] at hl; simp at hl; omega
  | cons x r =>
    cases r with
    | nil => rw [hq] at hl; simp at hl; omega
    | cons y r => simp
end
section
/-! THE ABSTRACT STATE: the signs written (ts), and what runs (run: the plan that is left, and how many messages took place); what each call answers; the two classes' pictures of it -/
abbrev rs_Rn : Type := Option (List Nat × Nat)
abbrev pp_cp (ts : List Nat) : Prop := pp_op pp_ar 1 ts = 0
def pp_wl (ts : List Nat) : Prop := ts.length ≤ 21 ∧ (∀ t ∈ ts, pp_tk t) ∧ pp_pr pp_ar 1 ts
def pp_wr (run : rs_Rn) : Prop := ∀ g n, run = some (g, n) → pp_one g ∧ g.length ≤ 21 ∧ ∀ x, x < 4 → ∃ L, pp_p1 x g = some L
theorem pp_wl_one {ts : List Nat} (h : pp_wl ts) (hc : pp_cp ts) : pp_one ts := by
  obtain ⟨h1, h2⟩ := pp_op_vd h.2.2 hc
  exact ⟨h1, h2, h.2.1⟩
/-- an int that is a sign; that is a role -/
abbrev rs_tk (x : Int32) : Prop := x = nI x.toNatClampNeg ∧ pp_tk x.toNatClampNeg
abbrev rs_ro (x : Int32) : Prop := x = nI x.toNatClampNeg ∧ x.toNatClampNeg < 4
def rs_bz (p : Prop) [Decidable p] : Int32 := if p then nI 1 else nI 0
theorem rs_bz_t {p : Prop} [Decidable p] (h : p) : rs_bz p = nI 1 := by simp [rs_bz, h]
theorem rs_bz_f {p : Prop} [Decidable p] (h : ¬ p) : rs_bz p = nI 0 := by simp [rs_bz, h]
theorem rs_bz_c {p q : Prop} [Decidable p] [Decidable q] (h : p ↔ q) : rs_bz p = rs_bz q := by
  by_cases hp : p
  · rw [rs_bz_t hp, rs_bz_t (h.mp hp)]
  · rw [rs_bz_f hp, rs_bz_f (fun hq => hp (h.mpr hq))]
theorem rs_bz_and {p : Prop} [Decidable p] : rs_bz p &&& 1 = rs_bz p := by
  by_cases hp : p
  · rw [rs_bz_t hp]; decide
  · rw [rs_bz_f hp]; decide
theorem rs_ro_of {x : Int32} {j : Nat} (h : x = nI j) (hj : j < 4) : rs_ro x ∧ x.toNatClampNeg = j := by
  have h1 : x.toNatClampNeg = j := by rw [h]; exact nI_clamp (by omega)
  exact ⟨⟨by rw [h1]; exact h, by omega⟩, h1⟩
theorem rs_ro_to {x : Int32} (h : rs_ro x) : ∃ j, j < 4 ∧ x = nI j := ⟨_, h.2, h.1⟩
theorem rs_tk_of {x : Int32} {t : Nat} (h : x = nI t) (ht : pp_tk t) : rs_tk x ∧ x.toNatClampNeg = t := by
  have h2 := ht.1
  have h1 : x.toNatClampNeg = t := by rw [h]; exact nI_clamp (by omega)
  exact ⟨⟨by rw [h1]; exact h, by rw [h1]; exact ht⟩, h1⟩
abbrev pp_ft (ts : List Nat) : Prop := (pp_p1 0 ts).isSome = true ∧ (pp_p1 1 ts).isSome = true ∧ (pp_p1 2 ts).isSome = true ∧ (pp_p1 3 ts).isSome = true
/-- a role's part, nothing if it isn't fixed -/
def pp_q1 (x : Nat) (g : List Nat) : List Nat := (pp_p1 x g).getD [0]
/-- the answers -/
def rs_oW (ts : List Nat) (run : rs_Rn) (x : Int32) : Int32 × List Nat × rs_Rn := if ¬ rs_tk x then (-1, ts, run) else if pp_cp ts ∨ 21 ≤ ts.length then (-2, ts, run) else (nI (ts.length + 1), ts ++ [x.toNatClampNeg], none)
def rs_oU (ts : List Nat) (run : rs_Rn) : Int32 × List Nat × rs_Rn := if ts = [] then (-1, ts, run) else (nI (ts.getLastD 0), ts.dropLast, none)
def rs_aC (ts : List Nat) : Int32 := rs_bz (pp_cp ts)
abbrev rs_fx (ts : List Nat) (x : Int32) : Prop := rs_ro x ∧ pp_cp ts ∧ (pp_p1 x.toNatClampNeg ts).isSome = true
def rs_aX (ts : List Nat) (x : Int32) : Int32 := rs_bz (rs_fx ts x)
def rs_aF (ts : List Nat) : Int32 := rs_bz (pp_cp ts ∧ pp_ft ts)
def rs_aS (ts : List Nat) (x : Int32) : Int32 := if rs_fx ts x then nI (pp_ct (pp_q1 x.toNatClampNeg ts)) else -1
def rs_oS (ts : List Nat) (run : rs_Rn) : Int32 × List Nat × rs_Rn := if pp_cp ts ∧ pp_ft ts then (nI 1, ts, some (ts, 0)) else (nI 0, ts, run)
def rs_aR (run : rs_Rn) : Int32 := rs_bz (run.isSome = true)
/-- whether r may send label k to s -/
abbrev rs_pp (g : List Nat) (r s k : Int32) : Prop := rs_ro r ∧ rs_ro s ∧ r ≠ s ∧ k = nI k.toNatClampNeg ∧ k.toNatClampNeg < 2 ∧ (pp_ev pp_ar (pp_ps r.toNatClampNeg s.toNatClampNeg k.toNatClampNeg) g).all id = true
def rs_aP (run : rs_Rn) (r s k : Int32) : Int32 := match run with
  | none => nI 0
  | some (g, _) => rs_bz (rs_pp g r s k)
def rs_oN (run : rs_Rn) (r s k : Int32) : Int32 × rs_Rn := match run with
  | none => (nI 0, none)
  | some (g, n) => if rs_pp g r s k then (nI 1, some (pp_sd r.toNatClampNeg s.toNatClampNeg k.toNatClampNeg g, n + 1)) else (nI 0, some (g, n))
def rs_aD (run : rs_Rn) (x : Int32) : Int32 := match run with
  | none => -1
  | some (g, _) => if rs_ro x then nI (pp_du ((pp_q1 x.toNatClampNeg g).headD 0)) else -1
def rs_aL (run : rs_Rn) (x : Int32) : Int32 := match run with
  | none => -1
  | some (g, _) => if rs_ro x then nI (pp_la ((pp_q1 x.toNatClampNeg g).headD 0)) else -1
def rs_aE (run : rs_Rn) (x : Int32) : Int32 := match run with
  | none => -1
  | some (g, _) => if rs_ro x then nI (pp_ct (pp_q1 x.toNatClampNeg g)) else -1
/-- how many of the first c choices are possible: c = 8 r + 2 s + k -/
def rs_sm (run : rs_Rn) : Nat → Nat
  | 0 => 0
  | c + 1 => rs_sm run c + if rs_aP run (nI (c / 8)) (nI (c / 2 % 4)) (nI (c % 2)) = nI 1 then 1 else 0
def rs_aH (run : rs_Rn) : Int32 := nI (rs_sm run 32)
def rs_aT (run : rs_Rn) : Int32 := match run with
  | none => -1
  | some (_, n) => nI n
abbrev pp_ov (g : List Nat) : Prop := (pp_q1 0 g).headD 0 = 0 ∧ (pp_q1 1 g).headD 0 = 0 ∧ (pp_q1 2 g).headD 0 = 0 ∧ (pp_q1 3 g).headD 0 = 0
def rs_aO (run : rs_Rn) : Int32 := match run with
  | none => nI 0
  | some (g, _) => rs_bz (pp_ov g)
/-- the reference's picture -/
def rs_IM (ts : List Nat) (run : rs_Rn) (S : rs_St) : Prop :=
  pp_wl ts ∧ pp_wr run ∧ S 1 0 = nI ts.length ∧ (∀ j, j < ts.length → S 0 j = nI (ts.getD j 0)) ∧
  match run with
  | none => S 2 0 = nI 0
  | some (g, n) => S 2 0 = nI 1 ∧ S 3 0 = nI n ∧ S 1 1 = nI g.length ∧ ∀ j, j < g.length → S 0 (21 + j) = nI (g.getD j 0)
/-- the class's table of parts: T p is the part with number p -/
def rs_TR (T : List (List Nat)) (S : rs_St) (p : Nat) : Prop := ∃ (d k f s : Nat) (M N : List Nat), 1 ≤ d ∧ d ≤ 8 ∧ S 6 p = nI d ∧ S 7 p = nI k ∧ S 8 (2 * p) = nI f ∧ S 8 (2 * p + 1) = nI s ∧ T[f]? = some M ∧ T[s]? = some N ∧ ((k = 1 ∧ s = 0 ∧ T[p]? = some (d :: M)) ∨ (k = 2 ∧ T[p]? = some ((d + 8) :: (M ++ N)))) ∧ S 9 p = nI (pp_ct (T.getD p []))
def rs_TB (T : List (List Nat)) (S : rs_St) : Prop := T.length ≤ 48 ∧ S 5 0 = nI T.length ∧ T[0]? = some [0] ∧ S 9 0 = nI 0 ∧ (∀ (p q : Nat) (L : List Nat), T[p]? = some L → T[q]? = some L → p = q) ∧ (∀ L ∈ T, pp_lt L) ∧ ∀ p, 1 ≤ p → p < T.length → rs_TR T S p
/-- the number of a part, -1 if it isn't fixed -/
def rs_cd (T : List (List Nat)) (o : Option (List Nat)) (v : Int32) : Prop := match o with
  | none => v = -1
  | some L => ∃ p, T[p]? = some L ∧ v = nI p
/-- the class's picture -/
def rs_IX (ts : List Nat) (run : rs_Rn) (S : rs_St) : Prop :=
  pp_wl ts ∧ pp_wr run ∧ S 0 0 = nI ts.length ∧ (∀ j, j < ts.length → S 1 j = nI (ts.getD j 0)) ∧ S 9 0 = nI 0 ∧
  (match run with
    | none => S 10 0 = nI 0
    | some (_, n) => S 10 0 = nI 1 ∧ S 12 0 = nI n) ∧
  ((S 2 0 = nI 0 ∧ run = none) ∨ (S 2 0 = nI 1 ∧ pp_cp ts ∧ ∃ T, rs_TB T S ∧ (∀ x, x < 4 → rs_cd T (pp_p1 x ts) (S 4 x)) ∧ ∀ g n, run = some (g, n) → ∀ x, x < 4 → rs_cd T (pp_p1 x g) (S 11 x)))
/-! numbers -/
theorem rs_b8 : ∀ n, n < 128 → (nI n).toInt8.toInt32 = nI n := by decide +kernel
theorem rs_n8 {n : Nat} (h : n < 128) : vp_nar .byte (nI n) = nI n := by rw [vp_nar_byte]; exact rs_b8 n h
theorem rs_m8 : ((-1 : Int32)).toInt8.toInt32 = -1 := by decide
theorem rs_mn8 : vp_nar .byte (-1) = -1 := by rw [vp_nar_byte]; exact rs_m8
theorem rs_ne1 {n : Nat} (h : n < 2 ^ 31) : nI n ≠ -1 := by
  intro e
  have h1 := nI_toInt h
  rw [e] at h1
  have h2 : ((-1 : Int32)).toInt = -1 := by decide
  omega
theorem rs_snE : ∀ t, t < 33 → (nI t - nI 1) &&& nI 3 = nI (pp_sn t) := by decide +kernel
theorem rs_rcE : ∀ t, t < 33 → ((nI t - nI 1) >>> (nI 2 &&& 31)) &&& nI 3 = nI (pp_rc t) := by decide +kernel
theorem rs_rcA : ∀ t, t < 17 → 1 ≤ t → (nI t - nI 1) >>> (nI 2 &&& 31) = nI (pp_rc t) := by decide +kernel
theorem rs_snB : ∀ t, t < 33 → 17 ≤ t → (nI t - nI 17) &&& nI 3 = nI (pp_sn t) := by decide +kernel
theorem rs_rcB : ∀ t, t < 33 → 17 ≤ t → (nI t - nI 17) >>> (nI 2 &&& 31) = nI (pp_rc t) := by decide +kernel
theorem rs_get {l : List Nat} {j : Nat} (h : j < l.length) : l.getD j 0 ∈ l := by
  rw [List.getD_eq_getElem?_getD, List.getElem?_eq_getElem h]
  exact List.getElem_mem h
theorem rs_drop {l : List Nat} {j : Nat} (h : j < l.length) : l.drop j = l.getD j 0 :: l.drop (j + 1) := by
  rw [List.drop_eq_getElem_cons h, List.getD_eq_getElem?_getD, List.getElem?_eq_getElem h]
  rfl
end
section
/-! arriving at a known place: the locals that it names, one by one -/
section RT
variable {σ : Type} {G : rs_Gt σ} {E : rs_Ev} {pc : Nat} {lv : List (Nat × Value)} {st : List Value} {S : σ}
theorem rj_to1 {i1 : Nat} {v1 : Value} (k : rs_J G E pc [(i1, v1)] st S) (h1 : rs_lk lv i1 = some v1) : rs_J G E pc lv st S := rj_sb (lv' := [(i1, v1)]) (show rs_Sb lv [(i1, v1)] from ⟨h1, trivial⟩) k
theorem rj_to2 {i1 i2 : Nat} {v1 v2 : Value} (k : rs_J G E pc [(i1, v1), (i2, v2)] st S) (h1 : rs_lk lv i1 = some v1) (h2 : rs_lk lv i2 = some v2) : rs_J G E pc lv st S := rj_sb (lv' := [(i1, v1), (i2, v2)]) (show rs_Sb lv [(i1, v1), (i2, v2)] from ⟨h1, h2, trivial⟩) k
theorem rj_to3 {i1 i2 i3 : Nat} {v1 v2 v3 : Value} (k : rs_J G E pc [(i1, v1), (i2, v2), (i3, v3)] st S) (h1 : rs_lk lv i1 = some v1) (h2 : rs_lk lv i2 = some v2) (h3 : rs_lk lv i3 = some v3) : rs_J G E pc lv st S := rj_sb (lv' := [(i1, v1), (i2, v2), (i3, v3)]) (show rs_Sb lv [(i1, v1), (i2, v2), (i3, v3)] from ⟨h1, h2, h3, trivial⟩) k
theorem rj_to4 {i1 i2 i3 i4 : Nat} {v1 v2 v3 v4 : Value} (k : rs_J G E pc [(i1, v1), (i2, v2), (i3, v3), (i4, v4)] st S) (h1 : rs_lk lv i1 = some v1) (h2 : rs_lk lv i2 = some v2) (h3 : rs_lk lv i3 = some v3) (h4 : rs_lk lv i4 = some v4) : rs_J G E pc lv st S := rj_sb (lv' := [(i1, v1), (i2, v2), (i3, v3), (i4, v4)]) (show rs_Sb lv [(i1, v1), (i2, v2), (i3, v3), (i4, v4)] from ⟨h1, h2, h3, h4, trivial⟩) k
theorem rj_to5 {i1 i2 i3 i4 i5 : Nat} {v1 v2 v3 v4 v5 : Value} (k : rs_J G E pc [(i1, v1), (i2, v2), (i3, v3), (i4, v4), (i5, v5)] st S) (h1 : rs_lk lv i1 = some v1) (h2 : rs_lk lv i2 = some v2) (h3 : rs_lk lv i3 = some v3) (h4 : rs_lk lv i4 = some v4) (h5 : rs_lk lv i5 = some v5) : rs_J G E pc lv st S := rj_sb (lv' := [(i1, v1), (i2, v2), (i3, v3), (i4, v4), (i5, v5)]) (show rs_Sb lv [(i1, v1), (i2, v2), (i3, v3), (i4, v4), (i5, v5)] from ⟨h1, h2, h3, h4, h5, trivial⟩) k
theorem rj_to6 {i1 i2 i3 i4 i5 i6 : Nat} {v1 v2 v3 v4 v5 v6 : Value} (k : rs_J G E pc [(i1, v1), (i2, v2), (i3, v3), (i4, v4), (i5, v5), (i6, v6)] st S) (h1 : rs_lk lv i1 = some v1) (h2 : rs_lk lv i2 = some v2) (h3 : rs_lk lv i3 = some v3) (h4 : rs_lk lv i4 = some v4) (h5 : rs_lk lv i5 = some v5) (h6 : rs_lk lv i6 = some v6) : rs_J G E pc lv st S := rj_sb (lv' := [(i1, v1), (i2, v2), (i3, v3), (i4, v4), (i5, v5), (i6, v6)]) (show rs_Sb lv [(i1, v1), (i2, v2), (i3, v3), (i4, v4), (i5, v5), (i6, v6)] from ⟨h1, h2, h3, h4, h5, h6, trivial⟩) k
theorem rj_to7 {i1 i2 i3 i4 i5 i6 i7 : Nat} {v1 v2 v3 v4 v5 v6 v7 : Value} (k : rs_J G E pc [(i1, v1), (i2, v2), (i3, v3), (i4, v4), (i5, v5), (i6, v6), (i7, v7)] st S) (h1 : rs_lk lv i1 = some v1) (h2 : rs_lk lv i2 = some v2) (h3 : rs_lk lv i3 = some v3) (h4 : rs_lk lv i4 = some v4) (h5 : rs_lk lv i5 = some v5) (h6 : rs_lk lv i6 = some v6) (h7 : rs_lk lv i7 = some v7) : rs_J G E pc lv st S := rj_sb (lv' := [(i1, v1), (i2, v2), (i3, v3), (i4, v4), (i5, v5), (i6, v6), (i7, v7)]) (show rs_Sb lv [(i1, v1), (i2, v2), (i3, v3), (i4, v4), (i5, v5), (i6, v6), (i7, v7)] from ⟨h1, h2, h3, h4, h5, h6, h7, trivial⟩) k
theorem rj_to8 {i1 i2 i3 i4 i5 i6 i7 i8 : Nat} {v1 v2 v3 v4 v5 v6 v7 v8 : Value} (k : rs_J G E pc [(i1, v1), (i2, v2), (i3, v3), (i4, v4), (i5, v5), (i6, v6), (i7, v7), (i8, v8)] st S) (h1 : rs_lk lv i1 = some v1) (h2 : rs_lk lv i2 = some v2) (h3 : rs_lk lv i3 = some v3) (h4 : rs_lk lv i4 = some v4) (h5 : rs_lk lv i5 = some v5) (h6 : rs_lk lv i6 = some v6) (h7 : rs_lk lv i7 = some v7) (h8 : rs_lk lv i8 = some v8) : rs_J G E pc lv st S := rj_sb (lv' := [(i1, v1), (i2, v2), (i3, v3), (i4, v4), (i5, v5), (i6, v6), (i7, v7), (i8, v8)]) (show rs_Sb lv [(i1, v1), (i2, v2), (i3, v3), (i4, v4), (i5, v5), (i6, v6), (i7, v7), (i8, v8)] from ⟨h1, h2, h3, h4, h5, h6, h7, h8, trivial⟩) k
theorem rj_to9 {i1 i2 i3 i4 i5 i6 i7 i8 i9 : Nat} {v1 v2 v3 v4 v5 v6 v7 v8 v9 : Value} (k : rs_J G E pc [(i1, v1), (i2, v2), (i3, v3), (i4, v4), (i5, v5), (i6, v6), (i7, v7), (i8, v8), (i9, v9)] st S) (h1 : rs_lk lv i1 = some v1) (h2 : rs_lk lv i2 = some v2) (h3 : rs_lk lv i3 = some v3) (h4 : rs_lk lv i4 = some v4) (h5 : rs_lk lv i5 = some v5) (h6 : rs_lk lv i6 = some v6) (h7 : rs_lk lv i7 = some v7) (h8 : rs_lk lv i8 = some v8) (h9 : rs_lk lv i9 = some v9) : rs_J G E pc lv st S := rj_sb (lv' := [(i1, v1), (i2, v2), (i3, v3), (i4, v4), (i5, v5), (i6, v6), (i7, v7), (i8, v8), (i9, v9)]) (show rs_Sb lv [(i1, v1), (i2, v2), (i3, v3), (i4, v4), (i5, v5), (i6, v6), (i7, v7), (i8, v8), (i9, v9)] from ⟨h1, h2, h3, h4, h5, h6, h7, h8, h9, trivial⟩) k
theorem rj_to10 {i1 i2 i3 i4 i5 i6 i7 i8 i9 i10 : Nat} {v1 v2 v3 v4 v5 v6 v7 v8 v9 v10 : Value} (k : rs_J G E pc [(i1, v1), (i2, v2), (i3, v3), (i4, v4), (i5, v5), (i6, v6), (i7, v7), (i8, v8), (i9, v9), (i10, v10)] st S) (h1 : rs_lk lv i1 = some v1) (h2 : rs_lk lv i2 = some v2) (h3 : rs_lk lv i3 = some v3) (h4 : rs_lk lv i4 = some v4) (h5 : rs_lk lv i5 = some v5) (h6 : rs_lk lv i6 = some v6) (h7 : rs_lk lv i7 = some v7) (h8 : rs_lk lv i8 = some v8) (h9 : rs_lk lv i9 = some v9) (h10 : rs_lk lv i10 = some v10) : rs_J G E pc lv st S := rj_sb (lv' := [(i1, v1), (i2, v2), (i3, v3), (i4, v4), (i5, v5), (i6, v6), (i7, v7), (i8, v8), (i9, v9), (i10, v10)]) (show rs_Sb lv [(i1, v1), (i2, v2), (i3, v3), (i4, v4), (i5, v5), (i6, v6), (i7, v7), (i8, v8), (i9, v9), (i10, v10)] from ⟨h1, h2, h3, h4, h5, h6, h7, h8, h9, h10, trivial⟩) k
theorem rj_to11 {i1 i2 i3 i4 i5 i6 i7 i8 i9 i10 i11 : Nat} {v1 v2 v3 v4 v5 v6 v7 v8 v9 v10 v11 : Value} (k : rs_J G E pc [(i1, v1), (i2, v2), (i3, v3), (i4, v4), (i5, v5), (i6, v6), (i7, v7), (i8, v8), (i9, v9), (i10, v10), (i11, v11)] st S) (h1 : rs_lk lv i1 = some v1) (h2 : rs_lk lv i2 = some v2) (h3 : rs_lk lv i3 = some v3) (h4 : rs_lk lv i4 = some v4) (h5 : rs_lk lv i5 = some v5) (h6 : rs_lk lv i6 = some v6) (h7 : rs_lk lv i7 = some v7) (h8 : rs_lk lv i8 = some v8) (h9 : rs_lk lv i9 = some v9) (h10 : rs_lk lv i10 = some v10) (h11 : rs_lk lv i11 = some v11) : rs_J G E pc lv st S := rj_sb (lv' := [(i1, v1), (i2, v2), (i3, v3), (i4, v4), (i5, v5), (i6, v6), (i7, v7), (i8, v8), (i9, v9), (i10, v10), (i11, v11)]) (show rs_Sb lv [(i1, v1), (i2, v2), (i3, v3), (i4, v4), (i5, v5), (i6, v6), (i7, v7), (i8, v8), (i9, v9), (i10, v10), (i11, v11)] from ⟨h1, h2, h3, h4, h5, h6, h7, h8, h9, h10, h11, trivial⟩) k
theorem rj_to12 {i1 i2 i3 i4 i5 i6 i7 i8 i9 i10 i11 i12 : Nat} {v1 v2 v3 v4 v5 v6 v7 v8 v9 v10 v11 v12 : Value} (k : rs_J G E pc [(i1, v1), (i2, v2), (i3, v3), (i4, v4), (i5, v5), (i6, v6), (i7, v7), (i8, v8), (i9, v9), (i10, v10), (i11, v11), (i12, v12)] st S) (h1 : rs_lk lv i1 = some v1) (h2 : rs_lk lv i2 = some v2) (h3 : rs_lk lv i3 = some v3) (h4 : rs_lk lv i4 = some v4) (h5 : rs_lk lv i5 = some v5) (h6 : rs_lk lv i6 = some v6) (h7 : rs_lk lv i7 = some v7) (h8 : rs_lk lv i8 = some v8) (h9 : rs_lk lv i9 = some v9) (h10 : rs_lk lv i10 = some v10) (h11 : rs_lk lv i11 = some v11) (h12 : rs_lk lv i12 = some v12) : rs_J G E pc lv st S := rj_sb (lv' := [(i1, v1), (i2, v2), (i3, v3), (i4, v4), (i5, v5), (i6, v6), (i7, v7), (i8, v8), (i9, v9), (i10, v10), (i11, v11), (i12, v12)]) (show rs_Sb lv [(i1, v1), (i2, v2), (i3, v3), (i4, v4), (i5, v5), (i6, v6), (i7, v7), (i8, v8), (i9, v9), (i10, v10), (i11, v11), (i12, v12)] from ⟨h1, h2, h3, h4, h5, h6, h7, h8, h9, h10, h11, h12, trivial⟩) k
end RT
end
section
/-! THE METHODS THAT LOOK AT NO CELL, of both classes -/
theorem rs_ro_neg {x : Int32} (h : x < 0) : ¬ rs_ro x := by
  intro hr
  obtain ⟨j, hj, e⟩ := rs_ro_to hr
  rw [e] at h
  exact nI_pos (by omega) h
theorem rs_ro_big {x : Int32} (h : nI 4 ≤ x) : ¬ rs_ro x := by
  intro hr
  obtain ⟨j, hj, e⟩ := rs_ro_to hr
  rw [e, nI_leI (by omega) (by omega)] at h
  omega
theorem rs_ro_gt {x : Int32} (h : nI 3 < x) : ¬ rs_ro x := by
  intro hr
  obtain ⟨j, hj, e⟩ := rs_ro_to hr
  rw [e, nI_ltI (by omega) (by omega)] at h
  omega
theorem rs_nn {x : Int32} (h : ¬ x < 0) : ∃ j, j < 2 ^ 31 ∧ x = nI j := nI_of h
theorem rs_ro_in {x : Int32} (h : ¬ x < 0) (h2 : ¬ nI 4 ≤ x) : rs_ro x := by
  obtain ⟨j, hj, e⟩ := rs_nn h
  rw [e, nI_leI (by omega) hj] at h2
  exact (rs_ro_of e (by omega)).1
theorem rs_ro_in3 {x : Int32} (h : ¬ x < 0) (h2 : ¬ nI 3 < x) : rs_ro x := by
  obtain ⟨j, hj, e⟩ := rs_nn h
  rw [e, nI_ltI (by omega) hj] at h2
  exact (rs_ro_of e (by omega)).1
theorem rs_tk_0 : rs_tk 0 := (rs_tk_of (t := 0) nI_0.symm ⟨by decide, Or.inl rfl⟩).1
theorem rs_tk_lt {x : Int32} (h0 : ¬ x = 0) (h : x < nI 1) : ¬ rs_tk x := by
  intro hr
  have e := hr.1
  have ht := hr.2.1
  generalize x.toNatClampNeg = t at e ht
  rw [e, nI_ltI (by omega) (by omega)] at h
  have : t = 0 := by omega
  rw [this, nI_0] at e
  exact h0 e
theorem rs_tk_gt {x : Int32} (h : nI 32 < x) : ¬ rs_tk x := by
  intro hr
  have e := hr.1
  have ht := hr.2.1
  generalize x.toNatClampNeg = t at e ht
  rw [e, nI_ltI (by omega) (by omega)] at h
  omega
theorem rs_tk_mid {x : Int32} (h : ¬ x < nI 1) (h2 : ¬ nI 32 < x) : ∃ t, 1 ≤ t ∧ t < 33 ∧ x = nI t := by
  by_cases hn : x < 0
  · exfalso
    have h3 : x.toInt < 0 := by
      have := Int32.lt_iff_toInt_lt.mp hn
      simpa using this
    have h4 : (nI 1).toInt = 1 := nI_toInt (by decide)
    exact h (Int32.lt_iff_toInt_lt.mpr (by omega))
  · obtain ⟨j, hj, e⟩ := rs_nn hn
    rw [e, nI_ltI hj (by omega)] at h
    rw [e, nI_ltI (by omega) hj] at h2
    exact ⟨j, by omega, by omega, e⟩
theorem rs_tok_pk {t : Nat} {p : Int32} (h1 : 1 ≤ t) (h2 : t < 33) (ha : nI t ≤ nI 16 → p = nI t - nI 1) (hb : ¬ nI t ≤ nI 16 → p = nI t - nI 17) : p &&& nI 3 = nI (pp_sn t) ∧ p >>> (nI 2 &&& 31) = nI (pp_rc t) := by
  by_cases h : t ≤ 16
  · rw [ha (nI_le h (by decide))]
    exact ⟨rs_snE t h2, rs_rcA t (by omega) h1⟩
  · rw [hb (fun q => by rw [nI_leI (by omega) (by omega)] at q; exact h q)]
    exact ⟨rs_snB t h2 (by omega), rs_rcB t h2 (by omega)⟩
theorem ct_X0_isRole (l : Launch) (x : Int32) : rs_CP l yX0_isRole cX0_isRole 1 (some .boolean) rm_X0_isRole [.int x] (rs_bz (rs_ro x)) := by
  refine rs_ofpz (own := RX0) (by decide) rfl (Nat.le_of_ble_eq_true rfl) rfl rfl ?_
  intro E F Rr
  refine rj_iload_n (pc := 0) F dX0_isRole_0 rfl ?_
  refine rj_if_lt (pc := 1) (tgt := 13) F dX0_isRole_1 (by decide) (fun c1 => ?_) (fun c1 => ?_)
  · refine rj_iconst (pc := 13) (v := nI 0) F dX0_isRole_13 (by decide) ?_
    exact Rr 14 _ _ _ dX0_isRole_14 (by decide) (rs_bz_f (rs_ro_neg c1)).symm
  · refine rj_iload_n (pc := 4) F dX0_isRole_4 rfl ?_
    refine rj_iconst (pc := 5) (v := nI 4) F dX0_isRole_5 (by decide) ?_
    refine rj_icmp_ge (pc := 6) (tgt := 13) F dX0_isRole_6 (by decide) (fun c6 => ?_) (fun c6 => ?_)
    · refine rj_iconst (pc := 13) (v := nI 0) F dX0_isRole_13 (by decide) ?_
      exact Rr 14 _ _ _ dX0_isRole_14 (by decide) (rs_bz_f (rs_ro_big c6)).symm
    · refine rj_iconst (pc := 9) (v := nI 1) F dX0_isRole_9 (by decide) ?_
      refine rj_goto (pc := 10) (tgt := 14) F dX0_isRole_10 (by decide) ?_
      exact Rr 14 _ _ _ dX0_isRole_14 (by decide) (rs_bz_t (rs_ro_in c1 c6)).symm
theorem ct_X0_isToken (l : Launch) (x : Int32) : rs_CP l yX0_isToken cX0_isToken 2 (some .boolean) rm_X0_isToken [.int x] (rs_bz (rs_tk x)) := by
  refine rs_ofpz (own := RX0) (by decide) rfl (Nat.le_of_ble_eq_true rfl) rfl rfl ?_
  intro E F Rr
  have K16 : ∀ p : Int32, (x ≤ nI 16 → p = x - nI 1) → (¬ x ≤ nI 16 → p = x - nI 17) → rs_J (rs_G0 l) E 16 [(0, .int x)] [.int p] () := by
    intro p ha hb
    refine rj_istore_n (pc := 16) F dX0_isToken_16 (by decide) ?_
    refine rj_iload_n (pc := 17) F dX0_isToken_17 rfl ?_
    refine rj_if_eq (pc := 18) (tgt := 41) F dX0_isToken_18 (by decide) (fun c18 => ?_) (fun c18 => ?_)
    · refine rj_iconst (pc := 41) (v := nI 1) F dX0_isToken_41 (by decide) ?_
      refine rj_goto (pc := 42) (tgt := 46) F dX0_isToken_42 (by decide) ?_
      exact Rr 46 _ _ _ dX0_isToken_46 (by decide) (rs_bz_t (by rw [c18]; exact rs_tk_0)).symm
    · refine rj_iload_n (pc := 21) F dX0_isToken_21 rfl ?_
      refine rj_iconst (pc := 22) (v := nI 1) F dX0_isToken_22 (by decide) ?_
      refine rj_icmp_lt (pc := 23) (tgt := 45) F dX0_isToken_23 (by decide) (fun c23 => ?_) (fun c23 => ?_)
      · refine rj_iconst (pc := 45) (v := nI 0) F dX0_isToken_45 (by decide) ?_
        exact Rr 46 _ _ _ dX0_isToken_46 (by decide) (rs_bz_f (rs_tk_lt c18 c23)).symm
      · refine rj_iload_n (pc := 26) F dX0_isToken_26 rfl ?_
        refine rj_bipush (pc := 27) (v := nI 32) F dX0_isToken_27 (by decide) ?_
        refine rj_icmp_gt (pc := 29) (tgt := 45) F dX0_isToken_29 (by decide) (fun c29 => ?_) (fun c29 => ?_)
        · refine rj_iconst (pc := 45) (v := nI 0) F dX0_isToken_45 (by decide) ?_
          exact Rr 46 _ _ _ dX0_isToken_46 (by decide) (rs_bz_f (rs_tk_gt c29)).symm
        · obtain ⟨t, t1, t2, rfl⟩ := rs_tk_mid c23 c29
          obtain ⟨e1, e2⟩ := rs_tok_pk t1 t2 ha hb
          have hs := pp_sn_lt t
          have hr := pp_rc_lt t
          refine rj_iload_n (pc := 32) F dX0_isToken_32 rfl ?_
          refine rj_iconst (pc := 33) (v := nI 3) F dX0_isToken_33 (by decide) ?_
          refine rj_iandE (pc := 34) F dX0_isToken_34 e1 ?_
          refine rj_iload_n (pc := 35) F dX0_isToken_35 rfl ?_
          refine rj_iconst (pc := 36) (v := nI 2) F dX0_isToken_36 (by decide) ?_
          refine rj_ishrE (pc := 37) F dX0_isToken_37 e2 ?_
          refine rj_icmp_eq (pc := 38) (tgt := 45) F dX0_isToken_38 (by decide) (fun c38 => ?_) (fun c38 => ?_)
          · refine rj_iconst (pc := 45) (v := nI 0) F dX0_isToken_45 (by decide) ?_
            rw [nI_eq (by omega) (by omega)] at c38
            exact Rr 46 _ _ _ dX0_isToken_46 (by decide) (rs_bz_f (fun h => by rw [rs_tk, nI_clamp (by omega)] at h; exact h.2.2.elim (by omega) (fun h => h c38))).symm
          · refine rj_iconst (pc := 41) (v := nI 1) F dX0_isToken_41 (by decide) ?_
            refine rj_goto (pc := 42) (tgt := 46) F dX0_isToken_42 (by decide) ?_
            rw [nI_eq (by omega) (by omega)] at c38
            exact Rr 46 _ _ _ dX0_isToken_46 (by decide) (rs_bz_t (rs_tk_of rfl ⟨t2, Or.inr c38⟩).1).symm
  refine rj_iload_n (pc := 0) F dX0_isToken_0 rfl ?_
  refine rj_bipush (pc := 1) (v := nI 16) F dX0_isToken_1 (by decide) ?_
  refine rj_icmp_le (pc := 3) (tgt := 13) F dX0_isToken_3 (by decide) (fun c3 => ?_) (fun c3 => ?_)
  · refine rj_iload_n (pc := 13) F dX0_isToken_13 rfl ?_
    refine rj_iconst (pc := 14) (v := nI 1) F dX0_isToken_14 (by decide) ?_
    refine rj_isub (pc := 15) F dX0_isToken_15 ?_
    exact K16 _ (fun _ => rfl) (fun h => absurd c3 h)
  · refine rj_iload_n (pc := 6) F dX0_isToken_6 rfl ?_
    refine rj_bipush (pc := 7) (v := nI 17) F dX0_isToken_7 (by decide) ?_
    refine rj_isub (pc := 9) F dX0_isToken_9 ?_
    refine rj_goto (pc := 10) (tgt := 16) F dX0_isToken_10 (by decide) ?_
    exact K16 _ (fun h => absurd h c3) (fun _ => rfl)
theorem ct_X0_senderOf (l : Launch) {t : Nat} (h1 : 1 ≤ t) (h2 : t < 33) : rs_CP l yX0_senderOf cX0_senderOf 1 (some .int) rm_X0_senderOf [.int (nI t)] (nI (pp_sn t)) := by
  refine rs_ofpi (own := RX0) (by decide) rfl (Nat.le_of_ble_eq_true rfl) rfl rfl ?_
  intro E F Rr
  refine rj_iload_n (pc := 0) F dX0_senderOf_0 rfl ?_
  refine rj_bipush (pc := 1) (v := nI 16) F dX0_senderOf_1 (by decide) ?_
  refine rj_icmp_le (pc := 3) (tgt := 13) F dX0_senderOf_3 (by decide) (fun c3 => ?_) (fun c3 => ?_)
  · refine rj_iload_n (pc := 13) F dX0_senderOf_13 rfl ?_
    refine rj_iconst (pc := 14) (v := nI 1) F dX0_senderOf_14 (by decide) ?_
    refine rj_isub (pc := 15) F dX0_senderOf_15 ?_
    refine rj_iconst (pc := 16) (v := nI 3) F dX0_senderOf_16 (by decide) ?_
    refine rj_iandE (pc := 17) F dX0_senderOf_17 (rs_snE t h2) ?_
    exact Rr 18 _ _ _ dX0_senderOf_18 rfl
  · rw [nI_leI (by omega) (by omega)] at c3
    refine rj_iload_n (pc := 6) F dX0_senderOf_6 rfl ?_
    refine rj_bipush (pc := 7) (v := nI 17) F dX0_senderOf_7 (by decide) ?_
    refine rj_isub (pc := 9) F dX0_senderOf_9 ?_
    refine rj_goto (pc := 10) (tgt := 16) F dX0_senderOf_10 (by decide) ?_
    refine rj_iconst (pc := 16) (v := nI 3) F dX0_senderOf_16 (by decide) ?_
    refine rj_iandE (pc := 17) F dX0_senderOf_17 (rs_snB t h2 (by omega)) ?_
    exact Rr 18 _ _ _ dX0_senderOf_18 rfl
theorem ct_X0_receiverOf (l : Launch) {t : Nat} (h1 : 1 ≤ t) (h2 : t < 33) : rs_CP l yX0_receiverOf cX0_receiverOf 1 (some .int) rm_X0_receiverOf [.int (nI t)] (nI (pp_rc t)) := by
  refine rs_ofpi (own := RX0) (by decide) rfl (Nat.le_of_ble_eq_true rfl) rfl rfl ?_
  intro E F Rr
  refine rj_iload_n (pc := 0) F dX0_receiverOf_0 rfl ?_
  refine rj_bipush (pc := 1) (v := nI 16) F dX0_receiverOf_1 (by decide) ?_
  refine rj_icmp_le (pc := 3) (tgt := 13) F dX0_receiverOf_3 (by decide) (fun c3 => ?_) (fun c3 => ?_)
  · rw [nI_leI (by omega) (by omega)] at c3
    refine rj_iload_n (pc := 13) F dX0_receiverOf_13 rfl ?_
    refine rj_iconst (pc := 14) (v := nI 1) F dX0_receiverOf_14 (by decide) ?_
    refine rj_isub (pc := 15) F dX0_receiverOf_15 ?_
    refine rj_iconst (pc := 16) (v := nI 2) F dX0_receiverOf_16 (by decide) ?_
    refine rj_ishrE (pc := 17) F dX0_receiverOf_17 (rs_rcA t (by omega) h1) ?_
    exact Rr 18 _ _ _ dX0_receiverOf_18 rfl
  · rw [nI_leI (by omega) (by omega)] at c3
    refine rj_iload_n (pc := 6) F dX0_receiverOf_6 rfl ?_
    refine rj_bipush (pc := 7) (v := nI 17) F dX0_receiverOf_7 (by decide) ?_
    refine rj_isub (pc := 9) F dX0_receiverOf_9 ?_
    refine rj_goto (pc := 10) (tgt := 16) F dX0_receiverOf_10 (by decide) ?_
    refine rj_iconst (pc := 16) (v := nI 2) F dX0_receiverOf_16 (by decide) ?_
    refine rj_ishrE (pc := 17) F dX0_receiverOf_17 (rs_rcB t h2 (by omega)) ?_
    exact Rr 18 _ _ _ dX0_receiverOf_18 rfl
theorem rs_ar_0 {t : Nat} (h : t < 33) (h0 : nI t = 0) : pp_ar t = 0 := by
  rw [← nI_0, nI_eq (by omega) (by omega)] at h0
  rw [h0]
  rfl
theorem rs_ne0 {t : Nat} (h : t < 2 ^ 31) (h0 : ¬ nI t = 0) : t ≠ 0 := fun e => h0 (by rw [e]; exact nI_0)
theorem rs_ar_1 {t : Nat} (h0 : t ≠ 0) (h1 : t ≤ 16) : pp_ar t = 1 := by unfold pp_ar; rw [if_neg h0, if_pos h1]
theorem rs_ar_2 {t : Nat} (h0 : t ≠ 0) (h1 : ¬ t ≤ 16) : pp_ar t = 2 := by unfold pp_ar; rw [if_neg h0, if_neg h1]
theorem ct_X0_labelsOf (l : Launch) {t : Nat} (h2 : t < 33) : rs_CP l yX0_labelsOf cX0_labelsOf 1 (some .int) rm_X0_labelsOf [.int (nI t)] (nI (pp_ar t)) := by
  refine rs_ofpi (own := RX0) (by decide) rfl (Nat.le_of_ble_eq_true rfl) rfl rfl ?_
  intro E F Rr
  refine rj_iload_n (pc := 0) F dX0_labelsOf_0 rfl ?_
  refine rj_if_ne (pc := 1) (tgt := 6) F dX0_labelsOf_1 (by decide) (fun c1 => ?_) (fun c1 => ?_)
  · refine rj_iload_n (pc := 6) F dX0_labelsOf_6 rfl ?_
    refine rj_bipush (pc := 7) (v := nI 16) F dX0_labelsOf_7 (by decide) ?_
    refine rj_icmp_le (pc := 9) (tgt := 16) F dX0_labelsOf_9 (by decide) (fun c9 => ?_) (fun c9 => ?_)
    · refine rj_iconst (pc := 16) (v := nI 1) F dX0_labelsOf_16 (by decide) ?_
      rw [nI_leI (by omega) (by omega)] at c9
      exact Rr 17 _ _ _ dX0_labelsOf_17 (by rw [rs_ar_1 (rs_ne0 (by omega) c1) c9])
    · refine rj_iconst (pc := 12) (v := nI 2) F dX0_labelsOf_12 (by decide) ?_
      refine rj_goto (pc := 13) (tgt := 17) F dX0_labelsOf_13 (by decide) ?_
      rw [nI_leI (by omega) (by omega)] at c9
      exact Rr 17 _ _ _ dX0_labelsOf_17 (by rw [rs_ar_2 (rs_ne0 (by omega) c1) c9])
  · refine rj_iconst (pc := 4) (v := nI 0) F dX0_labelsOf_4 (by decide) ?_
    exact Rr 5 _ _ _ dX0_labelsOf_5 (by rw [rs_ar_0 h2 c1])
theorem ct_X1_role (l : Launch) (h : Nat) (x : Int32) : rs_CP l yX1_role cX1_role 2 (some .boolean) rm_X1_role [.ref h, .int x] (rs_bz (rs_ro x)) := by
  refine rs_ofpz (own := RX1) (by decide) rfl (Nat.le_of_ble_eq_true rfl) rfl rfl ?_
  intro E F Rr
  refine rj_iload_n (pc := 0) F dX1_role_0 rfl ?_
  refine rj_if_lt (pc := 1) (tgt := 13) F dX1_role_1 (by decide) (fun c1 => ?_) (fun c1 => ?_)
  · refine rj_iconst (pc := 13) (v := nI 0) F dX1_role_13 (by decide) ?_
    exact Rr 14 _ _ _ dX1_role_14 (by decide) (rs_bz_f (rs_ro_neg c1)).symm
  · refine rj_iload_n (pc := 4) F dX1_role_4 rfl ?_
    refine rj_iconst (pc := 5) (v := nI 3) F dX1_role_5 (by decide) ?_
    refine rj_icmp_gt (pc := 6) (tgt := 13) F dX1_role_6 (by decide) (fun c6 => ?_) (fun c6 => ?_)
    · refine rj_iconst (pc := 13) (v := nI 0) F dX1_role_13 (by decide) ?_
      exact Rr 14 _ _ _ dX1_role_14 (by decide) (rs_bz_f (rs_ro_gt c6)).symm
    · refine rj_iconst (pc := 9) (v := nI 1) F dX1_role_9 (by decide) ?_
      refine rj_goto (pc := 10) (tgt := 14) F dX1_role_10 (by decide) ?_
      exact Rr 14 _ _ _ dX1_role_14 (by decide) (rs_bz_t (rs_ro_in3 c1 c6)).symm
theorem ct_X1_sender (l : Launch) (h : Nat) {t : Nat} (h2 : t < 33) : rs_CP l yX1_sender cX1_sender 2 (some .int) rm_X1_sender [.ref h, .int (nI t)] (nI (pp_sn t)) := by
  refine rs_ofpi (own := RX1) (by decide) rfl (Nat.le_of_ble_eq_true rfl) rfl rfl ?_
  intro E F Rr
  refine rj_iload_n (pc := 0) F dX1_sender_0 rfl ?_
  refine rj_iconst (pc := 1) (v := nI 1) F dX1_sender_1 (by decide) ?_
  refine rj_isub (pc := 2) F dX1_sender_2 ?_
  refine rj_iconst (pc := 3) (v := nI 3) F dX1_sender_3 (by decide) ?_
  refine rj_iandE (pc := 4) F dX1_sender_4 (rs_snE t h2) ?_
  exact Rr 5 _ _ _ dX1_sender_5 rfl
theorem ct_X1_receiver (l : Launch) (h : Nat) {t : Nat} (h2 : t < 33) : rs_CP l yX1_receiver cX1_receiver 2 (some .int) rm_X1_receiver [.ref h, .int (nI t)] (nI (pp_rc t)) := by
  refine rs_ofpi (own := RX1) (by decide) rfl (Nat.le_of_ble_eq_true rfl) rfl rfl ?_
  intro E F Rr
  refine rj_iload_n (pc := 0) F dX1_receiver_0 rfl ?_
  refine rj_iconst (pc := 1) (v := nI 1) F dX1_receiver_1 (by decide) ?_
  refine rj_isub (pc := 2) F dX1_receiver_2 ?_
  refine rj_iconst (pc := 3) (v := nI 2) F dX1_receiver_3 (by decide) ?_
  refine rj_ishr (pc := 4) F dX1_receiver_4 ?_
  refine rj_iconst (pc := 5) (v := nI 3) F dX1_receiver_5 (by decide) ?_
  refine rj_iandE (pc := 6) F dX1_receiver_6 (rs_rcE t h2) ?_
  exact Rr 7 _ _ _ dX1_receiver_7 rfl
theorem ct_X1_plans (l : Launch) (h : Nat) {t : Nat} (h2 : t < 33) : rs_CP l yX1_plans cX1_plans 2 (some .int) rm_X1_plans [.ref h, .int (nI t)] (nI (pp_ar t)) := by
  refine rs_ofpi (own := RX1) (by decide) rfl (Nat.le_of_ble_eq_true rfl) rfl rfl ?_
  intro E F Rr
  refine rj_iload_n (pc := 0) F dX1_plans_0 rfl ?_
  refine rj_if_ne (pc := 1) (tgt := 8) F dX1_plans_1 (by decide) (fun c1 => ?_) (fun c1 => ?_)
  · refine rj_iload_n (pc := 8) F dX1_plans_8 rfl ?_
    refine rj_bipush (pc := 9) (v := nI 16) F dX1_plans_9 (by decide) ?_
    refine rj_icmp_gt (pc := 11) (tgt := 18) F dX1_plans_11 (by decide) (fun c11 => ?_) (fun c11 => ?_)
    · refine rj_iconst (pc := 18) (v := nI 2) F dX1_plans_18 (by decide) ?_
      rw [nI_ltI (by omega) (by omega)] at c11
      exact Rr 19 _ _ _ dX1_plans_19 (by rw [rs_ar_2 (rs_ne0 (by omega) c1) (by omega)])
    · refine rj_iconst (pc := 14) (v := nI 1) F dX1_plans_14 (by decide) ?_
      refine rj_goto (pc := 15) (tgt := 19) F dX1_plans_15 (by decide) ?_
      rw [nI_ltI (by omega) (by omega)] at c11
      exact Rr 19 _ _ _ dX1_plans_19 (by rw [rs_ar_1 (rs_ne0 (by omega) c1) (by omega)])
  · refine rj_iconst (pc := 4) (v := nI 0) F dX1_plans_4 (by decide) ?_
    refine rj_goto (pc := 5) (tgt := 19) F dX1_plans_5 (by decide) ?_
    exact Rr 19 _ _ _ dX1_plans_19 (by rw [rs_ar_0 h2 c1])
end
section
/-! RoleSessions: the signs: missing, complete, change, write, rub, runs, sent -/
theorem rs_inc (k : Nat) : nI k + Int32.ofInt 1 = nI (k + 1) := nI_1 k
theorem rs_dec (k : Nat) : nI (k + 1) + Int32.ofInt (-1) = nI k := pk_m1 k
theorem rs_bz_ne {p : Prop} [Decidable p] (h : ¬ rs_bz p = 0) : p := by
  by_cases hp : p
  · exact hp
  · exact absurd (by rw [rs_bz_f hp]; exact nI_0) h
theorem rs_bz_eq {p : Prop} [Decidable p] (h : rs_bz p = 0) : ¬ p := by
  intro hp
  rw [rs_bz_t hp] at h
  exact absurd h (by decide)
theorem rs_need {o b : Nat} (h : 1 ≤ o) : nI o + (nI b - nI 1) = nI (o - 1 + b) := by
  have h1 : nI o = nI (o - 1) + nI 1 := by rw [nI_add]; congr 1; omega
  rw [h1, ← nI_add]
  grind
theorem pp_ar_le (t : Nat) : pp_ar t ≤ 2 := by
  unfold pp_ar
  split
  · decide
  · split <;> decide
theorem pp_op_le (ts : List Nat) : ∀ o, pp_op pp_ar o ts ≤ o + 2 * ts.length := by
  induction ts with
  | nil => intro o; exact Nat.le_refl _
  | cons t ts ih =>
    intro o
    have h1 := ih (o - 1 + pp_ar t)
    have h2 := pp_ar_le t
    show pp_op pp_ar (o - 1 + pp_ar t) ts ≤ o + 2 * (ts.length + 1)
    omega
/-- the class holds the signs ts -/
def rs_tX (ts : List Nat) (S : rs_St) : Prop := pp_wl ts ∧ S 0 0 = nI ts.length ∧ ∀ j, j < ts.length → S 1 j = nI (ts.getD j 0)
theorem rs_IX.tX {ts : List Nat} {run : rs_Rn} {S : rs_St} (h : rs_IX ts run S) : rs_tX ts S := ⟨h.1, h.2.2.1, h.2.2.2.1⟩
theorem rs_IX_write {ts : List Nat} {run : rs_Rn} {S : rs_St} {t : Nat} (h : rs_IX ts run S) (ht : pp_tk t) (hc : ¬ pp_cp ts) (hl : ts.length < 21) : rs_IX (ts ++ [t]) none (rs_sU (rs_sU (rs_sU (rs_sU S 1 ts.length (nI t)) 0 0 (nI (ts.length + 1))) 2 0 (nI 0)) 10 0 (nI 0)) := by
  obtain ⟨⟨w1, w2, w3⟩, -, h3, h4, h5, -, -⟩ := h
  refine ⟨⟨by simp; omega, ?_, ?_⟩, (fun g n e => by cases e), ?_, ?_, ?_, ?_, Or.inl ⟨?_, rfl⟩⟩
  · intro u hu
    rcases List.mem_append.mp hu with e | e
    · exact w2 u e
    · rw [List.mem_singleton.mp e]; exact ht
  · exact pp_pr_app.mpr ⟨w3, Nat.one_le_iff_ne_zero.mpr hc⟩
  · rw [List.length_append]
    rfl
  · intro j hj
    show rs_sU S 1 ts.length (nI t) 1 j = _
    by_cases e : j = ts.length
    · rw [e, rs_sU_s]
      simp
    · rw [rs_sU_j _ _ _ e]
      simp at hj
      rw [h4 j (by omega), List.getD_eq_getElem?_getD, List.getD_eq_getElem?_getD, List.getElem?_append_left (by omega)]
  · exact h5
  · rfl
  · rfl
theorem rs_IX_rub {ts : List Nat} {run : rs_Rn} {S : rs_St} {v : Int32} (h : rs_IX ts run S) (hn : ts ≠ []) (hv : v = nI (ts.length - 1)) : rs_IX ts.dropLast none (rs_sU (rs_sU (rs_sU S 0 0 v) 2 0 (nI 0)) 10 0 (nI 0)) := by
  obtain ⟨⟨w1, w2, w3⟩, -, h3, h4, h5, -, -⟩ := h
  have hd : ts.dropLast ++ [ts.getLast hn] = ts := List.dropLast_concat_getLast hn
  have hlen : ts.dropLast.length = ts.length - 1 := List.length_dropLast
  refine ⟨⟨by omega, fun u hu => w2 u (by rw [← hd]; exact List.mem_append_left _ hu), ?_⟩, (fun g n e => by cases e), ?_, ?_, ?_, ?_, Or.inl ⟨?_, rfl⟩⟩
  · rw [← hd] at w3
    exact (pp_pr_app.mp w3).1
  · rw [hlen, ← hv]
    rfl
  · intro j hj
    rw [hlen] at hj
    have h1 := h4 j (by omega)
    have h2 : ts.dropLast.getD j 0 = ts.getD j 0 := by
      have : ts.getD j 0 = (ts.dropLast ++ [ts.getLast hn]).getD j 0 := by rw [hd]
      rw [this, List.getD_eq_getElem?_getD, List.getD_eq_getElem?_getD, List.getElem?_append_left (by omega)]
    rw [h2]
    exact h1
  · exact h5
  · rfl
  · rfl
section XW
variable (l : Launch) (D : va_G) (dB dI : ClassId) (a : Nat → Nat)
set_option maxHeartbeats 4000000 in
theorem ct_X0_missing {ts : List Nat} {S : rs_St} (h : rs_tX ts S) : rs_CT (rs_GX l D dB dI a) yX0_missing cX0_missing 3 (some .int) rm_X0_missing [.ref (a 0)] S (fun r S' => r = nI (pp_op pp_ar 1 ts) ∧ S' = S) := by
  obtain ⟨⟨w1, w2, w3⟩, h3, h4⟩ := h
  refine rs_ofi (own := RX0) (by decide) rfl (Nat.le_of_ble_eq_true rfl) rfl rfl ?_
  intro E F K Rr
  have loop : ∀ (n k o : Nat), k ≤ ts.length → ts.length + 1 ≤ k + n → pp_op pp_ar o (ts.drop k) = pp_op pp_ar 1 ts → pp_pr pp_ar o (ts.drop k) → rs_J (rs_GX l D dB dI a) E 4 [(2, .int (nI k)), (1, .int (nI o)), (0, .ref (a 0))] [] S := by
    intro n
    induction n with
    | zero => intro k o q1 q2; omega
    | succ n ih =>
      intro k o q1 q2 q3 q4
      refine rj_iload_n (pc := 4) F dX0_missing_4 rfl ?_
      refine rj_aload_n (pc := 5) F dX0_missing_5 rfl ?_
      refine rx_g0 (pc := 6) F K q26 dX0_missing_6 ?_
      refine rj_top h3 ?_
      refine rj_icmp_ge (pc := 9) (tgt := 32) F dX0_missing_9 (by decide) (fun c9 => ?_) (fun c9 => ?_)
      · rw [nI_leI (by omega) (by omega)] at c9
        refine rj_iload_n (pc := 32) F dX0_missing_32 rfl ?_
        rw [List.drop_eq_nil_of_le c9] at q3
        exact Rr 33 _ _ _ dX0_missing_33 ⟨by rw [← q3]; rfl, rfl⟩
      · rw [nI_leI (by omega) (by omega)] at c9
        have hk : k < ts.length := by omega
        have ht := w2 _ (rs_get hk)
        rw [rs_drop hk] at q3 q4
        refine rj_iload_n (pc := 12) F dX0_missing_12 rfl ?_
        refine rj_aload_n (pc := 13) F dX0_missing_13 rfl ?_
        refine rx_g1 (pc := 14) F K q27 dX0_missing_14 ?_
        refine rj_iload_n (pc := 17) F dX0_missing_17 rfl ?_
        refine rx_l1 (pc := 18) F K dX0_missing_18 rfl (by omega) ?_
        refine rj_top (h4 k hk) ?_
        generalize ts.getD k 0 = t at ht q3 q4
        refine rj_callps1 (pc := 19) F (ct_X0_labelsOf l ht.1) (lw_S q83 q84 q16 q85) (by decide +kernel) ⟨rfl, rfl⟩ ⟨Nat.le_of_ble_eq_true rfl, Nat.le_of_ble_eq_true rfl⟩ (Nat.le_of_ble_eq_true rfl) dX0_missing_19 ?_
        refine rj_iconst (pc := 22) (v := nI 1) F dX0_missing_22 (by decide) ?_
        refine rj_isub (pc := 23) F dX0_missing_23 ?_
        refine rj_iaddE (pc := 24) F dX0_missing_24 (rs_need q4.1) ?_
        refine rj_istore_n (pc := 25) F dX0_missing_25 (by decide) ?_
        refine rj_iinc (pc := 26) F dX0_missing_26 rfl (by decide) (rs_inc k) ?_
        refine rj_goto (pc := 29) (tgt := 4) F dX0_missing_29 (by decide) ?_
        exact rj_to3 (ih (k + 1) (o - 1 + pp_ar t) hk (by omega) q3 q4.2) rfl rfl rfl
  refine rj_iconst (pc := 0) (v := nI 1) F dX0_missing_0 (by decide) ?_
  refine rj_istore_n (pc := 1) F dX0_missing_1 (by decide) ?_
  refine rj_iconst (pc := 2) (v := nI 0) F dX0_missing_2 (by decide) ?_
  refine rj_istore_n (pc := 3) F dX0_missing_3 (by decide) ?_
  exact rj_to3 (loop (ts.length + 1) 0 1 (Nat.zero_le _) (by omega) rfl w3) rfl rfl rfl
theorem ct_X0_complete {ts : List Nat} {S : rs_St} (h : rs_tX ts S) : rs_CT (rs_GX l D dB dI a) yX0_complete cX0_complete 1 (some .boolean) rm_X0_complete [.ref (a 0)] S (fun r S' => r = rs_aC ts ∧ S' = S) := by
  have hb := pp_op_le ts 1
  have h1 := h.1.1
  refine rs_ofz (own := RX0) (by decide) rfl (Nat.le_of_ble_eq_true rfl) rfl rfl ?_
  intro E F K Rr
  refine rj_aload_n (pc := 0) F dX0_complete_0 rfl ?_
  refine rj_calli0 (pc := 1) F K rs_rcX (ct_X0_missing l D dB dI a h) (lw_V q79 q81 qs0 q16 q82) (by decide +kernel) ⟨rfl, rfl⟩ ⟨Nat.le_of_ble_eq_true rfl, Nat.le_of_ble_eq_true rfl⟩ (Nat.le_of_ble_eq_true rfl) dX0_complete_1 (fun r S1 hp => ?_)
  obtain ⟨rfl, rfl⟩ := hp
  refine rj_if_ne (pc := 4) (tgt := 11) F dX0_complete_4 (by decide) (fun c4 => ?_) (fun c4 => ?_)
  · refine rj_iconst (pc := 11) (v := nI 0) F dX0_complete_11 (by decide) ?_
    exact Rr 12 _ _ _ dX0_complete_12 (by decide) ⟨(rs_bz_f (fun e => c4 (by rw [show pp_op pp_ar 1 ts = 0 from e]; exact nI_0))).symm, rfl⟩
  · refine rj_iconst (pc := 7) (v := nI 1) F dX0_complete_7 (by decide) ?_
    refine rj_goto (pc := 8) (tgt := 12) F dX0_complete_8 (by decide) ?_
    exact Rr 12 _ _ _ dX0_complete_12 (by decide) ⟨(rs_bz_t (by rw [← nI_0, nI_eq (by omega) (by omega)] at c4; exact c4)).symm, rfl⟩
theorem ct_X0_change (S : rs_St) : rs_CV (rs_GX l D dB dI a) yX0_change cX0_change 1 none rm_X0_change [.ref (a 0)] S (fun S' => S' = rs_sU (rs_sU S 2 0 (nI 0)) 10 0 (nI 0)) := by
  refine rs_ofv (own := RX0) (by decide) rfl (Nat.le_of_ble_eq_true rfl) rfl rfl ?_
  intro E F K Rr
  refine rj_aload_n (pc := 0) F dX0_change_0 rfl ?_
  refine rj_iconst (pc := 1) (v := nI 0) F dX0_change_1 (by decide) ?_
  refine rx_p2 (pc := 2) F K q28 dX0_change_2 (by decide) (by decide) ?_
  refine rj_aload_n (pc := 5) F dX0_change_5 rfl ?_
  refine rj_iconst (pc := 6) (v := nI 0) F dX0_change_6 (by decide) ?_
  refine rx_p10 (pc := 7) F K q36 dX0_change_7 (by decide) (by decide) ?_
  exact Rr 10 _ _ dX0_change_10 rfl
set_option maxHeartbeats 4000000 in
theorem ct_X0_write {ts : List Nat} {run : rs_Rn} {S : rs_St} (x : Int32) (h : rs_IX ts run S) : rs_CT (rs_GX l D dB dI a) yX0_write cX0_write 2 (some .int) rm_X0_write [.ref (a 0), .int x] S (fun r S' => r = (rs_oW ts run x).1 ∧ rs_IX (rs_oW ts run x).2.1 (rs_oW ts run x).2.2 S') := by
  have hcnt := h.2.2.1
  have hlen := h.1.1
  refine rs_ofi (own := RX0) (by decide) rfl (Nat.le_of_ble_eq_true rfl) rfl rfl ?_
  intro E F K Rr
  refine rj_iload_n (pc := 0) F dX0_write_0 rfl ?_
  refine rj_callps1 (pc := 1) F (ct_X0_isToken l x) (lw_S q72 q73 q16 q74) (by decide +kernel) ⟨rfl, rfl⟩ ⟨Nat.le_of_ble_eq_true rfl, Nat.le_of_ble_eq_true rfl⟩ (Nat.le_of_ble_eq_true rfl) dX0_write_1 ?_
  refine rj_if_ne (pc := 4) (tgt := 9) F dX0_write_4 (by decide) (fun c4 => ?_) (fun c4 => ?_)
  · have htk := rs_bz_ne c4
    refine rj_aload_n (pc := 9) F dX0_write_9 rfl ?_
    refine rj_calli0 (pc := 10) F K rs_rcX (ct_X0_complete l D dB dI a h.tX) (lw_V q75 q76 q77 q16 q78) (by decide +kernel) ⟨rfl, rfl⟩ ⟨Nat.le_of_ble_eq_true rfl, Nat.le_of_ble_eq_true rfl⟩ (Nat.le_of_ble_eq_true rfl) dX0_write_10 (fun r S1 hp => ?_)
    obtain ⟨rfl, rfl⟩ := hp
    refine rj_if_ne (pc := 13) (tgt := 25) F dX0_write_13 (by decide) (fun c13 => ?_) (fun c13 => ?_)
    · have hcp := rs_bz_ne c13
      refine rj_bipush (pc := 25) (v := (-2)) F dX0_write_25 (by decide) ?_
      have e : rs_oW ts run x = (-2, ts, run) := by unfold rs_oW; rw [if_neg (fun q => q htk), if_pos (Or.inl hcp)]
      exact Rr 27 _ _ _ dX0_write_27 (by rw [e]; exact ⟨rfl, h⟩)
    · have hcp := rs_bz_eq c13
      refine rj_aload_n (pc := 16) F dX0_write_16 rfl ?_
      refine rx_g0 (pc := 17) F K q26 dX0_write_17 ?_
      refine rj_top hcnt ?_
      refine rj_bipush (pc := 20) (v := nI 21) F dX0_write_20 (by decide) ?_
      refine rj_icmp_lt (pc := 22) (tgt := 28) F dX0_write_22 (by decide) (fun c22 => ?_) (fun c22 => ?_)
      · rw [nI_ltI (by omega) (by omega)] at c22
        obtain ⟨t, ht, rfl⟩ : ∃ t, pp_tk t ∧ x = nI t := ⟨_, htk.2, htk.1⟩
        have ht3 := ht.1
        have e : rs_oW ts run (nI t) = (nI (ts.length + 1), ts ++ [t], none) := by unfold rs_oW; rw [if_neg (fun q => q htk), if_neg (fun q => q.elim hcp (by omega)), nI_clamp (by omega)]
        refine rj_aload_n (pc := 28) F dX0_write_28 rfl ?_
        refine rx_g1 (pc := 29) F K q27 dX0_write_29 ?_
        refine rj_aload_n (pc := 32) F dX0_write_32 rfl ?_
        refine rx_g0 (pc := 33) F K q26 dX0_write_33 ?_
        refine rj_top hcnt ?_
        refine rj_iload_n (pc := 36) F dX0_write_36 rfl ?_
        refine rj_i2b (pc := 37) F dX0_write_37 (rs_b8 t (by omega)) ?_
        refine rx_s1 (pc := 38) F K dX0_write_38 rfl c22 (rs_n8 (by omega)) ?_
        refine rj_aload_n (pc := 39) F dX0_write_39 rfl ?_
        refine rj_dup (pc := 40) F dX0_write_40 rfl ?_
        refine rx_g0 (pc := 41) F K q26 dX0_write_41 ?_
        refine rj_top (y := nI ts.length) hcnt ?_
        refine rj_iconst (pc := 44) (v := nI 1) F dX0_write_44 (by decide) ?_
        refine rj_iaddE (pc := 45) F dX0_write_45 (nI_add _ _) ?_
        refine rx_p0 (pc := 46) F K q26 dX0_write_46 ?_
        refine rj_aload_n (pc := 49) F dX0_write_49 rfl ?_
        refine rj_callv0 (pc := 50) F K rs_rcX (ct_X0_change l D dB dI a _) (lw_V q86 q88 qs1 q16 q89) (by decide +kernel) ⟨rfl, rfl⟩ ⟨Nat.le_of_ble_eq_true rfl, Nat.le_of_ble_eq_true rfl⟩ (Nat.le_of_ble_eq_true rfl) dX0_write_50 (fun S1 hp => ?_)
        subst hp
        refine rj_aload_n (pc := 53) F dX0_write_53 rfl ?_
        refine rx_g0 (pc := 54) F K q26 dX0_write_54 ?_
        exact Rr 57 _ _ _ dX0_write_57 (by rw [e]; exact ⟨rfl, rs_IX_write h ht hcp c22⟩)
      · rw [nI_ltI (by omega) (by omega)] at c22
        refine rj_bipush (pc := 25) (v := (-2)) F dX0_write_25 (by decide) ?_
        have e : rs_oW ts run x = (-2, ts, run) := by unfold rs_oW; rw [if_neg (fun q => q htk), if_pos (Or.inr (by omega))]
        exact Rr 27 _ _ _ dX0_write_27 (by rw [e]; exact ⟨rfl, h⟩)
  · have htk := rs_bz_eq c4
    refine rj_iconst (pc := 7) (v := (-1)) F dX0_write_7 (by decide) ?_
    have e : rs_oW ts run x = (-1, ts, run) := by unfold rs_oW; rw [if_pos htk]
    exact Rr 8 _ _ _ dX0_write_8 (by rw [e]; exact ⟨rfl, h⟩)
set_option maxHeartbeats 4000000 in
theorem ct_X0_rub {ts : List Nat} {run : rs_Rn} {S : rs_St} (h : rs_IX ts run S) : rs_CT (rs_GX l D dB dI a) yX0_rub cX0_rub 1 (some .int) rm_X0_rub [.ref (a 0)] S (fun r S' => r = (rs_oU ts run).1 ∧ rs_IX (rs_oU ts run).2.1 (rs_oU ts run).2.2 S') := by
  have hcnt := h.2.2.1
  have hlen := h.1.1
  refine rs_ofi (own := RX0) (by decide) rfl (Nat.le_of_ble_eq_true rfl) rfl rfl ?_
  intro E F K Rr
  refine rj_aload_n (pc := 0) F dX0_rub_0 rfl ?_
  refine rx_g0 (pc := 1) F K q26 dX0_rub_1 ?_
  refine rj_top hcnt ?_
  refine rj_if_ne (pc := 4) (tgt := 9) F dX0_rub_4 (by decide) (fun c4 => ?_) (fun c4 => ?_)
  · have hn : ts ≠ [] := fun e => c4 (by rw [e]; exact nI_0)
    have hpos : 0 < ts.length := List.length_pos_iff.mpr hn
    have e : rs_oU ts run = (nI (ts.getLastD 0), ts.dropLast, none) := by unfold rs_oU; rw [if_neg hn]
    have hm : nI ts.length - nI 1 = nI (ts.length - 1) := pk_sub (by omega)
    refine rj_aload_n (pc := 9) F dX0_rub_9 rfl ?_
    refine rj_dup (pc := 10) F dX0_rub_10 rfl ?_
    refine rx_g0 (pc := 11) F K q26 dX0_rub_11 ?_
    refine rj_top hcnt ?_
    refine rj_iconst (pc := 14) (v := nI 1) F dX0_rub_14 (by decide) ?_
    refine rj_isubE (pc := 15) F dX0_rub_15 hm ?_
    refine rx_p0 (pc := 16) F K q26 dX0_rub_16 ?_
    refine rj_aload_n (pc := 19) F dX0_rub_19 rfl ?_
    refine rj_callv0 (pc := 20) F K rs_rcX (ct_X0_change l D dB dI a _) (lw_V q86 q88 qs1 q16 q89) (by decide +kernel) ⟨rfl, rfl⟩ ⟨Nat.le_of_ble_eq_true rfl, Nat.le_of_ble_eq_true rfl⟩ (Nat.le_of_ble_eq_true rfl) dX0_rub_20 (fun S1 hp => ?_)
    subst hp
    refine rj_aload_n (pc := 23) F dX0_rub_23 rfl ?_
    refine rx_g1 (pc := 24) F K q27 dX0_rub_24 ?_
    refine rj_aload_n (pc := 27) F dX0_rub_27 rfl ?_
    refine rx_g0 (pc := 28) F K q26 dX0_rub_28 ?_
    refine rx_l1 (pc := 31) F K dX0_rub_31 rfl (by omega) ?_
    refine rj_top (y := nI (ts.getD (ts.length - 1) 0)) (h.2.2.2.1 _ (by omega)) ?_
    have eg : ts.getD (ts.length - 1) 0 = ts.getLastD 0 := by
      rw [List.getLastD_eq_getLast?, List.getLast?_eq_getElem?, List.getD_eq_getElem?_getD]
    exact Rr 32 _ _ _ dX0_rub_32 (by rw [e, eg]; exact ⟨rfl, rs_IX_rub h hn rfl⟩)
  · refine rj_iconst (pc := 7) (v := (-1)) F dX0_rub_7 (by decide) ?_
    have hn : ts = [] := by
      rw [← nI_0, nI_eq (by omega) (by omega)] at c4
      exact List.length_eq_zero_iff.mp c4
    have e : rs_oU ts run = (-1, ts, run) := by unfold rs_oU; rw [if_pos hn]
    exact Rr 8 _ _ _ dX0_rub_8 (by rw [e]; exact ⟨rfl, h⟩)
theorem rs_IX.run0 {ts : List Nat} {S : rs_St} (h : rs_IX ts none S) : S 10 0 = nI 0 := h.2.2.2.2.2.1
theorem rs_IX.run1 {ts : List Nat} {g : List Nat} {n : Nat} {S : rs_St} (h : rs_IX ts (some (g, n)) S) : S 10 0 = nI 1 ∧ S 12 0 = nI n := h.2.2.2.2.2.1
theorem ct_X0_runs {ts : List Nat} {run : rs_Rn} {S : rs_St} (h : rs_IX ts run S) : rs_CT (rs_GX l D dB dI a) yX0_runs cX0_runs 1 (some .boolean) rm_X0_runs [.ref (a 0)] S (fun r S' => r = rs_aR run ∧ rs_IX ts run S') := by
  refine rs_ofz (own := RX0) (by decide) rfl (Nat.le_of_ble_eq_true rfl) rfl rfl ?_
  intro E F K Rr
  refine rj_aload_n (pc := 0) F dX0_runs_0 rfl ?_
  refine rx_g10 (pc := 1) F K q36 dX0_runs_1 ?_
  cases run with
  | none =>
    refine rj_top h.run0 ?_
    exact Rr 4 _ _ _ dX0_runs_4 (by decide) ⟨rfl, h⟩
  | some q =>
    obtain ⟨g, n⟩ := q
    refine rj_top h.run1.1 ?_
    exact Rr 4 _ _ _ dX0_runs_4 (by decide) ⟨rfl, h⟩
theorem ct_X0_sent {ts : List Nat} {run : rs_Rn} {S : rs_St} (h : rs_IX ts run S) : rs_CT (rs_GX l D dB dI a) yX0_sent cX0_sent 1 (some .int) rm_X0_sent [.ref (a 0)] S (fun r S' => r = rs_aT run ∧ rs_IX ts run S') := by
  refine rs_ofi (own := RX0) (by decide) rfl (Nat.le_of_ble_eq_true rfl) rfl rfl ?_
  intro E F K Rr
  refine rj_aload_n (pc := 0) F dX0_sent_0 rfl ?_
  refine rx_g10 (pc := 1) F K q36 dX0_sent_1 ?_
  cases run with
  | none =>
    refine rj_top h.run0 ?_
    refine rj_if_eq (pc := 4) (tgt := 14) F dX0_sent_4 (by decide) (fun c4 => ?_) (fun c4 => ?_)
    · refine rj_iconst (pc := 14) (v := (-1)) F dX0_sent_14 (by decide) ?_
      exact Rr 15 _ _ _ dX0_sent_15 ⟨rfl, h⟩
    · exact absurd nI_0 c4
  | some q =>
    obtain ⟨g, n⟩ := q
    refine rj_top h.run1.1 ?_
    refine rj_if_eq (pc := 4) (tgt := 14) F dX0_sent_4 (by decide) (fun c4 => ?_) (fun c4 => ?_)
    · exact absurd c4 (by decide)
    · refine rj_aload_n (pc := 7) F dX0_sent_7 rfl ?_
      refine rx_g12 (pc := 8) F K q38 dX0_sent_8 ?_
      refine rj_top h.run1.2 ?_
      refine rj_goto (pc := 11) (tgt := 15) F dX0_sent_11 (by decide) ?_
      exact Rr 15 _ _ _ dX0_sent_15 ⟨rfl, h⟩
end XW
end
section
/-! RoleSessions: the run: over, duty, labels, rest, possible, send, choices -/
theorem pp_du_le {d : Nat} (h : d ≤ 8) : pp_du d = d := by unfold pp_du; rw [if_pos h]
theorem pp_du_8 {d : Nat} (h : 1 ≤ d) : pp_du (d + 8) = d := by unfold pp_du; rw [if_neg (by omega)]; omega
theorem pp_la_1 {d : Nat} (h1 : 1 ≤ d) (h : d ≤ 8) : pp_la d = 1 := by unfold pp_la; rw [if_neg (by omega), if_pos h]
theorem pp_la_8 {d : Nat} (h1 : 1 ≤ d) : pp_la (d + 8) = 2 := by unfold pp_la; rw [if_neg (by omega), if_neg (by omega)]
theorem pp_la_le (v : Nat) : pp_la v ≤ 2 := by
  unfold pp_la
  split
  · decide
  · split <;> decide
/-- what the table says of the part with number p -/
theorem rs_TB.row {T : List (List Nat)} {S : rs_St} {p : Nat} {L : List Nat} (h : rs_TB T S) (hp : T[p]? = some L) : p < 48 ∧ S 9 p = nI (pp_ct L) ∧ ((p = 0 ∧ L = [0]) ∨ (p ≠ 0 ∧ L.headD 0 ≠ 0 ∧ S 6 p = nI (pp_du (L.headD 0)) ∧ S 7 p = nI (pp_la (L.headD 0)) ∧ ∀ k, k < pp_la (L.headD 0) → ∃ f, f < 48 ∧ S 8 (2 * p + k) = nI f ∧ T[f]? = some (pp_ch k L))) := by
  obtain ⟨h1, -, h3, h4, -, h6, h7⟩ := h
  have hlt : ∀ {q : Nat} {M : List Nat}, T[q]? = some M → q < T.length := fun hq => (List.getElem?_eq_some_iff.mp hq).1
  have hp1 := hlt hp
  refine ⟨by omega, ?_, ?_⟩
  · by_cases h0 : p = 0
    · rw [h0] at hp ⊢
      rw [h3] at hp
      rw [h4, ← Option.some.inj hp]
      rfl
    · obtain ⟨d, k, f, s, M, N, -, -, -, -, -, -, -, -, -, e⟩ := h7 p (by omega) hp1
      rw [e, List.getD_eq_getElem?_getD, hp]
      rfl
  · by_cases h0 : p = 0
    · left
      rw [h0, h3] at hp
      exact ⟨h0, (Option.some.inj hp).symm⟩
    · right
      obtain ⟨d, k, f, s, M, N, d1, d2, e6, e7, e8, e9, eM, eN, e, -⟩ := h7 p (by omega) hp1
      have lM := h6 M (List.mem_of_getElem? eM)
      have lN := h6 N (List.mem_of_getElem? eN)
      have f1 := hlt eM
      have s1 := hlt eN
      rcases e with ⟨rfl, rfl, e⟩ | ⟨rfl, e⟩
      · rw [hp] at e
        have e := Option.some.inj e
        subst e
        rw [List.headD_cons, pp_du_le d2, pp_la_1 d1 d2]
        refine ⟨h0, by omega, e6, e7, fun k hk => ?_⟩
        have : k = 0 := by omega
        subst this
        exact ⟨f, by omega, e8, by rw [pp_ch_1 lM]; exact eM⟩
      · rw [hp] at e
        have e := Option.some.inj e
        subst e
        rw [List.headD_cons, pp_du_8 d1, pp_la_8 d1]
        refine ⟨h0, by omega, e6, e7, fun k hk => ?_⟩
        have hk2 : k = 0 ∨ k = 1 := by omega
        rcases hk2 with rfl | rfl
        · exact ⟨f, by omega, e8, by rw [(pp_ch_2 lM lN).1]; exact eM⟩
        · exact ⟨s, by omega, e9, by rw [(pp_ch_2 lM lN).2]; exact eN⟩
theorem rs_IX.runT {ts g : List Nat} {n : Nat} {S : rs_St} (h : rs_IX ts (some (g, n)) S) : pp_one g ∧ ∃ T, rs_TB T S ∧ ∀ x, x < 4 → ∃ p, T[p]? = some (pp_q1 x g) ∧ S 11 x = nI p ∧ pp_p1 x g = some (pp_q1 x g) := by
  obtain ⟨-, w, -, -, -, -, h7⟩ := h
  obtain ⟨w1, w2, w3⟩ := w g n rfl
  refine ⟨w1, ?_⟩
  rcases h7 with ⟨-, e⟩ | ⟨-, -, T, t1, -, t3⟩
  · cases e
  · refine ⟨T, t1, fun x hx => ?_⟩
    obtain ⟨L, hL⟩ := w3 x hx
    have h1 := t3 g n rfl x hx
    have hq : pp_q1 x g = L := by unfold pp_q1; rw [hL]; rfl
    rw [hL] at h1
    obtain ⟨p, p1, p2⟩ := h1
    exact ⟨p, by rw [hq]; exact p1, p2, by rw [hq]; exact hL⟩
/-- both sides of 'possible' -/
theorem rs_pp_iff {g : List Nat} (hg : pp_one g) {i j k : Nat} (hi : i < 4) (hj : j < 4) (hk : k < 2 ^ 31) (hA : pp_p1 i g = some (pp_q1 i g)) (hB : pp_p1 j g = some (pp_q1 j g)) : rs_pp g (nI i) (nI j) (nI k) ↔ pp_hc i j k (pp_q1 i g) (pp_q1 j g) := by
  have e1 : (nI i).toNatClampNeg = i := nI_clamp (by omega)
  have e2 : (nI j).toNatClampNeg = j := nI_clamp (by omega)
  have e3 : (nI k).toNatClampNeg = k := nI_clamp hk
  unfold rs_pp rs_ro
  rw [e1, e2, e3]
  constructor
  · rintro ⟨-, -, h3, -, h5, h6⟩
    have hij : i ≠ j := fun e => h3 (by rw [e])
    exact (pp_possible hi hj hij hg.1 hg.2.1 hg.2.2 hA hB).mp h6
  · intro h
    have hij : i ≠ j := by
      intro e
      subst e
      have h1 := h.1
      have h2 := h.2.1
      omega
    have := pp_la_le ((pp_q1 i g).headD 0)
    have h3 := h.2.2.1
    exact ⟨⟨rfl, hi⟩, ⟨rfl, hj⟩, fun e => hij ((nI_eq (by omega) (by omega)).mp e), rfl, by omega, (pp_possible hi hj hij hg.1 hg.2.1 hg.2.2 hA hB).mpr h⟩
theorem rs_bz_iff {p : Prop} [Decidable p] {v : Int32} (h1 : v = nI 1 → p) (h0 : v = nI 0 → ¬ p) (hv : v = nI 0 ∨ v = nI 1) : v = rs_bz p := by
  rcases hv with e | e
  · rw [rs_bz_f (h0 e)]; exact e
  · rw [rs_bz_t (h1 e)]; exact e
section XR
variable (l : Launch) (D : va_G) (dB dI : ClassId) (a : Nat → Nat)
set_option maxHeartbeats 4000000 in
theorem ct_X0_over {ts : List Nat} {run : rs_Rn} {S : rs_St} (h : rs_IX ts run S) : rs_CT (rs_GX l D dB dI a) yX0_over cX0_over 2 (some .boolean) rm_X0_over [.ref (a 0)] S (fun r S' => r = rs_aO run ∧ S' = S) := by
  refine rs_ofz (own := RX0) (by decide) rfl (Nat.le_of_ble_eq_true rfl) rfl rfl ?_
  intro E F K Rr
  refine rj_aload_n (pc := 0) F dX0_over_0 rfl ?_
  refine rx_g10 (pc := 1) F K q36 dX0_over_1 ?_
  cases run with
  | none =>
    refine rj_top h.run0 ?_
    refine rj_if_ne (pc := 4) (tgt := 9) F dX0_over_4 (by decide) (fun c4 => ?_) (fun c4 => ?_)
    · exact absurd nI_0 c4
    · refine rj_iconst (pc := 7) (v := nI 0) F dX0_over_7 (by decide) ?_
      exact Rr 8 _ _ _ dX0_over_8 (by decide) ⟨rfl, rfl⟩
  | some q =>
    obtain ⟨g, n⟩ := q
    refine rj_top h.run1.1 ?_
    obtain ⟨hg, T, hT, hrow⟩ := h.runT
    refine rj_if_ne (pc := 4) (tgt := 9) F dX0_over_4 (by decide) (fun c4 => ?_) (fun c4 => ?_)
    · have loop : ∀ (m k : Nat), k ≤ 4 → 5 ≤ k + m → (∀ x, x < k → (pp_q1 x g).headD 0 = 0) → rs_J (rs_GX l D dB dI a) E 11 [(1, .int (nI k)), (0, .ref (a 0))] [] S := by
        intro m
        induction m with
        | zero => intro k q1 q2; omega
        | succ m ih =>
          intro k q1 q2 q3
          refine rj_iload_n (pc := 11) F dX0_over_11 rfl ?_
          refine rj_iconst (pc := 12) (v := nI 4) F dX0_over_12 (by decide) ?_
          refine rj_icmp_ge (pc := 13) (tgt := 33) F dX0_over_13 (by decide) (fun c13 => ?_) (fun c13 => ?_)
          · rw [nI_leI (by omega) (by omega)] at c13
            refine rj_iconst (pc := 33) (v := nI 1) F dX0_over_33 (by decide) ?_
            exact Rr 34 _ _ _ dX0_over_34 (by decide) ⟨(rs_bz_t ⟨q3 0 (by omega), q3 1 (by omega), q3 2 (by omega), q3 3 (by omega)⟩).symm, rfl⟩
          · rw [nI_leI (by omega) (by omega)] at c13
            obtain ⟨p, p1, p2, -⟩ := hrow k (by omega)
            obtain ⟨r1, -, r3⟩ := hT.row p1
            refine rj_aload_n (pc := 16) F dX0_over_16 rfl ?_
            refine rx_g11 (pc := 17) F K q37 dX0_over_17 ?_
            refine rj_iload_n (pc := 20) F dX0_over_20 rfl ?_
            refine rx_l11 (pc := 21) F K dX0_over_21 rfl (by omega) ?_
            refine rj_top p2 ?_
            refine rj_if_eq (pc := 22) (tgt := 27) F dX0_over_22 (by decide) (fun c22 => ?_) (fun c22 => ?_)
            · rw [← nI_0, nI_eq (by omega) (by omega)] at c22
              have hz : (pp_q1 k g).headD 0 = 0 := by
                rcases r3 with r3 | r3
                · rw [r3.2]; rfl
                · exact absurd c22 r3.1
              refine rj_iinc (pc := 27) F dX0_over_27 rfl (by decide) (rs_inc k) ?_
              refine rj_goto (pc := 30) (tgt := 11) F dX0_over_30 (by decide) ?_
              exact rj_to2 (ih (k + 1) (by omega) (by omega) (fun x hx => by
                by_cases e : x = k
                · rw [e]; exact hz
                · exact q3 x (by omega))) rfl rfl
            · have hz : (pp_q1 k g).headD 0 ≠ 0 := by
                rcases r3 with r3 | r3
                · exact absurd (by rw [r3.1]; exact nI_0) c22
                · exact r3.2.1
              refine rj_iconst (pc := 25) (v := nI 0) F dX0_over_25 (by decide) ?_
              exact Rr 26 _ _ _ dX0_over_26 (by decide) ⟨(rs_bz_f (fun q => hz (by
                have hk : k = 0 ∨ k = 1 ∨ k = 2 ∨ k = 3 := by omega
                rcases hk with rfl | rfl | rfl | rfl
                · exact q.1
                · exact q.2.1
                · exact q.2.2.1
                · exact q.2.2.2))).symm, rfl⟩
      refine rj_iconst (pc := 9) (v := nI 0) F dX0_over_9 (by decide) ?_
      refine rj_istore_n (pc := 10) F dX0_over_10 (by decide) ?_
      exact rj_to2 (loop 5 0 (by omega) (by omega) (fun x hx => absurd hx (by omega))) rfl rfl
    · exact absurd c4 (by decide)
set_option maxHeartbeats 4000000 in
theorem ct_X0_duty {ts : List Nat} {run : rs_Rn} {S : rs_St} (x : Int32) (h : rs_IX ts run S) : rs_CT (rs_GX l D dB dI a) yX0_duty cX0_duty 2 (some .int) rm_X0_duty [.ref (a 0), .int x] S (fun r S' => r = rs_aD run x ∧ S' = S) := by
  refine rs_ofi (own := RX0) (by decide) rfl (Nat.le_of_ble_eq_true rfl) rfl rfl ?_
  intro E F K Rr
  refine rj_aload_n (pc := 0) F dX0_duty_0 rfl ?_
  refine rx_g10 (pc := 1) F K q36 dX0_duty_1 ?_
  cases run with
  | none =>
    refine rj_top h.run0 ?_
    refine rj_if_eq (pc := 4) (tgt := 14) F dX0_duty_4 (by decide) (fun c4 => ?_) (fun c4 => ?_)
    · refine rj_iconst (pc := 14) (v := (-1)) F dX0_duty_14 (by decide) ?_
      exact Rr 15 _ _ _ dX0_duty_15 ⟨rfl, rfl⟩
    · exact absurd nI_0 c4
  | some q =>
    obtain ⟨g, n⟩ := q
    refine rj_top h.run1.1 ?_
    obtain ⟨hg, T, hT, hrow⟩ := h.runT
    refine rj_if_eq (pc := 4) (tgt := 14) F dX0_duty_4 (by decide) (fun c4 => ?_) (fun c4 => ?_)
    · exact absurd c4 (by decide)
    · refine rj_iload_n (pc := 7) F dX0_duty_7 rfl ?_
      refine rj_callps1 (pc := 8) F (ct_X0_isRole l x) (lw_S q99 q100 q16 q101) (by decide +kernel) ⟨rfl, rfl⟩ ⟨Nat.le_of_ble_eq_true rfl, Nat.le_of_ble_eq_true rfl⟩ (Nat.le_of_ble_eq_true rfl) dX0_duty_8 ?_
      refine rj_if_ne (pc := 11) (tgt := 16) F dX0_duty_11 (by decide) (fun c11 => ?_) (fun c11 => ?_)
      · have hro := rs_bz_ne c11
        have e : rs_aD (some (g, n)) x = nI (pp_du ((pp_q1 x.toNatClampNeg g).headD 0)) := by show (if rs_ro x then _ else _) = _; rw [if_pos hro]
        obtain ⟨j, hj, rfl⟩ := rs_ro_to hro
        rw [nI_clamp (by omega)] at e
        obtain ⟨p, p1, p2, -⟩ := hrow j hj
        obtain ⟨r1, -, r3⟩ := hT.row p1
        refine rj_aload_n (pc := 16) F dX0_duty_16 rfl ?_
        refine rx_g11 (pc := 17) F K q37 dX0_duty_17 ?_
        refine rj_iload_n (pc := 20) F dX0_duty_20 rfl ?_
        refine rx_l11 (pc := 21) F K dX0_duty_21 rfl hj ?_
        refine rj_top p2 ?_
        refine rj_if_ne (pc := 22) (tgt := 29) F dX0_duty_22 (by decide) (fun c22 => ?_) (fun c22 => ?_)
        · rcases r3 with r3 | r3
          · exact absurd (by rw [r3.1]; exact nI_0) c22
          · refine rj_aload_n (pc := 29) F dX0_duty_29 rfl ?_
            refine rx_g6 (pc := 30) F K q32 dX0_duty_30 ?_
            refine rj_aload_n (pc := 33) F dX0_duty_33 rfl ?_
            refine rx_g11 (pc := 34) F K q37 dX0_duty_34 ?_
            refine rj_iload_n (pc := 37) F dX0_duty_37 rfl ?_
            refine rx_l11 (pc := 38) F K dX0_duty_38 rfl hj ?_
            refine rj_top p2 ?_
            refine rx_l6 (pc := 39) F K dX0_duty_39 rfl r1 ?_
            refine rj_top r3.2.2.1 ?_
            exact Rr 40 _ _ _ dX0_duty_40 ⟨e.symm, rfl⟩
        · rcases r3 with r3 | r3
          · refine rj_iconst (pc := 25) (v := nI 0) F dX0_duty_25 (by decide) ?_
            refine rj_goto (pc := 26) (tgt := 40) F dX0_duty_26 (by decide) ?_
            exact Rr 40 _ _ _ dX0_duty_40 ⟨by rw [e, r3.2]; rfl, rfl⟩
          · rw [← nI_0, nI_eq (by omega) (by omega)] at c22
            exact absurd c22 r3.1
      · have hro := rs_bz_eq c11
        refine rj_iconst (pc := 14) (v := (-1)) F dX0_duty_14 (by decide) ?_
        exact Rr 15 _ _ _ dX0_duty_15 ⟨by show _ = (if rs_ro x then _ else _); rw [if_neg hro], rfl⟩
set_option maxHeartbeats 4000000 in
theorem ct_X0_labels {ts : List Nat} {run : rs_Rn} {S : rs_St} (x : Int32) (h : rs_IX ts run S) : rs_CT (rs_GX l D dB dI a) yX0_labels cX0_labels 2 (some .int) rm_X0_labels [.ref (a 0), .int x] S (fun r S' => r = rs_aL run x ∧ S' = S) := by
  refine rs_ofi (own := RX0) (by decide) rfl (Nat.le_of_ble_eq_true rfl) rfl rfl ?_
  intro E F K Rr
  refine rj_aload_n (pc := 0) F dX0_labels_0 rfl ?_
  refine rx_g10 (pc := 1) F K q36 dX0_labels_1 ?_
  cases run with
  | none =>
    refine rj_top h.run0 ?_
    refine rj_if_eq (pc := 4) (tgt := 14) F dX0_labels_4 (by decide) (fun c4 => ?_) (fun c4 => ?_)
    · refine rj_iconst (pc := 14) (v := (-1)) F dX0_labels_14 (by decide) ?_
      exact Rr 15 _ _ _ dX0_labels_15 ⟨rfl, rfl⟩
    · exact absurd nI_0 c4
  | some q =>
    obtain ⟨g, n⟩ := q
    refine rj_top h.run1.1 ?_
    obtain ⟨hg, T, hT, hrow⟩ := h.runT
    refine rj_if_eq (pc := 4) (tgt := 14) F dX0_labels_4 (by decide) (fun c4 => ?_) (fun c4 => ?_)
    · exact absurd c4 (by decide)
    · refine rj_iload_n (pc := 7) F dX0_labels_7 rfl ?_
      refine rj_callps1 (pc := 8) F (ct_X0_isRole l x) (lw_S q99 q100 q16 q101) (by decide +kernel) ⟨rfl, rfl⟩ ⟨Nat.le_of_ble_eq_true rfl, Nat.le_of_ble_eq_true rfl⟩ (Nat.le_of_ble_eq_true rfl) dX0_labels_8 ?_
      refine rj_if_ne (pc := 11) (tgt := 16) F dX0_labels_11 (by decide) (fun c11 => ?_) (fun c11 => ?_)
      · have hro := rs_bz_ne c11
        have e : rs_aL (some (g, n)) x = nI (pp_la ((pp_q1 x.toNatClampNeg g).headD 0)) := by show (if rs_ro x then _ else _) = _; rw [if_pos hro]
        obtain ⟨j, hj, rfl⟩ := rs_ro_to hro
        rw [nI_clamp (by omega)] at e
        obtain ⟨p, p1, p2, -⟩ := hrow j hj
        obtain ⟨r1, -, r3⟩ := hT.row p1
        refine rj_aload_n (pc := 16) F dX0_labels_16 rfl ?_
        refine rx_g11 (pc := 17) F K q37 dX0_labels_17 ?_
        refine rj_iload_n (pc := 20) F dX0_labels_20 rfl ?_
        refine rx_l11 (pc := 21) F K dX0_labels_21 rfl hj ?_
        refine rj_top p2 ?_
        refine rj_if_ne (pc := 22) (tgt := 29) F dX0_labels_22 (by decide) (fun c22 => ?_) (fun c22 => ?_)
        · rcases r3 with r3 | r3
          · exact absurd (by rw [r3.1]; exact nI_0) c22
          · refine rj_aload_n (pc := 29) F dX0_labels_29 rfl ?_
            refine rx_g7 (pc := 30) F K q33 dX0_labels_30 ?_
            refine rj_aload_n (pc := 33) F dX0_labels_33 rfl ?_
            refine rx_g11 (pc := 34) F K q37 dX0_labels_34 ?_
            refine rj_iload_n (pc := 37) F dX0_labels_37 rfl ?_
            refine rx_l11 (pc := 38) F K dX0_labels_38 rfl hj ?_
            refine rj_top p2 ?_
            refine rx_l7 (pc := 39) F K dX0_labels_39 rfl r1 ?_
            refine rj_top r3.2.2.2.1 ?_
            exact Rr 40 _ _ _ dX0_labels_40 ⟨e.symm, rfl⟩
        · rcases r3 with r3 | r3
          · refine rj_iconst (pc := 25) (v := nI 0) F dX0_labels_25 (by decide) ?_
            refine rj_goto (pc := 26) (tgt := 40) F dX0_labels_26 (by decide) ?_
            exact Rr 40 _ _ _ dX0_labels_40 ⟨by rw [e, r3.2]; rfl, rfl⟩
          · rw [← nI_0, nI_eq (by omega) (by omega)] at c22
            exact absurd c22 r3.1
      · have hro := rs_bz_eq c11
        refine rj_iconst (pc := 14) (v := (-1)) F dX0_labels_14 (by decide) ?_
        exact Rr 15 _ _ _ dX0_labels_15 ⟨by show _ = (if rs_ro x then _ else _); rw [if_neg hro], rfl⟩
set_option maxHeartbeats 4000000 in
theorem ct_X0_rest {ts : List Nat} {run : rs_Rn} {S : rs_St} (x : Int32) (h : rs_IX ts run S) : rs_CT (rs_GX l D dB dI a) yX0_rest cX0_rest 2 (some .int) rm_X0_rest [.ref (a 0), .int x] S (fun r S' => r = rs_aE run x ∧ S' = S) := by
  refine rs_ofi (own := RX0) (by decide) rfl (Nat.le_of_ble_eq_true rfl) rfl rfl ?_
  intro E F K Rr
  refine rj_aload_n (pc := 0) F dX0_rest_0 rfl ?_
  refine rx_g10 (pc := 1) F K q36 dX0_rest_1 ?_
  cases run with
  | none =>
    refine rj_top h.run0 ?_
    refine rj_if_eq (pc := 4) (tgt := 28) F dX0_rest_4 (by decide) (fun c4 => ?_) (fun c4 => ?_)
    · refine rj_iconst (pc := 28) (v := (-1)) F dX0_rest_28 (by decide) ?_
      exact Rr 29 _ _ _ dX0_rest_29 ⟨rfl, rfl⟩
    · exact absurd nI_0 c4
  | some q =>
    obtain ⟨g, n⟩ := q
    refine rj_top h.run1.1 ?_
    obtain ⟨hg, T, hT, hrow⟩ := h.runT
    refine rj_if_eq (pc := 4) (tgt := 28) F dX0_rest_4 (by decide) (fun c4 => ?_) (fun c4 => ?_)
    · exact absurd c4 (by decide)
    · refine rj_iload_n (pc := 7) F dX0_rest_7 rfl ?_
      refine rj_callps1 (pc := 8) F (ct_X0_isRole l x) (lw_S q99 q100 q16 q101) (by decide +kernel) ⟨rfl, rfl⟩ ⟨Nat.le_of_ble_eq_true rfl, Nat.le_of_ble_eq_true rfl⟩ (Nat.le_of_ble_eq_true rfl) dX0_rest_8 ?_
      refine rj_if_eq (pc := 11) (tgt := 28) F dX0_rest_11 (by decide) (fun c11 => ?_) (fun c11 => ?_)
      · have hro := rs_bz_eq c11
        refine rj_iconst (pc := 28) (v := (-1)) F dX0_rest_28 (by decide) ?_
        exact Rr 29 _ _ _ dX0_rest_29 ⟨by show _ = (if rs_ro x then _ else _); rw [if_neg hro], rfl⟩
      · have hro := rs_bz_ne c11
        have e : rs_aE (some (g, n)) x = nI (pp_ct (pp_q1 x.toNatClampNeg g)) := by show (if rs_ro x then _ else _) = _; rw [if_pos hro]
        obtain ⟨j, hj, rfl⟩ := rs_ro_to hro
        rw [nI_clamp (by omega)] at e
        obtain ⟨p, p1, p2, -⟩ := hrow j hj
        obtain ⟨r1, r2, -⟩ := hT.row p1
        refine rj_aload_n (pc := 14) F dX0_rest_14 rfl ?_
        refine rx_g9 (pc := 15) F K q35 dX0_rest_15 ?_
        refine rj_aload_n (pc := 18) F dX0_rest_18 rfl ?_
        refine rx_g11 (pc := 19) F K q37 dX0_rest_19 ?_
        refine rj_iload_n (pc := 22) F dX0_rest_22 rfl ?_
        refine rx_l11 (pc := 23) F K dX0_rest_23 rfl hj ?_
        refine rj_top p2 ?_
        refine rx_l9 (pc := 24) F K dX0_rest_24 rfl r1 ?_
        refine rj_top r2 ?_
        refine rj_goto (pc := 25) (tgt := 29) F dX0_rest_25 (by decide) ?_
        exact Rr 29 _ _ _ dX0_rest_29 ⟨e.symm, rfl⟩
set_option maxHeartbeats 8000000 in
theorem ct_X0_possible {ts : List Nat} {run : rs_Rn} {S : rs_St} (x y z : Int32) (h : rs_IX ts run S) : rs_CT (rs_GX l D dB dI a) yX0_possible cX0_possible 7 (some .boolean) rm_X0_possible [.ref (a 0), .int x, .int y, .int z] S (fun r S' => r = rs_aP run x y z ∧ S' = S) := by
  refine rs_ofz (own := RX0) (by decide) rfl (Nat.le_of_ble_eq_true rfl) rfl rfl ?_
  intro E F K Rr
  refine rj_aload_n (pc := 0) F dX0_possible_0 rfl ?_
  refine rx_g10 (pc := 1) F K q36 dX0_possible_1 ?_
  cases run with
  | none =>
    refine rj_top h.run0 ?_
    refine rj_if_eq (pc := 4) (tgt := 25) F dX0_possible_4 (by decide) (fun c4 => ?_) (fun c4 => ?_)
    · refine rj_iconst (pc := 25) (v := nI 0) F dX0_possible_25 (by decide) ?_
      exact Rr 26 _ _ _ dX0_possible_26 (by decide) ⟨rfl, rfl⟩
    · exact absurd nI_0 c4
  | some q =>
    obtain ⟨g, n⟩ := q
    refine rj_top h.run1.1 ?_
    obtain ⟨hg, T, hT, hrow⟩ := h.runT
    refine rj_if_eq (pc := 4) (tgt := 25) F dX0_possible_4 (by decide) (fun c4 => ?_) (fun c4 => ?_)
    · exact absurd c4 (by decide)
    · refine rj_iload_n (pc := 7) F dX0_possible_7 rfl ?_
      refine rj_callps1 (pc := 8) F (ct_X0_isRole l x) (lw_S q99 q100 q16 q101) (by decide +kernel) ⟨rfl, rfl⟩ ⟨Nat.le_of_ble_eq_true rfl, Nat.le_of_ble_eq_true rfl⟩ (Nat.le_of_ble_eq_true rfl) dX0_possible_8 ?_
      refine rj_if_eq (pc := 11) (tgt := 25) F dX0_possible_11 (by decide) (fun c11 => ?_) (fun c11 => ?_)
      · have hro := rs_bz_eq c11
        refine rj_iconst (pc := 25) (v := nI 0) F dX0_possible_25 (by decide) ?_
        exact Rr 26 _ _ _ dX0_possible_26 (by decide) ⟨(rs_bz_f (fun q => hro q.1)).symm, rfl⟩
      · have hro := rs_bz_ne c11
        refine rj_iload_n (pc := 14) F dX0_possible_14 rfl ?_
        refine rj_callps1 (pc := 15) F (ct_X0_isRole l y) (lw_S q99 q100 q16 q101) (by decide +kernel) ⟨rfl, rfl⟩ ⟨Nat.le_of_ble_eq_true rfl, Nat.le_of_ble_eq_true rfl⟩ (Nat.le_of_ble_eq_true rfl) dX0_possible_15 ?_
        refine rj_if_eq (pc := 18) (tgt := 25) F dX0_possible_18 (by decide) (fun c18 => ?_) (fun c18 => ?_)
        · have hro2 := rs_bz_eq c18
          refine rj_iconst (pc := 25) (v := nI 0) F dX0_possible_25 (by decide) ?_
          exact Rr 26 _ _ _ dX0_possible_26 (by decide) ⟨(rs_bz_f (fun q => hro2 q.2.1)).symm, rfl⟩
        · have hro2 := rs_bz_ne c18
          refine rj_iload_n (pc := 21) F dX0_possible_21 rfl ?_
          refine rj_if_ge (pc := 22) (tgt := 27) F dX0_possible_22 (by decide) (fun c22 => ?_) (fun c22 => ?_)
          · obtain ⟨i, hi, rfl⟩ := rs_ro_to hro
            obtain ⟨j, hj, rfl⟩ := rs_ro_to hro2
            obtain ⟨k, hk, rfl⟩ := rs_nn (x := z) (fun q => by
              rw [Int32.lt_iff_toInt_lt] at q
              rw [Int32.le_iff_toInt_le] at c22
              omega)
            obtain ⟨p, p1, p2, p3⟩ := hrow i hi
            obtain ⟨q, q1, q2, q3⟩ := hrow j hj
            have hpp : rs_aP (some (g, n)) (nI i) (nI j) (nI k) = rs_bz (pp_hc i j k (pp_q1 i g) (pp_q1 j g)) := rs_bz_c (rs_pp_iff hg hi hj hk p3 q3)
            rw [hpp] at Rr
            obtain ⟨r1, -, r3⟩ := hT.row p1
            obtain ⟨s1, -, s3⟩ := hT.row q1
            generalize pp_q1 i g = A at p1 r3 Rr
            generalize pp_q1 j g = B at q1 s3 Rr
            have lA := pp_la_le (A.headD 0)
            have lB := pp_la_le (B.headD 0)
            have dA : p ≠ 0 → pp_du (A.headD 0) < 2 ^ 31 := by
              intro _
              obtain ⟨-, -, -, -, -, h6, -⟩ := hT
              have h7 := (h6 A (List.mem_of_getElem? p1)).2.2
              cases A with
              | nil => decide
              | cons v A =>
                have := h7 v List.mem_cons_self
                rw [List.headD_cons]
                unfold pp_du
                split <;> omega
            have dB' : q ≠ 0 → pp_du (B.headD 0) < 2 ^ 31 := by
              intro _
              obtain ⟨-, -, -, -, -, h6, -⟩ := hT
              have h7 := (h6 B (List.mem_of_getElem? q1)).2.2
              cases B with
              | nil => decide
              | cons v B =>
                have := h7 v List.mem_cons_self
                rw [List.headD_cons]
                unfold pp_du
                split <;> omega
            have K84 : ∀ v : Int32, (v = nI 0 ∧ ¬ (pp_du (A.headD 0) = 1 + j ∧ pp_du (B.headD 0) = 5 + i)) ∨ (v = nI 1 ∧ p ≠ 0 ∧ q ≠ 0 ∧ pp_du (A.headD 0) = 1 + j ∧ pp_du (B.headD 0) = 5 + i) → rs_J (rs_GX l D dB dI a) E 84 [(5, .int (nI q)), (4, .int (nI p)), (3, .int (nI k)), (2, .int (nI j)), (1, .int (nI i)), (0, .ref (a 0))] [.int v] S := by
              intro v hv
              refine rj_istore (pc := 84) F dX0_possible_84 (by decide) ?_
              refine rj_iload (pc := 86) F dX0_possible_86 rfl ?_
              refine rj_if_eq (pc := 88) (tgt := 117) F dX0_possible_88 (by decide) (fun c88 => ?_) (fun c88 => ?_)
              · refine rj_iconst (pc := 117) (v := nI 0) F dX0_possible_117 (by decide) ?_
                rcases hv with hv | hv
                · exact Rr 118 _ _ _ dX0_possible_118 (by decide) ⟨(rs_bz_f (fun w => hv.2 ⟨w.1, w.2.1⟩)).symm, rfl⟩
                · rw [hv.1] at c88
                  exact absurd c88 (by decide)
              · rcases hv with hv | hv
                · exact absurd (by rw [hv.1]; exact nI_0) c88
                · obtain ⟨-, n1, n2, d1, d2⟩ := hv
                  rcases r3 with r3 | r3
                  · exact absurd r3.1 n1
                  rcases s3 with s3 | s3
                  · exact absurd s3.1 n2
                  refine rj_iload_n (pc := 91) F dX0_possible_91 rfl ?_
                  refine rj_aload_n (pc := 92) F dX0_possible_92 rfl ?_
                  refine rx_g7 (pc := 93) F K q33 dX0_possible_93 ?_
                  refine rj_iload (pc := 96) F dX0_possible_96 rfl ?_
                  refine rx_l7 (pc := 98) F K dX0_possible_98 rfl r1 ?_
                  refine rj_top r3.2.2.2.1 ?_
                  refine rj_icmp_ge (pc := 99) (tgt := 117) F dX0_possible_99 (by decide) (fun c99 => ?_) (fun c99 => ?_)
                  · rw [nI_leI (by omega) hk] at c99
                    refine rj_iconst (pc := 117) (v := nI 0) F dX0_possible_117 (by decide) ?_
                    exact Rr 118 _ _ _ dX0_possible_118 (by decide) ⟨(rs_bz_f (fun w => absurd w.2.2.1 (by omega))).symm, rfl⟩
                  · rw [nI_leI (by omega) hk] at c99
                    refine rj_iload_n (pc := 102) F dX0_possible_102 rfl ?_
                    refine rj_aload_n (pc := 103) F dX0_possible_103 rfl ?_
                    refine rx_g7 (pc := 104) F K q33 dX0_possible_104 ?_
                    refine rj_iload (pc := 107) F dX0_possible_107 rfl ?_
                    refine rx_l7 (pc := 109) F K dX0_possible_109 rfl s1 ?_
                    refine rj_top s3.2.2.2.1 ?_
                    refine rj_icmp_ge (pc := 110) (tgt := 117) F dX0_possible_110 (by decide) (fun c110 => ?_) (fun c110 => ?_)
                    · rw [nI_leI (by omega) hk] at c110
                      refine rj_iconst (pc := 117) (v := nI 0) F dX0_possible_117 (by decide) ?_
                      exact Rr 118 _ _ _ dX0_possible_118 (by decide) ⟨(rs_bz_f (fun w => absurd w.2.2.2 (by omega))).symm, rfl⟩
                    · rw [nI_leI (by omega) hk] at c110
                      refine rj_iconst (pc := 113) (v := nI 1) F dX0_possible_113 (by decide) ?_
                      refine rj_goto (pc := 114) (tgt := 118) F dX0_possible_114 (by decide) ?_
                      exact Rr 118 _ _ _ dX0_possible_118 (by decide) ⟨(rs_bz_t ⟨d1, d2, by omega, by omega⟩).symm, rfl⟩
            refine rj_aload_n (pc := 27) F dX0_possible_27 rfl ?_
            refine rx_g11 (pc := 28) F K q37 dX0_possible_28 ?_
            refine rj_iload_n (pc := 31) F dX0_possible_31 rfl ?_
            refine rx_l11 (pc := 32) F K dX0_possible_32 rfl hi ?_
            refine rj_top p2 ?_
            refine rj_istore (pc := 33) F dX0_possible_33 (by decide) ?_
            refine rj_aload_n (pc := 35) F dX0_possible_35 rfl ?_
            refine rx_g11 (pc := 36) F K q37 dX0_possible_36 ?_
            refine rj_iload_n (pc := 39) F dX0_possible_39 rfl ?_
            refine rx_l11 (pc := 40) F K dX0_possible_40 rfl hj ?_
            refine rj_top q2 ?_
            refine rj_istore (pc := 41) F dX0_possible_41 (by decide) ?_
            refine rj_iload (pc := 43) F dX0_possible_43 rfl ?_
            refine rj_if_eq (pc := 45) (tgt := 83) F dX0_possible_45 (by decide) (fun c45 => ?_) (fun c45 => ?_)
            · refine rj_iconst (pc := 83) (v := nI 0) F dX0_possible_83 (by decide) ?_
              refine rj_to6 (K84 (nI 0) (Or.inl ⟨rfl, fun w => ?_⟩)) rfl rfl rfl rfl rfl rfl
              rcases r3 with r3 | r3
              · rw [r3.2] at w
                have := w.1
                have : pp_du (List.headD [0] 0) = 0 := rfl
                omega
              · rw [← nI_0, nI_eq (by omega) (by omega)] at c45
                exact r3.1 c45
            · rcases r3 with r3 | r3
              · exact absurd (by rw [r3.1]; exact nI_0) c45
              refine rj_aload_n (pc := 48) F dX0_possible_48 rfl ?_
              refine rx_g6 (pc := 49) F K q32 dX0_possible_49 ?_
              refine rj_iload (pc := 52) F dX0_possible_52 rfl ?_
              refine rx_l6 (pc := 54) F K dX0_possible_54 rfl r1 ?_
              refine rj_top r3.2.2.1 ?_
              refine rj_iconst (pc := 55) (v := nI 1) F dX0_possible_55 (by decide) ?_
              refine rj_iload_n (pc := 56) F dX0_possible_56 rfl ?_
              refine rj_iaddE (pc := 57) F dX0_possible_57 (nI_add _ _) ?_
              refine rj_icmp_ne (pc := 58) (tgt := 83) F dX0_possible_58 (by decide) (fun c58 => ?_) (fun c58 => ?_)
              · rw [nI_eq (dA r3.1) (by omega)] at c58
                refine rj_iconst (pc := 83) (v := nI 0) F dX0_possible_83 (by decide) ?_
                exact rj_to6 (K84 (nI 0) (Or.inl ⟨rfl, fun w => c58 w.1⟩)) rfl rfl rfl rfl rfl rfl
              · rw [nI_eq (dA r3.1) (by omega)] at c58
                refine rj_iload (pc := 61) F dX0_possible_61 rfl ?_
                refine rj_if_eq (pc := 63) (tgt := 83) F dX0_possible_63 (by decide) (fun c63 => ?_) (fun c63 => ?_)
                · refine rj_iconst (pc := 83) (v := nI 0) F dX0_possible_83 (by decide) ?_
                  refine rj_to6 (K84 (nI 0) (Or.inl ⟨rfl, fun w => ?_⟩)) rfl rfl rfl rfl rfl rfl
                  rcases s3 with s3 | s3
                  · rw [s3.2] at w
                    have := w.2
                    have : pp_du (List.headD [0] 0) = 0 := rfl
                    omega
                  · rw [← nI_0, nI_eq (by omega) (by omega)] at c63
                    exact s3.1 c63
                · rcases s3 with s3 | s3
                  · exact absurd (by rw [s3.1]; exact nI_0) c63
                  refine rj_aload_n (pc := 66) F dX0_possible_66 rfl ?_
                  refine rx_g6 (pc := 67) F K q32 dX0_possible_67 ?_
                  refine rj_iload (pc := 70) F dX0_possible_70 rfl ?_
                  refine rx_l6 (pc := 72) F K dX0_possible_72 rfl s1 ?_
                  refine rj_top s3.2.2.1 ?_
                  refine rj_iconst (pc := 73) (v := nI 5) F dX0_possible_73 (by decide) ?_
                  refine rj_iload_n (pc := 74) F dX0_possible_74 rfl ?_
                  refine rj_iaddE (pc := 75) F dX0_possible_75 (nI_add _ _) ?_
                  refine rj_icmp_ne (pc := 76) (tgt := 83) F dX0_possible_76 (by decide) (fun c76 => ?_) (fun c76 => ?_)
                  · rw [nI_eq (dB' s3.1) (by omega)] at c76
                    refine rj_iconst (pc := 83) (v := nI 0) F dX0_possible_83 (by decide) ?_
                    exact rj_to6 (K84 (nI 0) (Or.inl ⟨rfl, fun w => c76 w.2⟩)) rfl rfl rfl rfl rfl rfl
                  · rw [nI_eq (dB' s3.1) (by omega)] at c76
                    refine rj_iconst (pc := 79) (v := nI 1) F dX0_possible_79 (by decide) ?_
                    refine rj_goto (pc := 80) (tgt := 84) F dX0_possible_80 (by decide) ?_
                    exact rj_to6 (K84 (nI 1) (Or.inr ⟨rfl, r3.1, s3.1, c58, c76⟩)) rfl rfl rfl rfl rfl rfl
          · refine rj_iconst (pc := 25) (v := nI 0) F dX0_possible_25 (by decide) ?_
            exact Rr 26 _ _ _ dX0_possible_26 (by decide) ⟨(rs_bz_f (fun q => c22 (by rw [q.2.2.2.1]; exact nI_pos' (by have := q.2.2.2.2.1; omega)))).symm, rfl⟩
end XR
end
section
/-! RoleSessions: send, choices -/
theorem rs_TB_congr {T : List (List Nat)} {S S' : rs_St} (h : rs_TB T S) (e5 : S' 5 = S 5) (e6 : S' 6 = S 6) (e7 : S' 7 = S 7) (e8 : S' 8 = S 8) (e9 : S' 9 = S 9) : rs_TB T S' := by
  unfold rs_TB rs_TR at h ⊢
  rw [e5, e6, e7, e8, e9]
  exact h
theorem rs_IX_send {ts g : List Nat} {n : Nat} {S : rs_St} {i j k : Nat} (h : rs_IX ts (some (g, n)) S) (hi : i < 4) (hj : j < 4) (hk : k < 2) (hpp : rs_pp g (nI i) (nI j) (nI k)) : i ≠ j ∧ ∃ p q f1 f2, p < 48 ∧ q < 48 ∧ f1 < 48 ∧ f2 < 48 ∧ S 11 i = nI p ∧ S 11 j = nI q ∧ S 8 (2 * p + k) = nI f1 ∧ S 8 (2 * q + k) = nI f2 ∧ rs_IX ts (some (pp_sd i j k g, n + 1)) (rs_sU (rs_sU (rs_sU S 11 i (nI f1)) 11 j (nI f2)) 12 0 (nI (n + 1))) := by
  obtain ⟨h1, h2, h3, h4, h5, h6, h7⟩ := h
  obtain ⟨g1, g2, g3⟩ := h2 g n rfl
  have hij : i ≠ j := fun e => hpp.2.2.1 (by rw [e])
  refine ⟨hij, ?_⟩
  obtain ⟨A, hA⟩ := g3 i hi
  obtain ⟨B, hB⟩ := g3 j hj
  have qA : pp_q1 i g = A := by unfold pp_q1; rw [hA]; rfl
  have qB : pp_q1 j g = B := by unfold pp_q1; rw [hB]; rfl
  have hc := (rs_pp_iff g1 hi hj (by omega) (by rw [qA]; exact hA) (by rw [qB]; exact hB)).mp hpp
  rw [qA, qB] at hc
  rcases h7 with ⟨-, e⟩ | ⟨t0, t00, T, t1, t2, t3⟩
  · cases e
  have r1 := t3 g n rfl i hi
  have r2 := t3 g n rfl j hj
  rw [hA] at r1
  rw [hB] at r2
  obtain ⟨p, p1, p2⟩ := r1
  obtain ⟨q, q1, q2⟩ := r2
  obtain ⟨a1, -, a3⟩ := t1.row p1
  obtain ⟨b1, -, b3⟩ := t1.row q1
  have d0 : pp_du (List.headD [0] 0) = 0 := rfl
  rcases a3 with a3 | a3
  · have := hc.1
    rw [a3.2] at this
    omega
  rcases b3 with b3 | b3
  · have := hc.2.1
    rw [b3.2] at this
    omega
  obtain ⟨f1, u1, u2, u3⟩ := a3.2.2.2.2 k hc.2.2.1
  obtain ⟨f2, v1, v2, v3⟩ := b3.2.2.2.2 k hc.2.2.2
  have hall : (pp_ev pp_ar (pp_ps i j k) g).all id = true := by
    have := hpp.2.2.2.2.2
    rwa [nI_clamp (by omega), nI_clamp (by omega), nI_clamp (by omega)] at this
  have hgo := pp_send g1 hall
  refine ⟨p, q, f1, f2, a1, b1, u1, v1, p2, q2, u2, v2, h1, ?_, h3, h4, h5, ⟨h6.1, rfl⟩, Or.inr ⟨t0, t00, T, rs_TB_congr t1 rfl rfl rfl rfl rfl, t2, ?_⟩⟩
  · intro g' n' e
    cases e
    refine ⟨hgo.1, by have := hgo.2.1; omega, fun x hx => ?_⟩
    obtain ⟨L, hL⟩ := g3 x hx
    by_cases e : x = i ∨ x = j
    · exact ⟨_, (hgo.2.2 x L hL).2 e⟩
    · exact ⟨_, (hgo.2.2 x L hL).1 (fun q => e (Or.inl q)) (fun q => e (Or.inr q))⟩
  · intro g' n' e x hx
    cases e
    show rs_cd T _ (rs_sU (rs_sU S 11 i (nI f1)) 11 j (nI f2) 11 x)
    by_cases ej : x = j
    · subst ej
      rw [rs_sU_s, (hgo.2.2 x B hB).2 (Or.inr rfl)]
      exact ⟨f2, v3, rfl⟩
    · rw [rs_sU_j _ _ _ ej]
      by_cases ei : x = i
      · subst ei
        rw [rs_sU_s, (hgo.2.2 x A hA).2 (Or.inl rfl)]
        exact ⟨f1, u3, rfl⟩
      · rw [rs_sU_j _ _ _ ei]
        obtain ⟨L, hL⟩ := g3 x hx
        have := t3 g n rfl x hx
        rw [hL] at this
        rw [(hgo.2.2 x L hL).1 ei ej]
        exact this
section XS
variable (l : Launch) (D : va_G) (dB dI : ClassId) (a : Nat → Nat)
set_option maxHeartbeats 8000000 in
theorem ct_X0_send {ts : List Nat} {run : rs_Rn} {S : rs_St} (x y z : Int32) (h : rs_IX ts run S) : rs_CT (rs_GX l D dB dI a) yX0_send cX0_send 4 (some .boolean) rm_X0_send [.ref (a 0), .int x, .int y, .int z] S (fun r S' => r = (rs_oN run x y z).1 ∧ rs_IX ts (rs_oN run x y z).2 S') := by
  refine rs_ofz (own := RX0) (by decide) rfl (Nat.le_of_ble_eq_true rfl) rfl rfl ?_
  intro E F K Rr
  refine rj_aload_n (pc := 0) F dX0_send_0 rfl ?_
  refine rj_iload_n (pc := 1) F dX0_send_1 rfl ?_
  refine rj_iload_n (pc := 2) F dX0_send_2 rfl ?_
  refine rj_iload_n (pc := 3) F dX0_send_3 rfl ?_
  refine rj_calli3 (pc := 4) F K rs_rcX (ct_X0_possible l D dB dI a x y z h) (lw_V q146 q139 q140 q16 q141) (by decide +kernel) ⟨rfl, rfl⟩ ⟨Nat.le_of_ble_eq_true rfl, Nat.le_of_ble_eq_true rfl⟩ (Nat.le_of_ble_eq_true rfl) dX0_send_4 (fun r S1 hp => ?_)
  obtain ⟨rfl, rfl⟩ := hp
  cases run with
  | none =>
    refine rj_if_ne (pc := 7) (tgt := 12) F dX0_send_7 (by decide) (fun c7 => ?_) (fun c7 => ?_)
    · exact absurd nI_0 c7
    · refine rj_iconst (pc := 10) (v := nI 0) F dX0_send_10 (by decide) ?_
      exact Rr 11 _ _ _ dX0_send_11 (by decide) ⟨rfl, h⟩
  | some q =>
    obtain ⟨g, n⟩ := q
    refine rj_if_ne (pc := 7) (tgt := 12) F dX0_send_7 (by decide) (fun c7 => ?_) (fun c7 => ?_)
    · have hpp : rs_pp g x y z := rs_bz_ne c7
      have e : rs_oN (some (g, n)) x y z = (nI 1, some (pp_sd x.toNatClampNeg y.toNatClampNeg z.toNatClampNeg g, n + 1)) := by show (if rs_pp g x y z then _ else _) = _; rw [if_pos hpp]
      obtain ⟨i, hi, rfl⟩ := rs_ro_to hpp.1
      obtain ⟨j, hj, rfl⟩ := rs_ro_to hpp.2.1
      obtain ⟨k, hk, rfl⟩ : ∃ k, k < 2 ∧ z = nI k := ⟨_, hpp.2.2.2.2.1, hpp.2.2.2.1⟩
      rw [nI_clamp (by omega), nI_clamp (by omega), nI_clamp (by omega)] at e
      obtain ⟨hij, p, q, f1, f2, b1, b2, b3, b4, e1, e2, e3, e4, hX⟩ := rs_IX_send h hi hj hk hpp
      refine rj_aload_n (pc := 12) F dX0_send_12 rfl ?_
      refine rx_g11 (pc := 13) F K q37 dX0_send_13 ?_
      refine rj_iload_n (pc := 16) F dX0_send_16 rfl ?_
      refine rj_aload_n (pc := 17) F dX0_send_17 rfl ?_
      refine rx_g8 (pc := 18) F K q34 dX0_send_18 ?_
      refine rj_iconst (pc := 21) (v := nI 2) F dX0_send_21 (by decide) ?_
      refine rj_aload_n (pc := 22) F dX0_send_22 rfl ?_
      refine rx_g11 (pc := 23) F K q37 dX0_send_23 ?_
      refine rj_iload_n (pc := 26) F dX0_send_26 rfl ?_
      refine rx_l11 (pc := 27) F K dX0_send_27 rfl hi ?_
      refine rj_top e1 ?_
      refine rj_imulE (pc := 28) F dX0_send_28 (pk_mul _ _) ?_
      refine rj_iload_n (pc := 29) F dX0_send_29 rfl ?_
      refine rj_iaddE (pc := 30) F dX0_send_30 (nI_add _ _) ?_
      refine rx_l8 (pc := 31) F K dX0_send_31 rfl (by omega) ?_
      refine rj_top e3 ?_
      refine rx_s11 (pc := 32) F K dX0_send_32 rfl hi (rs_n8 (by omega)) ?_
      refine rj_aload_n (pc := 33) F dX0_send_33 rfl ?_
      refine rx_g11 (pc := 34) F K q37 dX0_send_34 ?_
      refine rj_iload_n (pc := 37) F dX0_send_37 rfl ?_
      refine rj_aload_n (pc := 38) F dX0_send_38 rfl ?_
      refine rx_g8 (pc := 39) F K q34 dX0_send_39 ?_
      refine rj_iconst (pc := 42) (v := nI 2) F dX0_send_42 (by decide) ?_
      refine rj_aload_n (pc := 43) F dX0_send_43 rfl ?_
      refine rx_g11 (pc := 44) F K q37 dX0_send_44 ?_
      refine rj_iload_n (pc := 47) F dX0_send_47 rfl ?_
      refine rx_l11 (pc := 48) F K dX0_send_48 rfl hj ?_
      refine rj_top (y := nI q) (by rw [rs_sU_j _ _ _ (fun q => hij q.symm)]; exact e2) ?_
      refine rj_imulE (pc := 49) F dX0_send_49 (pk_mul _ _) ?_
      refine rj_iload_n (pc := 50) F dX0_send_50 rfl ?_
      refine rj_iaddE (pc := 51) F dX0_send_51 (nI_add _ _) ?_
      refine rx_l8 (pc := 52) F K dX0_send_52 rfl (by omega) ?_
      refine rj_top (y := nI f2) e4 ?_
      refine rx_s11 (pc := 53) F K dX0_send_53 rfl hj (rs_n8 (by omega)) ?_
      refine rj_aload_n (pc := 54) F dX0_send_54 rfl ?_
      refine rj_dup (pc := 55) F dX0_send_55 rfl ?_
      refine rx_g12 (pc := 56) F K q38 dX0_send_56 ?_
      refine rj_top (y := nI n) h.run1.2 ?_
      refine rj_iconst (pc := 59) (v := nI 1) F dX0_send_59 (by decide) ?_
      refine rj_iaddE (pc := 60) F dX0_send_60 (nI_add _ _) ?_
      refine rx_p12 (pc := 61) F K q38 dX0_send_61 ?_
      refine rj_iconst (pc := 64) (v := nI 1) F dX0_send_64 (by decide) ?_
      exact Rr 65 _ _ _ dX0_send_65 (by decide) (by rw [e]; exact ⟨rfl, hX⟩)
    · have hpp : ¬ rs_pp g x y z := rs_bz_eq c7
      have e : rs_oN (some (g, n)) x y z = (nI 0, some (g, n)) := by show (if rs_pp g x y z then _ else _) = _; rw [if_neg hpp]
      refine rj_iconst (pc := 10) (v := nI 0) F dX0_send_10 (by decide) ?_
      exact Rr 11 _ _ _ dX0_send_11 (by decide) (by rw [e]; exact ⟨rfl, h⟩)
theorem rs_aP_01 (run : rs_Rn) (x y z : Int32) : rs_aP run x y z = nI 0 ∨ rs_aP run x y z = nI 1 := by
  cases run with
  | none => exact Or.inl rfl
  | some q =>
    by_cases hp : rs_pp q.1 x y z
    · exact Or.inr (rs_bz_t hp)
    · exact Or.inl (rs_bz_f hp)
theorem rs_sm_1 {run : rs_Rn} {c : Nat} {x y z : Int32} (hx : x = nI (c / 8)) (hy : y = nI (c / 2 % 4)) (hz : z = nI (c % 2)) (h : ¬ rs_aP run x y z = 0) : rs_sm run (c + 1) = rs_sm run c + 1 := by
  subst hx; subst hy; subst hz
  show rs_sm run c + (if _ then 1 else 0) = _
  rw [if_pos]
  rcases rs_aP_01 run (nI (c / 8)) (nI (c / 2 % 4)) (nI (c % 2)) with e | e
  · exact absurd (by rw [e]; exact nI_0) h
  · exact e
theorem rs_sm_0 {run : rs_Rn} {c : Nat} {x y z : Int32} (hx : x = nI (c / 8)) (hy : y = nI (c / 2 % 4)) (hz : z = nI (c % 2)) (h : rs_aP run x y z = 0) : rs_sm run (c + 1) = rs_sm run c := by
  subst hx; subst hy; subst hz
  show rs_sm run c + (if _ then 1 else 0) = _
  rw [if_neg]
  · rfl
  · rw [h]; decide
set_option maxHeartbeats 8000000 in
theorem ct_X0_choices {ts : List Nat} {run : rs_Rn} {S : rs_St} (h : rs_IX ts run S) : rs_CT (rs_GX l D dB dI a) yX0_choices cX0_choices 4 (some .int) rm_X0_choices [.ref (a 0)] S (fun r S' => r = rs_aH run ∧ S' = S) := by
  refine rs_ofi (own := RX0) (by decide) rfl (Nat.le_of_ble_eq_true rfl) rfl rfl ?_
  intro E F K Rr
  have inner : ∀ (i : Nat), i < 4 → (rs_J (rs_GX l D dB dI a) E 58 [(1, .int (nI (rs_sm run (8 * i + 8)))), (2, .int (nI i)), (0, .ref (a 0))] [] S) → ∀ (m j : Nat), j ≤ 4 → 5 ≤ j + m → rs_J (rs_GX l D dB dI a) E 11 [(3, .int (nI j)), (1, .int (nI (rs_sm run (8 * i + 2 * j)))), (2, .int (nI i)), (0, .ref (a 0))] [] S := by
    intro i hi k58 m
    induction m with
    | zero => intro j q1 q2; omega
    | succ m ih =>
      intro j q1 q2
      refine rj_iload_n (pc := 11) F dX0_choices_11 rfl ?_
      refine rj_iconst (pc := 12) (v := nI 4) F dX0_choices_12 (by decide) ?_
      refine rj_icmp_ge (pc := 13) (tgt := 58) F dX0_choices_13 (by decide) (fun c13 => ?_) (fun c13 => ?_)
      · rw [nI_leI (by omega) (by omega)] at c13
        have : j = 4 := by omega
        subst this
        exact rj_to3 k58 rfl rfl rfl
      · rw [nI_leI (by omega) (by omega)] at c13
        have K34 : rs_J (rs_GX l D dB dI a) E 34 [(1, .int (nI (rs_sm run (8 * i + 2 * j + 1)))), (3, .int (nI j)), (2, .int (nI i)), (0, .ref (a 0))] [] S := by
          refine rj_iload_n (pc := 34) F dX0_choices_34 rfl ?_
          refine rj_aload_n (pc := 35) F dX0_choices_35 rfl ?_
          refine rj_iload_n (pc := 36) F dX0_choices_36 rfl ?_
          refine rj_iload_n (pc := 37) F dX0_choices_37 rfl ?_
          refine rj_iconst (pc := 38) (v := nI 1) F dX0_choices_38 (by decide) ?_
          refine rj_calli3 (pc := 39) F K rs_rcX (ct_X0_possible l D dB dI a (nI i) (nI j) (nI 1) h) (lw_V q146 q139 q140 q16 q141) (by decide +kernel) ⟨rfl, rfl⟩ ⟨Nat.le_of_ble_eq_true rfl, Nat.le_of_ble_eq_true rfl⟩ (Nat.le_of_ble_eq_true rfl) dX0_choices_39 (fun r S1 hp => ?_)
          obtain ⟨rfl, rfl⟩ := hp
          have hx : nI i = nI ((8 * i + 2 * j + 1) / 8) := by congr 1; omega
          have hy : nI j = nI ((8 * i + 2 * j + 1) / 2 % 4) := by congr 1; omega
          have hz : nI 1 = nI ((8 * i + 2 * j + 1) % 2) := by congr 1; omega
          have e8 : 8 * i + 2 * (j + 1) = 8 * i + 2 * j + 1 + 1 := by omega
          have ih := ih (j + 1) (by omega) (by omega)
          rw [e8] at ih
          refine rj_if_eq (pc := 42) (tgt := 49) F dX0_choices_42 (by decide) (fun c42 => ?_) (fun c42 => ?_)
          · rw [rs_sm_0 hx hy hz c42] at ih
            refine rj_iconst (pc := 49) (v := nI 0) F dX0_choices_49 (by decide) ?_
            refine rj_iaddE (pc := 50) F dX0_choices_50 (nI_add _ _) ?_
            refine rj_istore_n (pc := 51) F dX0_choices_51 (by decide) ?_
            refine rj_iinc (pc := 52) F dX0_choices_52 rfl (by decide) (rs_inc j) ?_
            refine rj_goto (pc := 55) (tgt := 11) F dX0_choices_55 (by decide) ?_
            exact rj_to4 ih rfl rfl rfl rfl
          · rw [rs_sm_1 hx hy hz c42] at ih
            refine rj_iconst (pc := 45) (v := nI 1) F dX0_choices_45 (by decide) ?_
            refine rj_goto (pc := 46) (tgt := 50) F dX0_choices_46 (by decide) ?_
            refine rj_iaddE (pc := 50) F dX0_choices_50 (nI_add _ _) ?_
            refine rj_istore_n (pc := 51) F dX0_choices_51 (by decide) ?_
            refine rj_iinc (pc := 52) F dX0_choices_52 rfl (by decide) (rs_inc j) ?_
            refine rj_goto (pc := 55) (tgt := 11) F dX0_choices_55 (by decide) ?_
            exact rj_to4 ih rfl rfl rfl rfl
        refine rj_iload_n (pc := 16) F dX0_choices_16 rfl ?_
        refine rj_aload_n (pc := 17) F dX0_choices_17 rfl ?_
        refine rj_iload_n (pc := 18) F dX0_choices_18 rfl ?_
        refine rj_iload_n (pc := 19) F dX0_choices_19 rfl ?_
        refine rj_iconst (pc := 20) (v := nI 0) F dX0_choices_20 (by decide) ?_
        refine rj_calli3 (pc := 21) F K rs_rcX (ct_X0_possible l D dB dI a (nI i) (nI j) (nI 0) h) (lw_V q146 q139 q140 q16 q141) (by decide +kernel) ⟨rfl, rfl⟩ ⟨Nat.le_of_ble_eq_true rfl, Nat.le_of_ble_eq_true rfl⟩ (Nat.le_of_ble_eq_true rfl) dX0_choices_21 (fun r S1 hp => ?_)
        obtain ⟨rfl, rfl⟩ := hp
        have hx : nI i = nI ((8 * i + 2 * j) / 8) := by congr 1; omega
        have hy : nI j = nI ((8 * i + 2 * j) / 2 % 4) := by congr 1; omega
        have hz : nI 0 = nI ((8 * i + 2 * j) % 2) := by congr 1; omega
        refine rj_if_eq (pc := 24) (tgt := 31) F dX0_choices_24 (by decide) (fun c24 => ?_) (fun c24 => ?_)
        · rw [rs_sm_0 hx hy hz c24] at K34
          refine rj_iconst (pc := 31) (v := nI 0) F dX0_choices_31 (by decide) ?_
          refine rj_iaddE (pc := 32) F dX0_choices_32 (nI_add _ _) ?_
          refine rj_istore_n (pc := 33) F dX0_choices_33 (by decide) ?_
          exact rj_to4 K34 rfl rfl rfl rfl
        · rw [rs_sm_1 hx hy hz c24] at K34
          refine rj_iconst (pc := 27) (v := nI 1) F dX0_choices_27 (by decide) ?_
          refine rj_goto (pc := 28) (tgt := 32) F dX0_choices_28 (by decide) ?_
          refine rj_iaddE (pc := 32) F dX0_choices_32 (nI_add _ _) ?_
          refine rj_istore_n (pc := 33) F dX0_choices_33 (by decide) ?_
          exact rj_to4 K34 rfl rfl rfl rfl
  have outer : ∀ (m i : Nat), i ≤ 4 → 5 ≤ i + m → rs_J (rs_GX l D dB dI a) E 4 [(2, .int (nI i)), (1, .int (nI (rs_sm run (8 * i)))), (0, .ref (a 0))] [] S := by
    intro m
    induction m with
    | zero => intro i q1 q2; omega
    | succ m ih =>
      intro i q1 q2
      refine rj_iload_n (pc := 4) F dX0_choices_4 rfl ?_
      refine rj_iconst (pc := 5) (v := nI 4) F dX0_choices_5 (by decide) ?_
      refine rj_icmp_ge (pc := 6) (tgt := 64) F dX0_choices_6 (by decide) (fun c6 => ?_) (fun c6 => ?_)
      · rw [nI_leI (by omega) (by omega)] at c6
        have : i = 4 := by omega
        subst this
        refine rj_iload_n (pc := 64) F dX0_choices_64 rfl ?_
        exact Rr 65 _ _ _ dX0_choices_65 ⟨rfl, rfl⟩
      · rw [nI_leI (by omega) (by omega)] at c6
        refine rj_iconst (pc := 9) (v := nI 0) F dX0_choices_9 (by decide) ?_
        refine rj_istore_n (pc := 10) F dX0_choices_10 (by decide) ?_
        refine rj_to4 (inner i (by omega) ?_ 5 0 (by omega) (by omega)) rfl rfl rfl rfl
        refine rj_iinc (pc := 58) F dX0_choices_58 rfl (by decide) (rs_inc i) ?_
        refine rj_goto (pc := 61) (tgt := 4) F dX0_choices_61 (by decide) ?_
        have ih := ih (i + 1) (by omega) (by omega)
        rw [show 8 * (i + 1) = 8 * i + 8 by omega] at ih
        exact rj_to3 ih rfl rfl rfl
  refine rj_iconst (pc := 0) (v := nI 0) F dX0_choices_0 (by decide) ?_
  refine rj_istore_n (pc := 1) F dX0_choices_1 (by decide) ?_
  refine rj_iconst (pc := 2) (v := nI 0) F dX0_choices_2 (by decide) ?_
  refine rj_istore_n (pc := 3) F dX0_choices_3 (by decide) ?_
  exact rj_to3 (outer 5 0 (by omega) (by omega)) rfl rfl rfl
end XS
end
section
/-! RoleSessions: partFor -/
/-- the part with a duty and what follows it -/
def pp_mk (d k : Nat) (M N : List Nat) : List Nat := if k = 1 then d :: M else (d + 8) :: (M ++ N)
theorem pp_mk_lt {d k : Nat} {M N : List Nat} (d1 : 1 ≤ d) (d2 : d ≤ 8) (hM : pp_lt M) (hN : pp_lt N) : pp_lt (pp_mk d k M N) := by
  unfold pp_mk
  by_cases h : k = 1
  · rw [if_pos h]
    have := pp_lt_node (v := d) (l := [M]) (by omega) (by rw [pp_la_1 d1 d2]; rfl) (fun L hL => by rw [List.mem_singleton.mp hL]; exact hM)
    simpa using this
  · rw [if_neg h]
    have := pp_lt_node (v := d + 8) (l := [M, N]) (by omega) (by rw [pp_la_8 d1]; rfl) (fun L hL => by
      rcases List.mem_cons.mp hL with e | e
      · rw [e]; exact hM
      · rw [List.mem_singleton.mp e]; exact hN)
    simpa using this
/-- a row holds a part just if it says so -/
theorem rs_TB_match {T : List (List Nat)} {S : rs_St} (h : rs_TB T S) {p d k f s : Nat} {M N : List Nat} (hp1 : 1 ≤ p) (hp : p < T.length) (d1 : 1 ≤ d) (d2 : d ≤ 8) (hk : (k = 1 ∧ s = 0) ∨ k = 2) (hM : T[f]? = some M) (hN : T[s]? = some N) : T[p]? = some (pp_mk d k M N) ↔ (S 6 p = nI d ∧ S 7 p = nI k ∧ S 8 (2 * p) = nI f ∧ S 8 (2 * p + 1) = nI s) := by
  obtain ⟨h1, -, h3, -, h5, h6, h7⟩ := h
  obtain ⟨d', k', f', s', M', N', g1, g2, e6, e7, e8, e9, eM, eN, e, -⟩ := h7 p hp1 hp
  have hlt : ∀ {q : Nat} {M : List Nat}, T[q]? = some M → q < T.length := fun hq => (List.getElem?_eq_some_iff.mp hq).1
  have b1 := hlt eM
  have b2 := hlt eN
  have b3 := hlt hM
  have b4 := hlt hN
  have lM := h6 M (List.mem_of_getElem? hM)
  have lN := h6 N (List.mem_of_getElem? hN)
  have lM' := h6 M' (List.mem_of_getElem? eM)
  have lN' := h6 N' (List.mem_of_getElem? eN)
  have hk' : k' < 3 := by rcases e with e | e <;> omega
  rw [e6, e7, e8, e9, nI_eq (by omega) (by omega), nI_eq (by omega) (by omega), nI_eq (by omega) (by omega), nI_eq (by omega) (by omega)]
  constructor
  · intro hL
    unfold pp_mk at hL
    rcases hk with ⟨rfl, rfl⟩ | rfl
    · rw [if_pos rfl] at hL
      rcases e with ⟨rfl, rfl, e⟩ | ⟨rfl, e⟩
      · rw [hL] at e
        have e := Option.some.inj e
        have q1 : d = d' := (List.cons.inj e).1
        have q2 : M = M' := (List.cons.inj e).2
        subst q2
        exact ⟨q1.symm, rfl, h5 _ _ _ eM hM, rfl⟩
      · rw [hL] at e
        have e := Option.some.inj e
        have q1 : d = d' + 8 := (List.cons.inj e).1
        omega
    · rw [if_neg (by decide)] at hL
      rcases e with ⟨rfl, rfl, e⟩ | ⟨rfl, e⟩
      · rw [hL] at e
        have e := Option.some.inj e
        have q1 : d + 8 = d' := (List.cons.inj e).1
        omega
      · rw [hL] at e
        have e := Option.some.inj e
        have q1 : d + 8 = d' + 8 := (List.cons.inj e).1
        have q2 : M ++ N = M' ++ N' := (List.cons.inj e).2
        have q3 := congrArg (pp_fo pp_la) q2
        rw [pp_lt_two lM lN, pp_lt_two lM' lN'] at q3
        have q4 : M = M' := (List.cons.inj q3).1
        have q5 : N = N' := (List.cons.inj (List.cons.inj q3).2).1
        subst q4
        subst q5
        exact ⟨by omega, rfl, h5 _ _ _ eM hM, h5 _ _ _ eN hN⟩
  · rintro ⟨rfl, rfl, rfl, rfl⟩
    rw [hM] at eM
    rw [hN] at eN
    have q1 := Option.some.inj eM
    have q2 := Option.some.inj eN
    subst q1
    subst q2
    unfold pp_mk
    rcases e with ⟨rfl, -, e⟩ | ⟨rfl, e⟩
    · rw [if_pos rfl]; exact e
    · rw [if_neg (by decide)]; exact e
/-- a new row -/
theorem rs_TB_add {T : List (List Nat)} {S : rs_St} (h : rs_TB T S) {d k f s : Nat} {M N : List Nat} {v : Int32} (hn : T.length < 48) (d1 : 1 ≤ d) (d2 : d ≤ 8) (hk : (k = 1 ∧ s = 0) ∨ k = 2) (hM : T[f]? = some M) (hN : T[s]? = some N) (hnew : ∀ p, p < T.length → T[p]? ≠ some (pp_mk d k M N)) (hv : v = nI (1 + pp_ct M + pp_ct N)) : rs_TB (T ++ [pp_mk d k M N]) (rs_sU (rs_sU (rs_sU (rs_sU (rs_sU (rs_sU S 6 T.length (nI d)) 7 T.length (nI k)) 8 (2 * T.length) (nI f)) 8 (2 * T.length + 1) (nI s)) 9 T.length v) 5 0 (nI (T.length + 1))) := by
  obtain ⟨h1, h2, h3, h4, h5, h6, h7⟩ := h
  have hlt : ∀ {q : Nat} {M : List Nat}, T[q]? = some M → q < T.length := fun hq => (List.getElem?_eq_some_iff.mp hq).1
  have h0 := hlt h3
  have lM := h6 M (List.mem_of_getElem? hM)
  have lN := h6 N (List.mem_of_getElem? hN)
  have left : ∀ {q : Nat} {L : List Nat}, T[q]? = some L → (T ++ [pp_mk d k M N])[q]? = some L := fun hq => by rw [List.getElem?_append_left (hlt hq)]; exact hq
  have last : (T ++ [pp_mk d k M N])[T.length]? = some (pp_mk d k M N) := by rw [List.getElem?_append_right (Nat.le_refl _)]; simp
  have cases' : ∀ {q : Nat} {L : List Nat}, (T ++ [pp_mk d k M N])[q]? = some L → (q < T.length ∧ T[q]? = some L) ∨ (q = T.length ∧ L = pp_mk d k M N) := by
    intro q L hq
    by_cases hl : q < T.length
    · rw [List.getElem?_append_left hl] at hq
      exact Or.inl ⟨hl, hq⟩
    · have hq2 := (List.getElem?_eq_some_iff.mp hq).1
      simp at hq2
      have e : q = T.length := by omega
      subst e
      rw [last] at hq
      exact Or.inr ⟨rfl, (Option.some.inj hq).symm⟩
  refine ⟨by simp; omega, by rw [List.length_append]; rfl, left h3, ?_, ?_, ?_, ?_⟩
  · show rs_sU (rs_sU (rs_sU (rs_sU (rs_sU S 6 T.length (nI d)) 7 T.length (nI k)) 8 (2 * T.length) (nI f)) 8 (2 * T.length + 1) (nI s)) 9 T.length v 9 0 = nI 0
    rw [rs_sU_j _ _ _ (by omega)]
    exact h4
  · intro p q L hp hq
    rcases cases' hp with ⟨a1, a2⟩ | ⟨a1, a2⟩
    · rcases cases' hq with ⟨b1, b2⟩ | ⟨b1, b2⟩
      · exact h5 p q L a2 b2
      · rw [b2] at a2
        exact absurd a2 (hnew p a1)
    · rcases cases' hq with ⟨b1, b2⟩ | ⟨b1, b2⟩
      · rw [a2] at b2
        exact absurd b2 (hnew q b1)
      · omega
  · intro L hL
    rcases List.mem_append.mp hL with e | e
    · exact h6 L e
    · rw [List.mem_singleton.mp e]
      exact pp_mk_lt d1 d2 lM lN
  · intro p hp1 hp2
    simp at hp2
    by_cases hl : p < T.length
    · obtain ⟨d', k', f', s', M', N', g1, g2, e6, e7, e8, e9, eM, eN, e, e10⟩ := h7 p hp1 hl
      refine ⟨d', k', f', s', M', N', g1, g2, ?_, ?_, ?_, ?_, left eM, left eN, ?_, ?_⟩
      · show rs_sU S 6 T.length (nI d) 6 p = _
        rw [rs_sU_j _ _ _ (by omega)]
        exact e6
      · show rs_sU (rs_sU S 6 T.length (nI d)) 7 T.length (nI k) 7 p = _
        rw [rs_sU_j _ _ _ (by omega)]
        exact e7
      · show rs_sU (rs_sU (rs_sU (rs_sU S 6 T.length (nI d)) 7 T.length (nI k)) 8 (2 * T.length) (nI f)) 8 (2 * T.length + 1) (nI s) 8 (2 * p) = _
        rw [rs_sU_j _ _ _ (by omega), rs_sU_j _ _ _ (by omega)]
        exact e8
      · show rs_sU (rs_sU (rs_sU (rs_sU S 6 T.length (nI d)) 7 T.length (nI k)) 8 (2 * T.length) (nI f)) 8 (2 * T.length + 1) (nI s) 8 (2 * p + 1) = _
        rw [rs_sU_j _ _ _ (by omega), rs_sU_j _ _ _ (by omega)]
        exact e9
      · rcases e with ⟨q1, q2, q3⟩ | ⟨q1, q3⟩
        · exact Or.inl ⟨q1, q2, left q3⟩
        · exact Or.inr ⟨q1, left q3⟩
      · show rs_sU (rs_sU (rs_sU (rs_sU (rs_sU S 6 T.length (nI d)) 7 T.length (nI k)) 8 (2 * T.length) (nI f)) 8 (2 * T.length + 1) (nI s)) 9 T.length v 9 p = _
        rw [rs_sU_j _ _ _ (by omega), List.getD_eq_getElem?_getD, List.getElem?_append_left hl, ← List.getD_eq_getElem?_getD]
        exact e10
    · have e : p = T.length := by omega
      subst e
      refine ⟨d, k, f, s, M, N, d1, d2, ?_, ?_, ?_, ?_, left hM, left hN, ?_, ?_⟩
      · show rs_sU S 6 T.length (nI d) 6 T.length = _
        rw [rs_sU_s]
      · show rs_sU (rs_sU S 6 T.length (nI d)) 7 T.length (nI k) 7 T.length = _
        rw [rs_sU_s]
      · show rs_sU (rs_sU (rs_sU (rs_sU S 6 T.length (nI d)) 7 T.length (nI k)) 8 (2 * T.length) (nI f)) 8 (2 * T.length + 1) (nI s) 8 (2 * T.length) = _
        rw [rs_sU_j _ _ _ (by omega), rs_sU_s]
      · show rs_sU (rs_sU (rs_sU (rs_sU S 6 T.length (nI d)) 7 T.length (nI k)) 8 (2 * T.length) (nI f)) 8 (2 * T.length + 1) (nI s) 8 (2 * T.length + 1) = _
        rw [rs_sU_s]
      · rw [last]
        unfold pp_mk
        rcases hk with ⟨rfl, rfl⟩ | rfl
        · exact Or.inl ⟨rfl, rfl, by rw [if_pos rfl]⟩
        · exact Or.inr ⟨rfl, by rw [if_neg (by decide)]⟩
      · show rs_sU (rs_sU (rs_sU (rs_sU (rs_sU S 6 T.length (nI d)) 7 T.length (nI k)) 8 (2 * T.length) (nI f)) 8 (2 * T.length + 1) (nI s)) 9 T.length v 9 T.length = _
        rw [rs_sU_s, hv, List.getD_eq_getElem?_getD, last]
        congr 1
        show _ = pp_ct (pp_mk d k M N)
        unfold pp_mk
        rcases hk with ⟨rfl, rfl⟩ | rfl
        · rw [if_pos rfl]
          rw [h3] at hN
          rw [← Option.some.inj hN]
          show 1 + pp_ct M + 0 = (if d = 0 then 0 else 1) + pp_ct M
          rw [if_neg (by omega)]
          omega
        · rw [if_neg (by decide)]
          show _ = (if d + 8 = 0 then 0 else 1) + pp_ct (M ++ N)
          rw [if_neg (by omega), pp_ct_app]
          omega
section XP
variable (l : Launch) (D : va_G) (dB dI : ClassId) (a : Nat → Nat)
set_option maxHeartbeats 8000000 in
theorem ct_X0_partFor {T : List (List Nat)} {S : rs_St} (h : rs_TB T S) {d k f s : Nat} {M N : List Nat} (hn : T.length < 48) (d1 : 1 ≤ d) (d2 : d ≤ 8) (hk : (k = 1 ∧ s = 0) ∨ k = 2) (hM : T[f]? = some M) (hN : T[s]? = some N) : rs_CT (rs_GX l D dB dI a) yX0_partFor cX0_partFor 7 (some .int) rm_X0_partFor [.ref (a 0), .int (nI d), .int (nI k), .int (nI f), .int (nI s)] S (fun r S' => ∃ T' p, r = nI p ∧ T'[p]? = some (pp_mk d k M N) ∧ rs_TB T' S' ∧ (T' = T ∨ ∃ L, T' = T ++ [L]) ∧ ∀ q, q < 5 ∨ 10 ≤ q → S' q = S q) := by
  have h2 := h.2.1
  have h3 := h.2.2.1
  have hlt : ∀ {q : Nat} {M : List Nat}, T[q]? = some M → q < T.length := fun hq => (List.getElem?_eq_some_iff.mp hq).1
  have h0 := hlt h3
  have bf := hlt hM
  have bs := hlt hN
  have bk : k < 3 := by rcases hk with hk | hk <;> omega
  refine rs_ofi (own := RX0) (by decide) rfl (Nat.le_of_ble_eq_true rfl) rfl rfl ?_
  intro E F K Rr
  have K84 : (∀ p, p < T.length → T[p]? ≠ some (pp_mk d k M N)) → rs_J (rs_GX l D dB dI a) E 84 [(4, .int (nI s)), (3, .int (nI f)), (2, .int (nI k)), (1, .int (nI d)), (0, .ref (a 0))] [] S := by
    intro hnew
    refine rj_aload_n (pc := 84) F dX0_partFor_84 rfl ?_
    refine rx_g5 (pc := 85) F K q31 dX0_partFor_85 ?_
    refine rj_top h2 ?_
    refine rj_istore (pc := 88) F dX0_partFor_88 (by decide) ?_
    refine rj_aload_n (pc := 90) F dX0_partFor_90 rfl ?_
    refine rx_g6 (pc := 91) F K q32 dX0_partFor_91 ?_
    refine rj_iload (pc := 94) F dX0_partFor_94 rfl ?_
    refine rj_iload_n (pc := 96) F dX0_partFor_96 rfl ?_
    refine rj_i2b (pc := 97) F dX0_partFor_97 (rs_b8 d (by omega)) ?_
    refine rx_s6 (pc := 98) F K dX0_partFor_98 rfl hn (rs_n8 (by omega)) ?_
    refine rj_aload_n (pc := 99) F dX0_partFor_99 rfl ?_
    refine rx_g7 (pc := 100) F K q33 dX0_partFor_100 ?_
    refine rj_iload (pc := 103) F dX0_partFor_103 rfl ?_
    refine rj_iload_n (pc := 105) F dX0_partFor_105 rfl ?_
    refine rj_i2b (pc := 106) F dX0_partFor_106 (rs_b8 k (by omega)) ?_
    refine rx_s7 (pc := 107) F K dX0_partFor_107 rfl hn (rs_n8 (by omega)) ?_
    refine rj_aload_n (pc := 108) F dX0_partFor_108 rfl ?_
    refine rx_g8 (pc := 109) F K q34 dX0_partFor_109 ?_
    refine rj_iconst (pc := 112) (v := nI 2) F dX0_partFor_112 (by decide) ?_
    refine rj_iload (pc := 113) F dX0_partFor_113 rfl ?_
    refine rj_imulE (pc := 115) F dX0_partFor_115 (pk_mul _ _) ?_
    refine rj_iload_n (pc := 116) F dX0_partFor_116 rfl ?_
    refine rj_i2b (pc := 117) F dX0_partFor_117 (rs_b8 f (by omega)) ?_
    refine rx_s8 (pc := 118) F K dX0_partFor_118 rfl (by omega) (rs_n8 (by omega)) ?_
    refine rj_aload_n (pc := 119) F dX0_partFor_119 rfl ?_
    refine rx_g8 (pc := 120) F K q34 dX0_partFor_120 ?_
    refine rj_iconst (pc := 123) (v := nI 2) F dX0_partFor_123 (by decide) ?_
    refine rj_iload (pc := 124) F dX0_partFor_124 rfl ?_
    refine rj_imulE (pc := 126) F dX0_partFor_126 (pk_mul _ _) ?_
    refine rj_iconst (pc := 127) (v := nI 1) F dX0_partFor_127 (by decide) ?_
    refine rj_iaddE (pc := 128) F dX0_partFor_128 (nI_add _ _) ?_
    refine rj_iload (pc := 129) F dX0_partFor_129 rfl ?_
    refine rj_i2b (pc := 131) F dX0_partFor_131 (rs_b8 s (by omega)) ?_
    refine rx_s8 (pc := 132) F K dX0_partFor_132 rfl (by omega) (rs_n8 (by omega)) ?_
    refine rj_aload_n (pc := 133) F dX0_partFor_133 rfl ?_
    refine rx_g9 (pc := 134) F K q35 dX0_partFor_134 ?_
    refine rj_iload (pc := 137) F dX0_partFor_137 rfl ?_
    refine rj_iconst (pc := 139) (v := nI 1) F dX0_partFor_139 (by decide) ?_
    refine rj_aload_n (pc := 140) F dX0_partFor_140 rfl ?_
    refine rx_g9 (pc := 141) F K q35 dX0_partFor_141 ?_
    refine rj_iload_n (pc := 144) F dX0_partFor_144 rfl ?_
    refine rx_l9 (pc := 145) F K dX0_partFor_145 rfl (by omega) ?_
    refine rj_top (y := nI (pp_ct M)) (h.row hM).2.1 ?_
    refine rj_iaddE (pc := 146) F dX0_partFor_146 (nI_add _ _) ?_
    refine rj_aload_n (pc := 147) F dX0_partFor_147 rfl ?_
    refine rx_g9 (pc := 148) F K q35 dX0_partFor_148 ?_
    refine rj_iload (pc := 151) F dX0_partFor_151 rfl ?_
    refine rx_l9 (pc := 153) F K dX0_partFor_153 rfl (by omega) ?_
    refine rj_top (y := nI (pp_ct N)) (h.row hN).2.1 ?_
    refine rj_iaddE (pc := 154) F dX0_partFor_154 (nI_add _ _) ?_
    refine rx_s9 (pc := 155) F K dX0_partFor_155 rfl hn ?_
    refine rj_aload_n (pc := 156) F dX0_partFor_156 rfl ?_
    refine rj_dup (pc := 157) F dX0_partFor_157 rfl ?_
    refine rx_g5 (pc := 158) F K q31 dX0_partFor_158 ?_
    refine rj_top (y := nI T.length) h2 ?_
    refine rj_iconst (pc := 161) (v := nI 1) F dX0_partFor_161 (by decide) ?_
    refine rj_iaddE (pc := 162) F dX0_partFor_162 (nI_add _ _) ?_
    refine rx_p5 (pc := 163) F K q31 dX0_partFor_163 ?_
    refine rj_iload (pc := 166) F dX0_partFor_166 rfl ?_
    refine Rr 168 _ _ _ dX0_partFor_168 ⟨T ++ [pp_mk d k M N], T.length, rfl, ?_, rs_TB_add h hn d1 d2 hk hM hN hnew rfl, Or.inr ⟨_, rfl⟩, ?_⟩
    · rw [List.getElem?_append_right (Nat.le_refl _)]
      simp
    · intro q hq
      funext j
      rw [rs_sU_k _ _ _ _ (by omega), rs_sU_k _ _ _ _ (by omega), rs_sU_k _ _ _ _ (by omega), rs_sU_k _ _ _ _ (by omega), rs_sU_k _ _ _ _ (by omega), rs_sU_k _ _ _ _ (by omega)]
  have loop : ∀ (m p : Nat), 1 ≤ p → p ≤ T.length → T.length + 1 ≤ p + m → (∀ q, q < p → T[q]? ≠ some (pp_mk d k M N)) → rs_J (rs_GX l D dB dI a) E 3 [(5, .int (nI p)), (4, .int (nI s)), (3, .int (nI f)), (2, .int (nI k)), (1, .int (nI d)), (0, .ref (a 0))] [] S := by
    intro m
    induction m with
    | zero => intro p q0 q1 q2; omega
    | succ m ih =>
      intro p q0 q1 q2 q3
      refine rj_iload (pc := 3) F dX0_partFor_3 rfl ?_
      refine rj_aload_n (pc := 5) F dX0_partFor_5 rfl ?_
      refine rx_g5 (pc := 6) F K q31 dX0_partFor_6 ?_
      refine rj_top h2 ?_
      refine rj_icmp_ge (pc := 9) (tgt := 84) F dX0_partFor_9 (by decide) (fun c9 => ?_) (fun c9 => ?_)
      · rw [nI_leI (by omega) (by omega)] at c9
        exact rj_to5 (K84 (fun q hq => q3 q (by omega))) rfl rfl rfl rfl rfl
      · rw [nI_leI (by omega) (by omega)] at c9
        have hm := rs_TB_match h q0 (by omega) d1 d2 hk hM hN
        have K78 : ¬ (S 6 p = nI d ∧ S 7 p = nI k ∧ S 8 (2 * p) = nI f ∧ S 8 (2 * p + 1) = nI s) → rs_J (rs_GX l D dB dI a) E 78 [(5, .int (nI p)), (4, .int (nI s)), (3, .int (nI f)), (2, .int (nI k)), (1, .int (nI d)), (0, .ref (a 0))] [] S := by
          intro hno
          refine rj_iinc (pc := 78) F dX0_partFor_78 rfl (by decide) (rs_inc p) ?_
          refine rj_goto (pc := 81) (tgt := 3) F dX0_partFor_81 (by decide) ?_
          exact rj_to6 (ih (p + 1) (by omega) (by omega) (by omega) (fun q hq => by
            by_cases e : q = p
            · rw [e]; exact fun e2 => hno (hm.mp e2)
            · exact q3 q (by omega))) rfl rfl rfl rfl rfl rfl
        have K38 : ¬ (S 6 p = nI d ∧ S 7 p = nI k ∧ S 8 (2 * p) = nI f ∧ S 8 (2 * p + 1) = nI s) → rs_J (rs_GX l D dB dI a) E 38 [(5, .int (nI p)), (4, .int (nI s)), (3, .int (nI f)), (2, .int (nI k)), (1, .int (nI d)), (0, .ref (a 0))] [] S := by
          intro hno
          refine rj_iconst (pc := 38) (v := nI 0) F dX0_partFor_38 (by decide) ?_
          refine rj_istore (pc := 39) F dX0_partFor_39 (by decide) ?_
          refine rj_iload (pc := 41) F dX0_partFor_41 rfl ?_
          refine rj_if_eq (pc := 43) (tgt := 78) F dX0_partFor_43 (by decide) (fun c43 => ?_) (fun c43 => ?_)
          · exact rj_to6 (K78 hno) rfl rfl rfl rfl rfl rfl
          · exact absurd nI_0 c43
        refine rj_aload_n (pc := 12) F dX0_partFor_12 rfl ?_
        refine rx_g6 (pc := 13) F K q32 dX0_partFor_13 ?_
        refine rj_iload (pc := 16) F dX0_partFor_16 rfl ?_
        refine rx_l6 (pc := 18) F K dX0_partFor_18 rfl (by omega) ?_
        refine rj_iload_n (pc := 19) F dX0_partFor_19 rfl ?_
        refine rj_icmp_ne (pc := 20) (tgt := 38) F dX0_partFor_20 (by decide) (fun c20 => ?_) (fun c20 => ?_)
        · exact rj_to6 (K38 (fun q => c20 q.1)) rfl rfl rfl rfl rfl rfl
        · refine rj_aload_n (pc := 23) F dX0_partFor_23 rfl ?_
          refine rx_g7 (pc := 24) F K q33 dX0_partFor_24 ?_
          refine rj_iload (pc := 27) F dX0_partFor_27 rfl ?_
          refine rx_l7 (pc := 29) F K dX0_partFor_29 rfl (by omega) ?_
          refine rj_iload_n (pc := 30) F dX0_partFor_30 rfl ?_
          refine rj_icmp_ne (pc := 31) (tgt := 38) F dX0_partFor_31 (by decide) (fun c31 => ?_) (fun c31 => ?_)
          · exact rj_to6 (K38 (fun q => c31 q.2.1)) rfl rfl rfl rfl rfl rfl
          · refine rj_iconst (pc := 34) (v := nI 1) F dX0_partFor_34 (by decide) ?_
            refine rj_goto (pc := 35) (tgt := 39) F dX0_partFor_35 (by decide) ?_
            refine rj_istore (pc := 39) F dX0_partFor_39 (by decide) ?_
            refine rj_iload (pc := 41) F dX0_partFor_41 rfl ?_
            refine rj_if_eq (pc := 43) (tgt := 78) F dX0_partFor_43 (by decide) (fun c43 => ?_) (fun c43 => ?_)
            · exact absurd c43 (by decide)
            · refine rj_aload_n (pc := 46) F dX0_partFor_46 rfl ?_
              refine rx_g8 (pc := 47) F K q34 dX0_partFor_47 ?_
              refine rj_iconst (pc := 50) (v := nI 2) F dX0_partFor_50 (by decide) ?_
              refine rj_iload (pc := 51) F dX0_partFor_51 rfl ?_
              refine rj_imulE (pc := 53) F dX0_partFor_53 (pk_mul _ _) ?_
              refine rx_l8 (pc := 54) F K dX0_partFor_54 rfl (by omega) ?_
              refine rj_iload_n (pc := 55) F dX0_partFor_55 rfl ?_
              refine rj_icmp_ne (pc := 56) (tgt := 78) F dX0_partFor_56 (by decide) (fun c56 => ?_) (fun c56 => ?_)
              · exact rj_to6 (K78 (fun q => c56 q.2.2.1)) rfl rfl rfl rfl rfl rfl
              · refine rj_aload_n (pc := 59) F dX0_partFor_59 rfl ?_
                refine rx_g8 (pc := 60) F K q34 dX0_partFor_60 ?_
                refine rj_iconst (pc := 63) (v := nI 2) F dX0_partFor_63 (by decide) ?_
                refine rj_iload (pc := 64) F dX0_partFor_64 rfl ?_
                refine rj_imulE (pc := 66) F dX0_partFor_66 (pk_mul _ _) ?_
                refine rj_iconst (pc := 67) (v := nI 1) F dX0_partFor_67 (by decide) ?_
                refine rj_iaddE (pc := 68) F dX0_partFor_68 (nI_add _ _) ?_
                refine rx_l8 (pc := 69) F K dX0_partFor_69 rfl (by omega) ?_
                refine rj_iload (pc := 70) F dX0_partFor_70 rfl ?_
                refine rj_icmp_ne (pc := 72) (tgt := 78) F dX0_partFor_72 (by decide) (fun c72 => ?_) (fun c72 => ?_)
                · exact rj_to6 (K78 (fun q => c72 q.2.2.2)) rfl rfl rfl rfl rfl rfl
                · refine rj_iload (pc := 75) F dX0_partFor_75 rfl ?_
                  exact Rr 77 _ _ _ dX0_partFor_77 ⟨T, p, rfl, hm.mpr ⟨c20, c31, c56, c72⟩, h, Or.inl rfl, fun _ _ => rfl⟩
  refine rj_iconst (pc := 0) (v := nI 1) F dX0_partFor_0 (by decide) ?_
  refine rj_istore (pc := 1) F dX0_partFor_1 (by decide) ?_
  refine rj_to6 (loop T.length 1 (by omega) (by omega) (by omega) (fun q hq => ?_)) rfl rfl rfl rfl rfl rfl
  have e : q = 0 := by omega
  rw [e, h3]
  intro e2
  have e2 := Option.some.inj e2
  unfold pp_mk at e2
  by_cases hk1 : k = 1
  · rw [if_pos hk1] at e2
    have := (List.cons.inj e2).1
    omega
  · rw [if_neg hk1] at e2
    have := (List.cons.inj e2).1
    omega
end XP
end
section
/-! RoleSessions: project, learn -/
theorem pp_pj_hd0 (x : Nat) (u : List Nat) : (pp_pj x (0 :: u)).headD none = some [0] := by
  show (pp_pc x 0 _ :: _).headD none = _
  rw [List.headD_cons, pp_pc_0]
theorem pp_pj_hd1 {x t : Nat} {u : List Nat} (hv : pp_vd pp_ar (t :: u)) (ha : pp_ar t = 1) : (pp_pj x (t :: u)).headD none = pp_pc x t [(pp_pj x u).headD none] := by
  have h1 := hv.1
  have h2 : (pp_pj x u).length = pp_hg pp_ar u := pp_ev_len u
  show (pp_pc x t ((pp_pj x u).take (pp_ar t)) :: _).headD none = _
  rw [List.headD_cons, ha]
  cases hq : pp_pj x u with
  | nil => rw [hq] at h2; simp at h2; omega
  | cons o r => simp
theorem pp_pj_hd2 {x t : Nat} {u : List Nat} (hv : pp_vd pp_ar (t :: u)) (ha : pp_ar t = 2) : (pp_pj x (t :: u)).headD none = pp_pc x t [(pp_pj x u).headD none, (pp_pj x (u.drop (pp_ln pp_ar 1 u))).headD none] := by
  have h1 := hv.1
  have h2 : (pp_pj x u).length = pp_hg pp_ar u := pp_ev_len u
  have h3 : pp_pj x (u.drop (pp_ln pp_ar 1 u)) = (pp_pj x u).drop 1 := pp_skip hv.2 (by omega)
  show (pp_pc x t ((pp_pj x u).take (pp_ar t)) :: _).headD none = _
  rw [List.headD_cons, ha, h3]
  cases hq : pp_pj x u with
  | nil => rw [hq] at h2; simp at h2; omega
  | cons o r =>
    cases r with
    | nil => rw [hq] at h2; simp at h2; omega
    | cons o2 r => simp
theorem pp_ln_0t (u : List Nat) : pp_ln pp_ar 1 (0 :: u) = 1 := by
  rw [show (1 : Nat) = 0 + 1 from rfl, pp_ln_cons]
  rfl
theorem pp_ln_1t {t : Nat} (u : List Nat) (ha : pp_ar t = 1) : pp_ln pp_ar 1 (t :: u) = 1 + pp_ln pp_ar 1 u := by
  have := pp_ln_cons (ar := pp_ar) 0 t u
  rw [ha] at this
  exact this
theorem pp_ln_2t {t : Nat} {u : List Nat} (hv : pp_vd pp_ar (t :: u)) (ha : pp_ar t = 2) : pp_ln pp_ar 1 (t :: u) = 1 + pp_ln pp_ar 1 u + pp_ln pp_ar 1 (u.drop (pp_ln pp_ar 1 u)) := by
  have h1 := hv.1
  have h2 := pp_ln_cons (ar := pp_ar) 0 t u
  rw [ha] at h2
  have h3 := pp_ln_add hv.2 (k := 1) (by omega)
  have h4 : pp_ln pp_ar 1 (t :: u) = 1 + pp_ln pp_ar (1 + 1) u := h2
  omega
theorem rs_cd_ne {T : List (List Nat)} {o : Option (List Nat)} {v : Int32} (h : rs_cd T o v) (hv : ¬ v = -1) : ∃ L p, o = some L ∧ T[p]? = some L ∧ v = nI p := by
  cases o with
  | none => exact absurd h hv
  | some L =>
    obtain ⟨p, h1, h2⟩ := h
    exact ⟨L, p, rfl, h1, h2⟩
theorem rs_cd_m1 {T : List (List Nat)} {o : Option (List Nat)} {v : Int32} (h : rs_cd T o v) (hT : T.length ≤ 48) (hv : v = -1) : o = none := by
  cases o with
  | none => rfl
  | some L =>
    obtain ⟨p, h1, h2⟩ := h
    have := (List.getElem?_eq_some_iff.mp h1).1
    rw [hv] at h2
    exact absurd h2.symm (rs_ne1 (by omega))
theorem rs_cd_app {T : List (List Nat)} {o : Option (List Nat)} {v : Int32} (h : rs_cd T o v) (L : List Nat) : rs_cd (T ++ [L]) o v := by
  cases o with
  | none => exact h
  | some M =>
    obtain ⟨p, h1, h2⟩ := h
    have := (List.getElem?_eq_some_iff.mp h1).1
    exact ⟨p, by rw [List.getElem?_append_left this]; exact h1, h2⟩
theorem rs_cd_b8 {T : List (List Nat)} {o : Option (List Nat)} {v : Int32} (h : rs_cd T o v) (hT : T.length ≤ 48) : v.toInt8.toInt32 = v ∧ vp_nar .byte v = v := by
  by_cases e : v = -1
  · rw [e]; exact ⟨rs_m8, rs_mn8⟩
  · obtain ⟨L, p, -, h1, rfl⟩ := rs_cd_ne h e
    have := (List.getElem?_eq_some_iff.mp h1).1
    exact ⟨rs_b8 p (by omega), rs_n8 (by omega)⟩
/-- the rows of the signs from m on are worked out -/
def rs_LN (ts : List Nat) (T : List (List Nat)) (m : Nat) (S : rs_St) : Prop :=
  rs_tX ts S ∧ rs_TB T S ∧ ∀ j, m ≤ j → j < ts.length → S 3 j = nI (pp_ln pp_ar 1 (ts.drop j)) ∧ ∀ x, x < 4 → rs_cd T ((pp_pj x (ts.drop j)).headD none) (S 4 (j * 4 + x))
section XL
variable (l : Launch) (D : va_G) (dB dI : ClassId) (a : Nat → Nat)
set_option maxHeartbeats 8000000 in
theorem ct_X0_project {ts : List Nat} {T : List (List Nat)} {S : rs_St} {i x t : Nat} (h : rs_LN ts T (i + 1) S) (hv : pp_vd pp_ar ts) (hi : i < ts.length) (hx : x < 4) (hT : T.length < 48) (ht : ts.getD i 0 = t) : rs_CT (rs_GX l D dB dI a) yX0_project cX0_project 8 (some .int) rm_X0_project [.ref (a 0), .int (nI i), .int (nI (pp_ar t)), .int (nI x)] S (fun r S' => ∃ T', rs_cd T' ((pp_pj x (ts.drop i)).headD none) r ∧ rs_TB T' S' ∧ (T' = T ∨ (t ≠ 0 ∧ pp_mi x t ∧ ∃ L, T' = T ++ [L])) ∧ ∀ q, q < 5 ∨ 10 ≤ q → S' q = S q) := by
  obtain ⟨⟨⟨w1, w2, w3⟩, g3, g4⟩, hTB, hrow⟩ := h
  have htk := w2 _ (rs_get hi)
  have gi := g4 i hi
  have hdr := rs_drop hi
  have hvd := pp_vd_drop hv i
  rw [ht] at htk gi hdr
  rw [hdr] at hvd ⊢
  have t33 := htk.1
  have snl := pp_sn_lt t
  have rcl := pp_rc_lt t
  refine rs_ofi (own := RX0) (by decide) rfl (Nat.le_of_ble_eq_true rfl) rfl rfl ?_
  intro E F K Rr
  have K52 : ∀ (v1 v2 : Int32) (o1 o2 : Option (List Nat)) (k : Nat), t ≠ 0 → k = pp_ar t → rs_cd T o1 v1 → rs_cd T o2 v2 → ((k = 1 ∧ v2 = nI 0 ∧ (pp_pj x (t :: ts.drop (i + 1))).headD none = pp_pc x t [o1]) ∨ (k = 2 ∧ (pp_pj x (t :: ts.drop (i + 1))).headD none = pp_pc x t [o1, o2])) → rs_J (rs_GX l D dB dI a) E 52 [(5, .int v2), (4, .int v1), (3, .int (nI x)), (2, .int (nI k)), (1, .int (nI i)), (0, .ref (a 0))] [] S := by
    intro v1 v2 o1 o2 k ht0 hk h1 h2 hres
    have sr : pp_sn t ≠ pp_rc t := htk.2.elim (fun e => absurd e ht0) (fun e => e)
    have hkk : k = 1 ∨ k = 2 := hres.elim (fun e => Or.inl e.1) (fun e => Or.inr e.1)
    generalize (pp_pj x (t :: ts.drop (i + 1))).headD none = res at hres Rr
    have K64 : res = none → rs_J (rs_GX l D dB dI a) E 64 [] [] S := by
      intro e
      refine rj_iconst (pc := 64) (v := (-1)) F dX0_project_64 (by decide) ?_
      exact Rr 65 _ _ _ dX0_project_65 ⟨T, by rw [e]; rfl, hTB, Or.inl rfl, fun _ _ => rfl⟩
    refine rj_iload (pc := 52) F dX0_project_52 rfl ?_
    refine rj_iconst (pc := 54) (v := (-1)) F dX0_project_54 (by decide) ?_
    refine rj_icmp_eq (pc := 55) (tgt := 64) F dX0_project_55 (by decide) (fun c55 => ?_) (fun c55 => ?_)
    · refine rj_sb (lv' := []) trivial (K64 ?_)
      have e1 := rs_cd_m1 h1 (by omega) c55
      rcases hres with ⟨-, -, e⟩ | ⟨-, e⟩
      · rw [e, e1, pp_pc_1 ht0]
        split <;> rfl
      · rw [e, e1, pp_pc_n ht0 _ _ (Or.inl rfl)]
    · obtain ⟨M, f, e1, hM, rfl⟩ := rs_cd_ne h1 c55
      refine rj_iload (pc := 58) F dX0_project_58 rfl ?_
      refine rj_iconst (pc := 60) (v := (-1)) F dX0_project_60 (by decide) ?_
      refine rj_icmp_ne (pc := 61) (tgt := 66) F dX0_project_61 (by decide) (fun c61 => ?_) (fun c61 => ?_)
      · obtain ⟨N, s, e2, hN, rfl⟩ := rs_cd_ne h2 c61
        have bf := (List.getElem?_eq_some_iff.mp hM).1
        have bs := (List.getElem?_eq_some_iff.mp hN).1
        have hks : (k = 1 ∧ s = 0) ∨ k = 2 := by
          rcases hres with ⟨e, q, -⟩ | ⟨e, -⟩
          · exact Or.inl ⟨e, (nI_eq (by omega) (by omega)).mp q⟩
          · exact Or.inr e
        have hmine : ∀ d, pp_mi x t → pp_pv x t = d + (if t ≤ 16 then 0 else 8) → res = some (pp_mk d k M N) := by
          intro d hm hd
          unfold pp_mk
          rcases hres with ⟨e, q, r⟩ | ⟨e, r⟩
          · have := pp_ar_1 (t := t) (by omega)
            rw [r, e1, pp_pc_1 ht0, if_pos hm, hd, if_pos this.2, if_pos e]
            rfl
          · have := pp_ar_2 (t := t) (by omega)
            rw [r, e1, e2, pp_pc_2 ht0, if_pos hm, hd, if_neg this.2, if_neg (by omega)]
        refine rj_aload_n (pc := 66) F dX0_project_66 rfl ?_
        refine rx_g1 (pc := 67) F K q27 dX0_project_67 ?_
        refine rj_iload_n (pc := 70) F dX0_project_70 rfl ?_
        refine rx_l1 (pc := 71) F K dX0_project_71 rfl (by omega) ?_
        refine rj_top gi ?_
        refine rj_callps1 (pc := 72) F (ct_X0_senderOf l (by omega) t33) (lw_S q110 q111 q16 q112) (by decide +kernel) ⟨rfl, rfl⟩ ⟨Nat.le_of_ble_eq_true rfl, Nat.le_of_ble_eq_true rfl⟩ (Nat.le_of_ble_eq_true rfl) dX0_project_72 ?_
        refine rj_istore (pc := 75) F dX0_project_75 (by decide) ?_
        refine rj_aload_n (pc := 77) F dX0_project_77 rfl ?_
        refine rx_g1 (pc := 78) F K q27 dX0_project_78 ?_
        refine rj_iload_n (pc := 81) F dX0_project_81 rfl ?_
        refine rx_l1 (pc := 82) F K dX0_project_82 rfl (by omega) ?_
        refine rj_top gi ?_
        refine rj_callps1 (pc := 83) F (ct_X0_receiverOf l (by omega) t33) (lw_S q113 q114 q16 q115) (by decide +kernel) ⟨rfl, rfl⟩ ⟨Nat.le_of_ble_eq_true rfl, Nat.le_of_ble_eq_true rfl⟩ (Nat.le_of_ble_eq_true rfl) dX0_project_83 ?_
        refine rj_istore (pc := 86) F dX0_project_86 (by decide) ?_
        refine rj_iload_n (pc := 88) F dX0_project_88 rfl ?_
        refine rj_iload (pc := 89) F dX0_project_89 rfl ?_
        refine rj_icmp_ne (pc := 91) (tgt := 108) F dX0_project_91 (by decide) (fun c91 => ?_) (fun c91 => ?_)
        · rw [nI_eq (by omega) (by omega)] at c91
          refine rj_iload_n (pc := 108) F dX0_project_108 rfl ?_
          refine rj_iload (pc := 109) F dX0_project_109 rfl ?_
          refine rj_icmp_ne (pc := 111) (tgt := 128) F dX0_project_111 (by decide) (fun c111 => ?_) (fun c111 => ?_)
          · rw [nI_eq (by omega) (by omega)] at c111
            have nm : ¬ pp_mi x t := fun q => q.elim (fun q => c91 q.symm) (fun q => c111 q.symm)
            refine rj_iload_n (pc := 128) F dX0_project_128 rfl ?_
            refine rj_iconst (pc := 129) (v := nI 1) F dX0_project_129 (by decide) ?_
            have K140 : res = some M → rs_J (rs_GX l D dB dI a) E 140 [(4, .int (nI f))] [] S := by
              intro e
              refine rj_iload (pc := 140) F dX0_project_140 rfl ?_
              refine rj_goto (pc := 142) (tgt := 146) F dX0_project_142 (by decide) ?_
              exact Rr 146 _ _ _ dX0_project_146 ⟨T, by rw [e]; exact ⟨f, hM, rfl⟩, hTB, Or.inl rfl, fun _ _ => rfl⟩
            refine rj_icmp_eq (pc := 130) (tgt := 140) F dX0_project_130 (by decide) (fun c130 => ?_) (fun c130 => ?_)
            · rw [nI_eq (by omega) (by omega)] at c130
              refine rj_to1 (K140 ?_) rfl
              rcases hres with ⟨e, q, r⟩ | ⟨e, r⟩
              · rw [r, e1, pp_pc_1 ht0, if_neg nm]
              · omega
            · rw [nI_eq (by omega) (by omega)] at c130
              have r : res = pp_pc x t [some M, some N] := by
                rcases hres with ⟨e, q, r⟩ | ⟨e, r⟩
                · omega
                · rw [r, e1, e2]
              refine rj_iload (pc := 133) F dX0_project_133 rfl ?_
              refine rj_iload (pc := 135) F dX0_project_135 rfl ?_
              refine rj_icmp_ne (pc := 137) (tgt := 145) F dX0_project_137 (by decide) (fun c137 => ?_) (fun c137 => ?_)
              · rw [nI_eq (by omega) (by omega)] at c137
                refine rj_iconst (pc := 145) (v := (-1)) F dX0_project_145 (by decide) ?_
                exact Rr 146 _ _ _ dX0_project_146 ⟨T, by rw [r, pp_pc_2 ht0, if_neg nm, if_neg (fun e => c137 (hTB.2.2.2.2.1 f s M hM (by rw [e]; exact hN)))]; rfl, hTB, Or.inl rfl, fun _ _ => rfl⟩
              · rw [nI_eq (by omega) (by omega)] at c137
                refine rj_to1 (K140 ?_) rfl
                rw [c137, hN] at hM
                rw [r, pp_pc_2 ht0, if_neg nm, if_pos (Option.some.inj hM).symm]
          · rw [nI_eq (by omega) (by omega)] at c111
            refine rj_aload_n (pc := 114) F dX0_project_114 rfl ?_
            refine rj_iconst (pc := 115) (v := nI 5) F dX0_project_115 (by decide) ?_
            refine rj_iload (pc := 116) F dX0_project_116 rfl ?_
            refine rj_iaddE (pc := 118) F dX0_project_118 (nI_add _ _) ?_
            refine rj_iload_n (pc := 119) F dX0_project_119 rfl ?_
            refine rj_iload (pc := 120) F dX0_project_120 rfl ?_
            refine rj_iload (pc := 122) F dX0_project_122 rfl ?_
            refine rj_calli4 (pc := 124) F K rs_rcX (ct_X0_partFor l D dB dI a hTB hT (by omega) (by omega) hks hM hN) (lw_V q116 q118 qs4 q16 q119) (by decide +kernel) ⟨rfl, rfl⟩ ⟨Nat.le_of_ble_eq_true rfl, Nat.le_of_ble_eq_true rfl⟩ (Nat.le_of_ble_eq_true rfl) dX0_project_124 (fun r S1 hp => ?_)
            obtain ⟨T', p, rfl, p1, p2, p3, p4⟩ := hp
            have hm : pp_mi x t := Or.inr c111.symm
            have hr := hmine (5 + pp_sn t) hm (by unfold pp_pv; rw [if_neg (fun q => c91 q.symm)])
            exact Rr 127 _ _ _ dX0_project_127 ⟨T', by rw [hr]; exact ⟨p, p1, rfl⟩, p2, p3.elim Or.inl (fun q => Or.inr ⟨ht0, hm, q⟩), p4⟩
        · rw [nI_eq (by omega) (by omega)] at c91
          refine rj_aload_n (pc := 94) F dX0_project_94 rfl ?_
          refine rj_iconst (pc := 95) (v := nI 1) F dX0_project_95 (by decide) ?_
          refine rj_iload (pc := 96) F dX0_project_96 rfl ?_
          refine rj_iaddE (pc := 98) F dX0_project_98 (nI_add _ _) ?_
          refine rj_iload_n (pc := 99) F dX0_project_99 rfl ?_
          refine rj_iload (pc := 100) F dX0_project_100 rfl ?_
          refine rj_iload (pc := 102) F dX0_project_102 rfl ?_
          refine rj_calli4 (pc := 104) F K rs_rcX (ct_X0_partFor l D dB dI a hTB hT (by omega) (by omega) hks hM hN) (lw_V q116 q118 qs4 q16 q119) (by decide +kernel) ⟨rfl, rfl⟩ ⟨Nat.le_of_ble_eq_true rfl, Nat.le_of_ble_eq_true rfl⟩ (Nat.le_of_ble_eq_true rfl) dX0_project_104 (fun r S1 hp => ?_)
          obtain ⟨T', p, rfl, p1, p2, p3, p4⟩ := hp
          have hm : pp_mi x t := Or.inl c91.symm
          have hr := hmine (1 + pp_rc t) hm (by unfold pp_pv; rw [if_pos c91.symm])
          exact Rr 107 _ _ _ dX0_project_107 ⟨T', by rw [hr]; exact ⟨p, p1, rfl⟩, p2, p3.elim Or.inl (fun q => Or.inr ⟨ht0, hm, q⟩), p4⟩
      · refine rj_sb (lv' := []) trivial (K64 ?_)
        have e2 := rs_cd_m1 h2 (by omega) c61
        rcases hres with ⟨-, q, e⟩ | ⟨-, e⟩
        · rw [q] at c61
          exact absurd c61 (by decide)
        · rw [e, e2, pp_pc_n ht0 _ _ (Or.inr rfl)]
  refine rj_iload_n (pc := 0) F dX0_project_0 rfl ?_
  have hal := pp_ar_le t
  refine rj_if_ne (pc := 1) (tgt := 6) F dX0_project_1 (by decide) (fun c1 => ?_) (fun c1 => ?_)
  · have ht0 : t ≠ 0 := fun e => c1 (by rw [e]; exact nI_0)
    have ha1 : 1 ≤ pp_ar t := Nat.one_le_iff_ne_zero.mpr (fun e => ht0 (pp_ar_0 e))
    have hge : 1 ≤ pp_hg pp_ar (ts.drop (i + 1)) := Nat.le_trans ha1 hvd.1
    have hlen1 : i + 1 < ts.length := by
      have := pp_hg_le (ar := pp_ar) (ts.drop (i + 1))
      rw [List.length_drop] at this
      omega
    obtain ⟨r1, r2⟩ := hrow (i + 1) (Nat.le_refl _) hlen1
    refine rj_aload_n (pc := 6) F dX0_project_6 rfl ?_
    refine rx_g4 (pc := 7) F K q30 dX0_project_7 ?_
    refine rj_iload_n (pc := 10) F dX0_project_10 rfl ?_
    refine rj_iconst (pc := 11) (v := nI 1) F dX0_project_11 (by decide) ?_
    refine rj_iaddE (pc := 12) F dX0_project_12 (nI_add _ _) ?_
    refine rj_iconst (pc := 13) (v := nI 4) F dX0_project_13 (by decide) ?_
    refine rj_imulE (pc := 14) F dX0_project_14 (pk_mul _ _) ?_
    refine rj_iload_n (pc := 15) F dX0_project_15 rfl ?_
    refine rj_iaddE (pc := 16) F dX0_project_16 (nI_add _ _) ?_
    refine rx_l4 (pc := 17) F K dX0_project_17 rfl (by omega) ?_
    refine rj_istore (pc := 18) F dX0_project_18 (by decide) ?_
    refine rj_iload_n (pc := 20) F dX0_project_20 rfl ?_
    refine rj_iconst (pc := 21) (v := nI 1) F dX0_project_21 (by decide) ?_
    refine rj_icmp_le (pc := 22) (tgt := 49) F dX0_project_22 (by decide) (fun c22 => ?_) (fun c22 => ?_)
    · rw [nI_leI (by omega) (by omega)] at c22
      have ha : pp_ar t = 1 := by omega
      refine rj_iconst (pc := 49) (v := nI 0) F dX0_project_49 (by decide) ?_
      refine rj_istore (pc := 50) F dX0_project_50 (by decide) ?_
      exact rj_to6 (K52 _ (nI 0) _ (some [0]) (pp_ar t) ht0 rfl (r2 x hx) ⟨0, hTB.2.2.1, rfl⟩ (Or.inl ⟨ha, rfl, pp_pj_hd1 hvd ha⟩)) rfl rfl rfl rfl rfl rfl
    · rw [nI_leI (by omega) (by omega)] at c22
      have ha : pp_ar t = 2 := by omega
      have h2g : 2 ≤ pp_hg pp_ar (ts.drop (i + 1)) := by have := hvd.1; omega
      have hdd : (ts.drop (i + 1)).drop (pp_ln pp_ar 1 (ts.drop (i + 1))) = ts.drop (i + 1 + pp_ln pp_ar 1 (ts.drop (i + 1))) := List.drop_drop
      have hlen2 : i + 1 + pp_ln pp_ar 1 (ts.drop (i + 1)) < ts.length := by
        have e := pp_hg_skip hvd.2 (k := 1) (by omega)
        have := pp_hg_le (ar := pp_ar) ((ts.drop (i + 1)).drop (pp_ln pp_ar 1 (ts.drop (i + 1))))
        rw [hdd, List.length_drop] at this
        rw [hdd] at e
        omega
      obtain ⟨-, s2⟩ := hrow _ (show i + 1 ≤ i + 1 + pp_ln pp_ar 1 (ts.drop (i + 1)) by omega) hlen2
      have hp2 := pp_pj_hd2 (x := x) hvd ha
      rw [hdd] at hp2
      refine rj_aload_n (pc := 25) F dX0_project_25 rfl ?_
      refine rx_g4 (pc := 26) F K q30 dX0_project_26 ?_
      refine rj_iload_n (pc := 29) F dX0_project_29 rfl ?_
      refine rj_iconst (pc := 30) (v := nI 1) F dX0_project_30 (by decide) ?_
      refine rj_iaddE (pc := 31) F dX0_project_31 (nI_add _ _) ?_
      refine rj_aload_n (pc := 32) F dX0_project_32 rfl ?_
      refine rx_g3 (pc := 33) F K q29 dX0_project_33 ?_
      refine rj_iload_n (pc := 36) F dX0_project_36 rfl ?_
      refine rj_iconst (pc := 37) (v := nI 1) F dX0_project_37 (by decide) ?_
      refine rj_iaddE (pc := 38) F dX0_project_38 (nI_add _ _) ?_
      refine rx_l3 (pc := 39) F K dX0_project_39 rfl (by omega) ?_
      refine rj_top r1 ?_
      refine rj_iaddE (pc := 40) F dX0_project_40 (nI_add _ _) ?_
      refine rj_iconst (pc := 41) (v := nI 4) F dX0_project_41 (by decide) ?_
      refine rj_imulE (pc := 42) F dX0_project_42 (pk_mul _ _) ?_
      refine rj_iload_n (pc := 43) F dX0_project_43 rfl ?_
      refine rj_iaddE (pc := 44) F dX0_project_44 (nI_add _ _) ?_
      refine rx_l4 (pc := 45) F K dX0_project_45 rfl (by omega) ?_
      refine rj_goto (pc := 46) (tgt := 50) F dX0_project_46 (by decide) ?_
      refine rj_istore (pc := 50) F dX0_project_50 (by decide) ?_
      exact rj_to6 (K52 _ _ _ _ (pp_ar t) ht0 rfl (r2 x hx) (s2 x hx) (Or.inr ⟨ha, hp2⟩)) rfl rfl rfl rfl rfl rfl
  · have ht0 : t = 0 := by
      rw [← nI_0, nI_eq (by omega) (by omega)] at c1
      exact pp_ar_0 c1
    refine rj_iconst (pc := 4) (v := nI 0) F dX0_project_4 (by decide) ?_
    exact Rr 5 _ _ _ dX0_project_5 ⟨T, by rw [ht0, pp_pj_hd0]; exact ⟨0, hTB.2.2.1, rfl⟩, hTB, Or.inl rfl, fun _ _ => rfl⟩
theorem rs_dec1 (m : Nat) : nI m + Int32.ofInt (-1) = nI m - nI 1 := by
  rw [Int32.sub_eq_add_neg]
  rfl
theorem rs_cd_mono {T T' : List (List Nat)} {P : Prop} (h : T' = T ∨ (P ∧ ∃ L, T' = T ++ [L])) {o : Option (List Nat)} {v : Int32} (hc : rs_cd T o v) : rs_cd T' o v := by
  rcases h with e | ⟨-, L, e⟩
  · rw [e]; exact hc
  · rw [e]; exact rs_cd_app hc L
set_option maxHeartbeats 8000000 in
theorem ct_X0_learn {ts : List Nat} {run : rs_Rn} {S : rs_St} (h : rs_IX ts run S) : rs_CT (rs_GX l D dB dI a) yX0_learn cX0_learn 6 (some .boolean) rm_X0_learn [.ref (a 0)] S (fun r S' => r = rs_aC ts ∧ rs_IX ts run S' ∧ (pp_cp ts → S' 2 0 = nI 1)) := by
  refine rs_ofz (own := RX0) (by decide) rfl (Nat.le_of_ble_eq_true rfl) rfl rfl ?_
  intro E F K Rr
  refine rj_aload_n (pc := 0) F dX0_learn_0 rfl ?_
  refine rj_calli0 (pc := 1) F K rs_rcX (ct_X0_complete l D dB dI a h.tX) (lw_V q75 q76 q77 q16 q78) (by decide +kernel) ⟨rfl, rfl⟩ ⟨Nat.le_of_ble_eq_true rfl, Nat.le_of_ble_eq_true rfl⟩ (Nat.le_of_ble_eq_true rfl) dX0_learn_1 (fun r S1 hp => ?_)
  obtain ⟨rfl, rfl⟩ := hp
  refine rj_if_ne (pc := 4) (tgt := 9) F dX0_learn_4 (by decide) (fun c4 => ?_) (fun c4 => ?_)
  · have hcp := rs_bz_ne c4
    obtain ⟨hvd, hhg⟩ := pp_op_vd h.1.2.2 hcp
    refine rj_aload_n (pc := 9) F dX0_learn_9 rfl ?_
    refine rx_g2 (pc := 10) F K q28 dX0_learn_10 ?_
    rcases h.2.2.2.2.2.2 with ⟨k0, rfl⟩ | hk1
    · refine rj_top k0 ?_
      refine rj_if_eq (pc := 13) (tgt := 18) F dX0_learn_13 (by decide) (fun c13 => ?_) (fun c13 => ?_)
      · have hcnt := h.2.2.1
        have hlen := h.1.1
        have hlen0 : 0 < ts.length := by have := pp_hg_le (ar := pp_ar) ts; omega
        have outer : ∀ (m : Nat) (T : List (List Nat)) (S2 : rs_St), m ≤ ts.length → rs_LN ts T m S2 → T.length ≤ 1 + 2 * (ts.length - m) → (∀ q, q < 3 ∨ 10 ≤ q → S2 q = rs_sU (rs_sU S1 2 0 (nI 1)) 5 0 (nI 1) q) → rs_J (rs_GX l D dB dI a) E 35 [(1, .int (nI m - nI 1)), (0, .ref (a 0))] [] S2 := by
          intro m
          induction m with
          | zero =>
            intro T S2 hm hN hTl hq
            refine rj_iload_n (pc := 35) F dX0_learn_35 rfl ?_
            refine rj_if_lt (pc := 36) (tgt := 141) F dX0_learn_36 (by decide) (fun c36 => ?_) (fun c36 => ?_)
            · refine rj_iconst (pc := 141) (v := nI 1) F dX0_learn_141 (by decide) ?_
              refine Rr 142 _ _ _ dX0_learn_142 (by decide) ⟨(rs_bz_t hcp).symm, ⟨h.1, h.2.1, hN.1.2.1, hN.1.2.2, hN.2.1.2.2.2.1, ?_, Or.inr ⟨?_, hcp, T, hN.2.1, fun x hx => ?_, fun g n e => by cases e⟩⟩, fun _ => ?_⟩
              · show S2 10 0 = nI 0
                rw [hq 10 (by omega)]
                exact h.run0
              · rw [hq 2 (by omega)]
                rfl
              · have := (hN.2.2 0 (Nat.le_refl _) hlen0).2 x hx
                rw [Nat.zero_mul, Nat.zero_add] at this
                exact this
              · rw [hq 2 (by omega)]
                rfl
            · exact absurd (by decide) c36
          | succ m ih =>
            intro T S2 hm hN hTl hq
            have hsub : nI (m + 1) - nI 1 = nI m := by rw [pk_sub (by omega)]; rfl
            rw [hsub]
            have hmi : m < ts.length := by omega
            have htk := h.1.2.1 _ (rs_get hmi)
            have gi := hN.1.2.2 m hmi
            have hdr := rs_drop hmi
            have hvm := pp_vd_drop hvd m
            generalize htt : ts.getD m 0 = t at htk gi hdr
            rw [hdr] at hvm
            have hal := pp_ar_le t
            have hsn := pp_sn_lt t
            have hrc := pp_rc_lt t
            have t33 := htk.1
            have K100 : rs_J (rs_GX l D dB dI a) E 100 [(2, .int (nI (pp_ar t))), (1, .int (nI m)), (0, .ref (a 0))] [] (rs_sU S2 3 m (nI (pp_ln pp_ar 1 (ts.drop m)))) := by
              have inner : ∀ (n x : Nat) (T3 : List (List Nat)) (S3 : rs_St), x ≤ 4 → 5 ≤ x + n → rs_LN ts T3 (m + 1) S3 → S3 3 m = nI (pp_ln pp_ar 1 (ts.drop m)) → (∀ y, y < x → rs_cd T3 ((pp_pj y (ts.drop m)).headD none) (S3 4 (m * 4 + y))) → T3.length ≤ 1 + 2 * (ts.length - (m + 1)) + (if pp_sn t < x then 1 else 0) + (if pp_rc t < x then 1 else 0) → (∀ q, q < 3 ∨ 10 ≤ q → S3 q = rs_sU (rs_sU S1 2 0 (nI 1)) 5 0 (nI 1) q) → rs_J (rs_GX l D dB dI a) E 103 [(5, .int (nI x)), (2, .int (nI (pp_ar t))), (1, .int (nI m)), (0, .ref (a 0))] [] S3 := by
                intro n
                induction n with
                | zero => intro x T3 S3 q1 q2; omega
                | succ n ihn =>
                  intro x T3 S3 q1 q2 q3 q4 q5 q6 q7
                  refine rj_iload (pc := 103) F dX0_learn_103 rfl ?_
                  refine rj_iconst (pc := 105) (v := nI 4) F dX0_learn_105 (by decide) ?_
                  refine rj_icmp_ge (pc := 106) (tgt := 135) F dX0_learn_106 (by decide) (fun c106 => ?_) (fun c106 => ?_)
                  · rw [nI_leI (by omega) (by omega)] at c106
                    have hx4 : x = 4 := by omega
                    subst hx4
                    refine rj_iinc (pc := 135) F dX0_learn_135 rfl (by decide) (rs_dec1 m) ?_
                    refine rj_goto (pc := 138) (tgt := 35) F dX0_learn_138 (by decide) ?_
                    refine rj_to2 (ih T3 S3 (by omega) ⟨q3.1, q3.2.1, fun j j1 j2 => ?_⟩ (by rw [if_pos hsn, if_pos hrc] at q6; omega) q7) rfl rfl
                    by_cases e : j = m
                    · subst e
                      exact ⟨q4, q5⟩
                    · exact q3.2.2 j (by omega) j2
                  · rw [nI_leI (by omega) (by omega)] at c106
                    have hx4 : x < 4 := by omega
                    have hTl3 : T3.length < 48 := by
                      split at q6 <;> split at q6 <;> omega
                    refine rj_aload_n (pc := 109) F dX0_learn_109 rfl ?_
                    refine rx_g4 (pc := 110) F K q30 dX0_learn_110 ?_
                    refine rj_iload_n (pc := 113) F dX0_learn_113 rfl ?_
                    refine rj_iconst (pc := 114) (v := nI 4) F dX0_learn_114 (by decide) ?_
                    refine rj_imulE (pc := 115) F dX0_learn_115 (pk_mul _ _) ?_
                    refine rj_iload (pc := 116) F dX0_learn_116 rfl ?_
                    refine rj_iaddE (pc := 118) F dX0_learn_118 (nI_add _ _) ?_
                    refine rj_aload_n (pc := 119) F dX0_learn_119 rfl ?_
                    refine rj_iload_n (pc := 120) F dX0_learn_120 rfl ?_
                    refine rj_iload_n (pc := 121) F dX0_learn_121 rfl ?_
                    refine rj_iload (pc := 122) F dX0_learn_122 rfl ?_
                    refine rj_calli3 (pc := 124) F K rs_rcX (ct_X0_project l D dB dI a q3 hvd hmi hx4 hTl3 htt) (lw_V q106 q108 qs3 q16 q109) (by decide +kernel) ⟨rfl, rfl⟩ ⟨Nat.le_of_ble_eq_true rfl, Nat.le_of_ble_eq_true rfl⟩ (Nat.le_of_ble_eq_true rfl) dX0_learn_124 (fun r S4 hp => ?_)
                    obtain ⟨T4, p1, p2, p3, p4⟩ := hp
                    have hp3 : T4 = T3 ∨ ((t ≠ 0 ∧ pp_mi x t) ∧ ∃ L, T4 = T3 ++ [L]) := p3.elim Or.inl (fun q => Or.inr ⟨⟨q.1, q.2.1⟩, q.2.2⟩)
                    have hb8 := rs_cd_b8 p1 p2.1
                    have e0 := p4 0 (by omega)
                    have e1 := p4 1 (by omega)
                    have e3 := p4 3 (by omega)
                    have e4 := p4 4 (by omega)
                    refine rj_i2b (pc := 127) F dX0_learn_127 hb8.1 ?_
                    refine rx_s4 (pc := 128) F K dX0_learn_128 rfl (by omega) hb8.2 ?_
                    refine rj_iinc (pc := 129) F dX0_learn_129 rfl (by decide) (rs_inc x) ?_
                    refine rj_goto (pc := 132) (tgt := 103) F dX0_learn_132 (by decide) ?_
                    refine rj_to4 (ihn (x + 1) T4 (rs_sU S4 4 (m * 4 + x) r) (by omega) (by omega) ⟨⟨q3.1.1, ?_, ?_⟩, rs_TB_congr p2 rfl rfl rfl rfl rfl, fun j j1 j2 => ⟨?_, fun y hy => ?_⟩⟩ ?_ (fun y hy => ?_) ?_ (fun q hqq => ?_)) rfl rfl rfl rfl
                    · show S4 0 0 = _
                      rw [e0]
                      exact q3.1.2.1
                    · intro j hj
                      show S4 1 j = _
                      rw [e1]
                      exact q3.1.2.2 j hj
                    · show S4 3 j = _
                      rw [e3]
                      exact (q3.2.2 j j1 j2).1
                    · rw [rs_sU_j _ _ _ (by omega), e4]
                      exact rs_cd_mono hp3 ((q3.2.2 j j1 j2).2 y hy)
                    · show S4 3 m = _
                      rw [e3]
                      exact q4
                    · by_cases e : y = x
                      · subst e
                        rw [rs_sU_s]
                        exact p1
                      · rw [rs_sU_j _ _ _ (by omega), e4]
                        exact rs_cd_mono hp3 (q5 y (by omega))
                    · rcases p3 with e | ⟨-, hmi2, L, e⟩
                      · rw [e]
                        split at q6 <;> split at q6 <;> split <;> split <;> omega
                      · rw [e, List.length_append]
                        show T3.length + 1 ≤ _
                        rcases hmi2 with e2 | e2
                        · rw [if_neg (by omega)] at q6
                          rw [if_pos (by omega)]
                          split at q6 <;> split <;> omega
                        · rw [if_pos (show pp_rc t < x + 1 by omega)]
                          rw [if_neg (show ¬ pp_rc t < x by omega)] at q6
                          split at q6 <;> split <;> omega
                    · show rs_sU S4 4 (m * 4 + x) r q = _
                      funext j
                      rw [rs_sU_k _ _ _ _ (by omega), p4 q (by omega), q7 q hqq]
              refine rj_iconst (pc := 100) (v := nI 0) F dX0_learn_100 (by decide) ?_
              refine rj_istore (pc := 101) F dX0_learn_101 (by decide) ?_
              refine rj_to4 (inner 5 0 T (rs_sU S2 3 m (nI (pp_ln pp_ar 1 (ts.drop m)))) (by omega) (by omega) ⟨⟨hN.1.1, hN.1.2.1, hN.1.2.2⟩, rs_TB_congr hN.2.1 rfl rfl rfl rfl rfl, fun j j1 j2 => ⟨?_, (hN.2.2 j j1 j2).2⟩⟩ (rs_sU_s _ _ _ _) (fun y hy => absurd hy (by omega)) (by omega) (fun q hqq => ?_)) rfl rfl rfl rfl
              · rw [rs_sU_j _ _ _ (by omega)]
                exact (hN.2.2 j j1 j2).1
              · funext j
                rw [rs_sU_k _ _ _ _ (by omega), hq q hqq]
            rw [hdr] at K100
            refine rj_iload_n (pc := 35) F dX0_learn_35 rfl ?_
            refine rj_if_lt (pc := 36) (tgt := 141) F dX0_learn_36 (by decide) (fun c36 => ?_) (fun c36 => ?_)
            · exact absurd c36 (nI_pos (by omega))
            · refine rj_aload_n (pc := 39) F dX0_learn_39 rfl ?_
              refine rx_g1 (pc := 40) F K q27 dX0_learn_40 ?_
              refine rj_iload_n (pc := 43) F dX0_learn_43 rfl ?_
              refine rx_l1 (pc := 44) F K dX0_learn_44 rfl (by omega) ?_
              refine rj_top gi ?_
              refine rj_callps1 (pc := 45) F (ct_X0_labelsOf l t33) (lw_S q83 q84 q16 q85) (by decide +kernel) ⟨rfl, rfl⟩ ⟨Nat.le_of_ble_eq_true rfl, Nat.le_of_ble_eq_true rfl⟩ (Nat.le_of_ble_eq_true rfl) dX0_learn_45 ?_
              refine rj_istore_n (pc := 48) F dX0_learn_48 (by decide) ?_
              refine rj_iload_n (pc := 49) F dX0_learn_49 rfl ?_
              refine rj_if_le (pc := 50) (tgt := 64) F dX0_learn_50 (by decide) (fun c50 => ?_) (fun c50 => ?_)
              · have ha : pp_ar t = 0 := by
                  rw [← nI_0, nI_leI (by omega) (by omega)] at c50
                  omega
                have ht0 := pp_ar_0 ha
                have hln : pp_ln pp_ar 1 (t :: ts.drop (m + 1)) = 1 := by rw [ht0]; exact pp_ln_0t _
                rw [hln] at K100
                refine rj_iconst (pc := 64) (v := nI 0) F dX0_learn_64 (by decide) ?_
                refine rj_istore_n (pc := 65) F dX0_learn_65 (by decide) ?_
                refine rj_iload_n (pc := 66) F dX0_learn_66 rfl ?_
                refine rj_iconst (pc := 67) (v := nI 1) F dX0_learn_67 (by decide) ?_
                refine rj_icmp_le (pc := 68) (tgt := 84) F dX0_learn_68 (by decide) (fun c68 => ?_) (fun c68 => ?_)
                · refine rj_iconst (pc := 84) (v := nI 0) F dX0_learn_84 (by decide) ?_
                  refine rj_istore (pc := 85) F dX0_learn_85 (by decide) ?_
                  refine rj_aload_n (pc := 87) F dX0_learn_87 rfl ?_
                  refine rx_g3 (pc := 88) F K q29 dX0_learn_88 ?_
                  refine rj_iload_n (pc := 91) F dX0_learn_91 rfl ?_
                  refine rj_iconst (pc := 92) (v := nI 1) F dX0_learn_92 (by decide) ?_
                  refine rj_iload_n (pc := 93) F dX0_learn_93 rfl ?_
                  refine rj_iaddE (pc := 94) F dX0_learn_94 (nI_add _ _) ?_
                  refine rj_iload (pc := 95) F dX0_learn_95 rfl ?_
                  refine rj_iaddE (pc := 97) F dX0_learn_97 (nI_add _ _) ?_
                  refine rj_i2b (pc := 98) F dX0_learn_98 (rs_b8 _ (by omega)) ?_
                  refine rx_s3 (pc := 99) F K dX0_learn_99 rfl (by omega) (rs_n8 (by omega)) ?_
                  exact rj_to3 K100 rfl rfl rfl
                · rw [nI_leI (by omega) (by omega)] at c68
                  omega
              · have ha1 : 1 ≤ pp_ar t := by
                  rw [← nI_0, nI_leI (by omega) (by omega)] at c50
                  omega
                have hge : 1 ≤ pp_hg pp_ar (ts.drop (m + 1)) := Nat.le_trans ha1 hvm.1
                have hlen1 : m + 1 < ts.length := by
                  have := pp_hg_le (ar := pp_ar) (ts.drop (m + 1))
                  rw [List.length_drop] at this
                  omega
                obtain ⟨r1, -⟩ := hN.2.2 (m + 1) (Nat.le_refl _) hlen1
                have hle1 := pp_ln_le (ar := pp_ar) 1 (ts.drop (m + 1))
                rw [List.length_drop] at hle1
                refine rj_aload_n (pc := 53) F dX0_learn_53 rfl ?_
                refine rx_g3 (pc := 54) F K q29 dX0_learn_54 ?_
                refine rj_iload_n (pc := 57) F dX0_learn_57 rfl ?_
                refine rj_iconst (pc := 58) (v := nI 1) F dX0_learn_58 (by decide) ?_
                refine rj_iaddE (pc := 59) F dX0_learn_59 (nI_add _ _) ?_
                refine rx_l3 (pc := 60) F K dX0_learn_60 rfl (by omega) ?_
                refine rj_top r1 ?_
                refine rj_goto (pc := 61) (tgt := 65) F dX0_learn_61 (by decide) ?_
                refine rj_istore_n (pc := 65) F dX0_learn_65 (by decide) ?_
                refine rj_iload_n (pc := 66) F dX0_learn_66 rfl ?_
                refine rj_iconst (pc := 67) (v := nI 1) F dX0_learn_67 (by decide) ?_
                refine rj_icmp_le (pc := 68) (tgt := 84) F dX0_learn_68 (by decide) (fun c68 => ?_) (fun c68 => ?_)
                · rw [nI_leI (by omega) (by omega)] at c68
                  have ha : pp_ar t = 1 := by omega
                  rw [pp_ln_1t _ ha] at K100
                  refine rj_iconst (pc := 84) (v := nI 0) F dX0_learn_84 (by decide) ?_
                  refine rj_istore (pc := 85) F dX0_learn_85 (by decide) ?_
                  refine rj_aload_n (pc := 87) F dX0_learn_87 rfl ?_
                  refine rx_g3 (pc := 88) F K q29 dX0_learn_88 ?_
                  refine rj_iload_n (pc := 91) F dX0_learn_91 rfl ?_
                  refine rj_iconst (pc := 92) (v := nI 1) F dX0_learn_92 (by decide) ?_
                  refine rj_iload_n (pc := 93) F dX0_learn_93 rfl ?_
                  refine rj_iaddE (pc := 94) F dX0_learn_94 (nI_add _ _) ?_
                  refine rj_iload (pc := 95) F dX0_learn_95 rfl ?_
                  refine rj_iaddE (pc := 97) F dX0_learn_97 (nI_add _ _) ?_
                  refine rj_i2b (pc := 98) F dX0_learn_98 (rs_b8 _ (by omega)) ?_
                  refine rx_s3 (pc := 99) F K dX0_learn_99 rfl (by omega) (rs_n8 (by omega)) ?_
                  exact rj_to3 K100 rfl rfl rfl
                · rw [nI_leI (by omega) (by omega)] at c68
                  have ha : pp_ar t = 2 := by omega
                  have h2g : 2 ≤ pp_hg pp_ar (ts.drop (m + 1)) := by have := hvm.1; omega
                  have hdd : (ts.drop (m + 1)).drop (pp_ln pp_ar 1 (ts.drop (m + 1))) = ts.drop (m + 1 + pp_ln pp_ar 1 (ts.drop (m + 1))) := List.drop_drop
                  have hlen2 : m + 1 + pp_ln pp_ar 1 (ts.drop (m + 1)) < ts.length := by
                    have e := pp_hg_skip hvm.2 (k := 1) (by omega)
                    have := pp_hg_le (ar := pp_ar) ((ts.drop (m + 1)).drop (pp_ln pp_ar 1 (ts.drop (m + 1))))
                    rw [hdd, List.length_drop] at this
                    rw [hdd] at e
                    omega
                  obtain ⟨s1, -⟩ := hN.2.2 _ (show m + 1 ≤ m + 1 + pp_ln pp_ar 1 (ts.drop (m + 1)) by omega) hlen2
                  have hle2 := pp_ln_le (ar := pp_ar) 1 (ts.drop (m + 1 + pp_ln pp_ar 1 (ts.drop (m + 1))))
                  rw [List.length_drop] at hle2
                  rw [pp_ln_2t hvm ha, hdd] at K100
                  refine rj_aload_n (pc := 71) F dX0_learn_71 rfl ?_
                  refine rx_g3 (pc := 72) F K q29 dX0_learn_72 ?_
                  refine rj_iload_n (pc := 75) F dX0_learn_75 rfl ?_
                  refine rj_iconst (pc := 76) (v := nI 1) F dX0_learn_76 (by decide) ?_
                  refine rj_iaddE (pc := 77) F dX0_learn_77 (nI_add _ _) ?_
                  refine rj_iload_n (pc := 78) F dX0_learn_78 rfl ?_
                  refine rj_iaddE (pc := 79) F dX0_learn_79 (nI_add _ _) ?_
                  refine rx_l3 (pc := 80) F K dX0_learn_80 rfl (by omega) ?_
                  refine rj_top s1 ?_
                  refine rj_goto (pc := 81) (tgt := 85) F dX0_learn_81 (by decide) ?_
                  refine rj_istore (pc := 85) F dX0_learn_85 (by decide) ?_
                  refine rj_aload_n (pc := 87) F dX0_learn_87 rfl ?_
                  refine rx_g3 (pc := 88) F K q29 dX0_learn_88 ?_
                  refine rj_iload_n (pc := 91) F dX0_learn_91 rfl ?_
                  refine rj_iconst (pc := 92) (v := nI 1) F dX0_learn_92 (by decide) ?_
                  refine rj_iload_n (pc := 93) F dX0_learn_93 rfl ?_
                  refine rj_iaddE (pc := 94) F dX0_learn_94 (nI_add _ _) ?_
                  refine rj_iload (pc := 95) F dX0_learn_95 rfl ?_
                  refine rj_iaddE (pc := 97) F dX0_learn_97 (nI_add _ _) ?_
                  refine rj_i2b (pc := 98) F dX0_learn_98 (rs_b8 _ (by omega)) ?_
                  refine rx_s3 (pc := 99) F K dX0_learn_99 rfl (by omega) (rs_n8 (by omega)) ?_
                  exact rj_to3 K100 rfl rfl rfl
        refine rj_aload_n (pc := 18) F dX0_learn_18 rfl ?_
        refine rj_iconst (pc := 19) (v := nI 1) F dX0_learn_19 (by decide) ?_
        refine rx_p2 (pc := 20) F K q28 dX0_learn_20 (by decide) (by decide) ?_
        refine rj_aload_n (pc := 23) F dX0_learn_23 rfl ?_
        refine rj_iconst (pc := 24) (v := nI 1) F dX0_learn_24 (by decide) ?_
        refine rx_p5 (pc := 25) F K q31 dX0_learn_25 ?_
        refine rj_aload_n (pc := 28) F dX0_learn_28 rfl ?_
        refine rx_g0 (pc := 29) F K q26 dX0_learn_29 ?_
        refine rj_top (y := nI ts.length) hcnt ?_
        refine rj_iconst (pc := 32) (v := nI 1) F dX0_learn_32 (by decide) ?_
        refine rj_isub (pc := 33) F dX0_learn_33 ?_
        refine rj_istore_n (pc := 34) F dX0_learn_34 (by decide) ?_
        refine rj_to2 (outer ts.length [[0]] (rs_sU (rs_sU S1 2 0 (nI 1)) 5 0 (nI 1)) (Nat.le_refl _) ⟨⟨h.1, hcnt, h.2.2.2.1⟩, ⟨by simp, rfl, rfl, h.2.2.2.2.1, ?_, ?_, ?_⟩, fun j j1 j2 => absurd j2 (by omega)⟩ (by simp) (fun _ _ => rfl)) rfl rfl
        · intro p q L hp hq
          have b1 := (List.getElem?_eq_some_iff.mp hp).1
          have b2 := (List.getElem?_eq_some_iff.mp hq).1
          simp at b1 b2
          omega
        · intro L hL
          rw [List.mem_singleton.mp hL]
          exact pp_lt_0
        · intro p p1 p2
          simp at p2
          omega
      · exact absurd nI_0 c13
    · refine rj_top hk1.1 ?_
      refine rj_if_eq (pc := 13) (tgt := 18) F dX0_learn_13 (by decide) (fun c13 => ?_) (fun c13 => ?_)
      · exact absurd c13 (by decide)
      · refine rj_iconst (pc := 16) (v := nI 1) F dX0_learn_16 (by decide) ?_
        exact Rr 17 _ _ _ dX0_learn_17 (by decide) ⟨(rs_bz_t hcp).symm, h, fun _ => hk1.1⟩
  · have hcp := rs_bz_eq c4
    refine rj_iconst (pc := 7) (v := nI 0) F dX0_learn_7 (by decide) ?_
    exact Rr 8 _ _ _ dX0_learn_8 (by decide) ⟨(rs_bz_f hcp).symm, h, fun q => absurd q hcp⟩
end XL
end
section
/-! RoleSessions: fixed, fit, size, start -/
theorem rs_IX.known {ts : List Nat} {run : rs_Rn} {S : rs_St} (h : rs_IX ts run S) (hk : S 2 0 = nI 1) : pp_cp ts ∧ ∃ T, rs_TB T S ∧ (∀ x, x < 4 → rs_cd T (pp_p1 x ts) (S 4 x)) ∧ ∀ g n, run = some (g, n) → ∀ x, x < 4 → rs_cd T (pp_p1 x g) (S 11 x) := by
  rcases h.2.2.2.2.2.2 with ⟨k0, -⟩ | ⟨-, hcp, T, h1, h2, h3⟩
  · rw [hk] at k0
    exact absurd k0 (by decide)
  · exact ⟨hcp, T, h1, h2, h3⟩
theorem rs_fx_nI {ts : List Nat} {i : Nat} (hi : i < 4) : rs_fx ts (nI i) ↔ pp_cp ts ∧ (pp_p1 i ts).isSome = true := by
  unfold rs_fx
  rw [nI_clamp (by omega)]
  constructor
  · intro h; exact ⟨h.2.1, h.2.2⟩
  · intro h; exact ⟨(rs_ro_of rfl hi).1, h.1, h.2⟩
section XF
variable (l : Launch) (D : va_G) (dB dI : ClassId) (a : Nat → Nat)
set_option maxHeartbeats 4000000 in
theorem ct_X0_fixed {ts : List Nat} {run : rs_Rn} {S : rs_St} (x : Int32) (h : rs_IX ts run S) : rs_CT (rs_GX l D dB dI a) yX0_fixed cX0_fixed 2 (some .boolean) rm_X0_fixed [.ref (a 0), .int x] S (fun r S' => r = rs_aX ts x ∧ rs_IX ts run S' ∧ (rs_fx ts x → S' 2 0 = nI 1)) := by
  refine rs_ofz (own := RX0) (by decide) rfl (Nat.le_of_ble_eq_true rfl) rfl rfl ?_
  intro E F K Rr
  refine rj_iload_n (pc := 0) F dX0_fixed_0 rfl ?_
  refine rj_callps1 (pc := 1) F (ct_X0_isRole l x) (lw_S q99 q100 q16 q101) (by decide +kernel) ⟨rfl, rfl⟩ ⟨Nat.le_of_ble_eq_true rfl, Nat.le_of_ble_eq_true rfl⟩ (Nat.le_of_ble_eq_true rfl) dX0_fixed_1 ?_
  refine rj_if_eq (pc := 4) (tgt := 28) F dX0_fixed_4 (by decide) (fun c4 => ?_) (fun c4 => ?_)
  · have hro := rs_bz_eq c4
    refine rj_iconst (pc := 28) (v := nI 0) F dX0_fixed_28 (by decide) ?_
    exact Rr 29 _ _ _ dX0_fixed_29 (by decide) ⟨(rs_bz_f (fun q => hro q.1)).symm, h, fun q => absurd q.1 hro⟩
  · have hro := rs_bz_ne c4
    refine rj_aload_n (pc := 7) F dX0_fixed_7 rfl ?_
    refine rj_calli0 (pc := 8) F K rs_rcX (ct_X0_learn l D dB dI a h) (lw_V q102 q104 qs2 q16 q105) (by decide +kernel) ⟨rfl, rfl⟩ ⟨Nat.le_of_ble_eq_true rfl, Nat.le_of_ble_eq_true rfl⟩ (Nat.le_of_ble_eq_true rfl) dX0_fixed_8 (fun r S1 hp => ?_)
    obtain ⟨rfl, hI, hk⟩ := hp
    refine rj_if_eq (pc := 11) (tgt := 28) F dX0_fixed_11 (by decide) (fun c11 => ?_) (fun c11 => ?_)
    · have hcp := rs_bz_eq c11
      refine rj_iconst (pc := 28) (v := nI 0) F dX0_fixed_28 (by decide) ?_
      exact Rr 29 _ _ _ dX0_fixed_29 (by decide) ⟨(rs_bz_f (fun q => hcp q.2.1)).symm, hI, fun q => absurd q.2.1 hcp⟩
    · have hcp := rs_bz_ne c11
      have hk1 := hk hcp
      obtain ⟨j, hj, rfl⟩ := rs_ro_to hro
      obtain ⟨-, T, t1, t2, -⟩ := hI.known hk1
      have t2 := t2 j hj
      refine rj_aload_n (pc := 14) F dX0_fixed_14 rfl ?_
      refine rx_g4 (pc := 15) F K q30 dX0_fixed_15 ?_
      refine rj_iload_n (pc := 18) F dX0_fixed_18 rfl ?_
      refine rx_l4 (pc := 19) F K dX0_fixed_19 rfl (by omega) ?_
      refine rj_iconst (pc := 20) (v := (-1)) F dX0_fixed_20 (by decide) ?_
      refine rj_icmp_eq (pc := 21) (tgt := 28) F dX0_fixed_21 (by decide) (fun c21 => ?_) (fun c21 => ?_)
      · have e := rs_cd_m1 t2 t1.1 c21
        refine rj_iconst (pc := 28) (v := nI 0) F dX0_fixed_28 (by decide) ?_
        exact Rr 29 _ _ _ dX0_fixed_29 (by decide) ⟨(rs_bz_f (fun q => by have := ((rs_fx_nI hj).mp q).2; rw [e] at this; cases this)).symm, hI, fun _ => hk1⟩
      · obtain ⟨L, p, e, -, -⟩ := rs_cd_ne t2 c21
        refine rj_iconst (pc := 24) (v := nI 1) F dX0_fixed_24 (by decide) ?_
        refine rj_goto (pc := 25) (tgt := 29) F dX0_fixed_25 (by decide) ?_
        exact Rr 29 _ _ _ dX0_fixed_29 (by decide) ⟨(rs_bz_t ((rs_fx_nI hj).mpr ⟨hcp, by rw [e]; rfl⟩)).symm, hI, fun _ => hk1⟩
set_option maxHeartbeats 4000000 in
theorem ct_X0_fit {ts : List Nat} {run : rs_Rn} {S : rs_St} (h : rs_IX ts run S) : rs_CT (rs_GX l D dB dI a) yX0_fit cX0_fit 1 (some .boolean) rm_X0_fit [.ref (a 0)] S (fun r S' => r = rs_aF ts ∧ rs_IX ts run S' ∧ (pp_cp ts ∧ pp_ft ts → S' 2 0 = nI 1)) := by
  refine rs_ofz (own := RX0) (by decide) rfl (Nat.le_of_ble_eq_true rfl) rfl rfl ?_
  intro E F K Rr
  have K36 : ∀ S' : rs_St, rs_IX ts run S' → ¬ (pp_cp ts ∧ pp_ft ts) → rs_J (rs_GX l D dB dI a) E 36 [] [] S' := by
    intro S' hI hn
    refine rj_iconst (pc := 36) (v := nI 0) F dX0_fit_36 (by decide) ?_
    exact Rr 37 _ _ _ dX0_fit_37 (by decide) ⟨(rs_bz_f hn).symm, hI, fun q => absurd q hn⟩
  refine rj_aload_n (pc := 0) F dX0_fit_0 rfl ?_
  refine rj_iconst (pc := 1) (v := nI 0) F dX0_fit_1 (by decide) ?_
  refine rj_calli1 (pc := 2) F K rs_rcX (ct_X0_fixed l D dB dI a (nI 0) h) (lw_V q124 q96 q97 q16 q98) (by decide +kernel) ⟨rfl, rfl⟩ ⟨Nat.le_of_ble_eq_true rfl, Nat.le_of_ble_eq_true rfl⟩ (Nat.le_of_ble_eq_true rfl) dX0_fit_2 (fun r0 S0 hp => ?_)
  obtain ⟨rfl, h0, -⟩ := hp
  refine rj_if_eq (pc := 5) (tgt := 36) F dX0_fit_5 (by decide) (fun c5 => ?_) (fun c5 => ?_)
  · exact rj_sb (lv' := []) trivial (K36 S0 h0 (fun q => rs_bz_eq c5 ((rs_fx_nI (by decide)).mpr ⟨q.1, q.2.1⟩)))
  · have b0 := (rs_fx_nI (by decide)).mp (rs_bz_ne c5)
    refine rj_aload_n (pc := 8) F dX0_fit_8 rfl ?_
    refine rj_iconst (pc := 9) (v := nI 1) F dX0_fit_9 (by decide) ?_
    refine rj_calli1 (pc := 10) F K rs_rcX (ct_X0_fixed l D dB dI a (nI 1) h0) (lw_V q124 q96 q97 q16 q98) (by decide +kernel) ⟨rfl, rfl⟩ ⟨Nat.le_of_ble_eq_true rfl, Nat.le_of_ble_eq_true rfl⟩ (Nat.le_of_ble_eq_true rfl) dX0_fit_10 (fun r1 S1 hp => ?_)
    obtain ⟨rfl, h1, -⟩ := hp
    refine rj_if_eq (pc := 13) (tgt := 36) F dX0_fit_13 (by decide) (fun c13 => ?_) (fun c13 => ?_)
    · exact rj_sb (lv' := []) trivial (K36 S1 h1 (fun q => rs_bz_eq c13 ((rs_fx_nI (by decide)).mpr ⟨q.1, q.2.2.1⟩)))
    · have b1 := (rs_fx_nI (by decide)).mp (rs_bz_ne c13)
      refine rj_aload_n (pc := 16) F dX0_fit_16 rfl ?_
      refine rj_iconst (pc := 17) (v := nI 2) F dX0_fit_17 (by decide) ?_
      refine rj_calli1 (pc := 18) F K rs_rcX (ct_X0_fixed l D dB dI a (nI 2) h1) (lw_V q124 q96 q97 q16 q98) (by decide +kernel) ⟨rfl, rfl⟩ ⟨Nat.le_of_ble_eq_true rfl, Nat.le_of_ble_eq_true rfl⟩ (Nat.le_of_ble_eq_true rfl) dX0_fit_18 (fun r2 S2 hp => ?_)
      obtain ⟨rfl, h2, -⟩ := hp
      refine rj_if_eq (pc := 21) (tgt := 36) F dX0_fit_21 (by decide) (fun c21 => ?_) (fun c21 => ?_)
      · exact rj_sb (lv' := []) trivial (K36 S2 h2 (fun q => rs_bz_eq c21 ((rs_fx_nI (by decide)).mpr ⟨q.1, q.2.2.2.1⟩)))
      · have b2 := (rs_fx_nI (by decide)).mp (rs_bz_ne c21)
        refine rj_aload_n (pc := 24) F dX0_fit_24 rfl ?_
        refine rj_iconst (pc := 25) (v := nI 3) F dX0_fit_25 (by decide) ?_
        refine rj_calli1 (pc := 26) F K rs_rcX (ct_X0_fixed l D dB dI a (nI 3) h2) (lw_V q124 q96 q97 q16 q98) (by decide +kernel) ⟨rfl, rfl⟩ ⟨Nat.le_of_ble_eq_true rfl, Nat.le_of_ble_eq_true rfl⟩ (Nat.le_of_ble_eq_true rfl) dX0_fit_26 (fun r3 S3 hp => ?_)
        obtain ⟨rfl, h3, hk⟩ := hp
        refine rj_if_eq (pc := 29) (tgt := 36) F dX0_fit_29 (by decide) (fun c29 => ?_) (fun c29 => ?_)
        · exact rj_sb (lv' := []) trivial (K36 S3 h3 (fun q => rs_bz_eq c29 ((rs_fx_nI (by decide)).mpr ⟨q.1, q.2.2.2.2⟩)))
        · have b3' := rs_bz_ne c29
          have b3 := (rs_fx_nI (by decide)).mp b3'
          refine rj_iconst (pc := 32) (v := nI 1) F dX0_fit_32 (by decide) ?_
          refine rj_goto (pc := 33) (tgt := 37) F dX0_fit_33 (by decide) ?_
          exact Rr 37 _ _ _ dX0_fit_37 (by decide) ⟨(rs_bz_t ⟨b0.1, b0.2, b1.2, b2.2, b3.2⟩).symm, h3, fun _ => hk b3'⟩
set_option maxHeartbeats 4000000 in
theorem ct_X0_size {ts : List Nat} {run : rs_Rn} {S : rs_St} (x : Int32) (h : rs_IX ts run S) : rs_CT (rs_GX l D dB dI a) yX0_size cX0_size 2 (some .int) rm_X0_size [.ref (a 0), .int x] S (fun r S' => r = rs_aS ts x ∧ rs_IX ts run S') := by
  refine rs_ofi (own := RX0) (by decide) rfl (Nat.le_of_ble_eq_true rfl) rfl rfl ?_
  intro E F K Rr
  refine rj_aload_n (pc := 0) F dX0_size_0 rfl ?_
  refine rj_iload_n (pc := 1) F dX0_size_1 rfl ?_
  refine rj_calli1 (pc := 2) F K rs_rcX (ct_X0_fixed l D dB dI a x h) (lw_V q124 q96 q97 q16 q98) (by decide +kernel) ⟨rfl, rfl⟩ ⟨Nat.le_of_ble_eq_true rfl, Nat.le_of_ble_eq_true rfl⟩ (Nat.le_of_ble_eq_true rfl) dX0_size_2 (fun r S1 hp => ?_)
  obtain ⟨rfl, hI, hk⟩ := hp
  refine rj_if_eq (pc := 5) (tgt := 22) F dX0_size_5 (by decide) (fun c5 => ?_) (fun c5 => ?_)
  · have hf := rs_bz_eq c5
    refine rj_iconst (pc := 22) (v := (-1)) F dX0_size_22 (by decide) ?_
    exact Rr 23 _ _ _ dX0_size_23 ⟨by unfold rs_aS; rw [if_neg hf], hI⟩
  · have hf := rs_bz_ne c5
    have e : rs_aS ts x = nI (pp_ct (pp_q1 x.toNatClampNeg ts)) := by unfold rs_aS; rw [if_pos hf]
    obtain ⟨-, T, t1, t2, -⟩ := hI.known (hk hf)
    obtain ⟨j, hj, rfl⟩ := rs_ro_to hf.1
    have hs := ((rs_fx_nI hj).mp hf).2
    have t2 := t2 j hj
    rw [nI_clamp (by omega)] at e
    obtain ⟨L, hL⟩ := Option.isSome_iff_exists.mp hs
    have hq : pp_q1 j ts = L := by unfold pp_q1; rw [hL]; rfl
    rw [hL] at t2
    rw [hq] at e
    obtain ⟨p, p1, p2⟩ := t2
    obtain ⟨r1, r2, -⟩ := t1.row p1
    refine rj_aload_n (pc := 8) F dX0_size_8 rfl ?_
    refine rx_g9 (pc := 9) F K q35 dX0_size_9 ?_
    refine rj_aload_n (pc := 12) F dX0_size_12 rfl ?_
    refine rx_g4 (pc := 13) F K q30 dX0_size_13 ?_
    refine rj_iload_n (pc := 16) F dX0_size_16 rfl ?_
    refine rx_l4 (pc := 17) F K dX0_size_17 rfl (by omega) ?_
    refine rj_top p2 ?_
    refine rx_l9 (pc := 18) F K dX0_size_18 rfl r1 ?_
    refine rj_top r2 ?_
    refine rj_goto (pc := 19) (tgt := 23) F dX0_size_19 (by decide) ?_
    exact Rr 23 _ _ _ dX0_size_23 ⟨e.symm, hI⟩
set_option maxHeartbeats 4000000 in
theorem ct_X0_start {ts : List Nat} {run : rs_Rn} {S : rs_St} (h : rs_IX ts run S) : rs_CT (rs_GX l D dB dI a) yX0_start cX0_start 2 (some .boolean) rm_X0_start [.ref (a 0)] S (fun r S' => r = (rs_oS ts run).1 ∧ rs_IX (rs_oS ts run).2.1 (rs_oS ts run).2.2 S') := by
  refine rs_ofz (own := RX0) (by decide) rfl (Nat.le_of_ble_eq_true rfl) rfl rfl ?_
  intro E F K Rr
  refine rj_aload_n (pc := 0) F dX0_start_0 rfl ?_
  refine rj_calli0 (pc := 1) F K rs_rcX (ct_X0_fit l D dB dI a h) (lw_V q133 q121 q122 q16 q123) (by decide +kernel) ⟨rfl, rfl⟩ ⟨Nat.le_of_ble_eq_true rfl, Nat.le_of_ble_eq_true rfl⟩ (Nat.le_of_ble_eq_true rfl) dX0_start_1 (fun r S1 hp => ?_)
  obtain ⟨rfl, hI, hk⟩ := hp
  refine rj_if_ne (pc := 4) (tgt := 9) F dX0_start_4 (by decide) (fun c4 => ?_) (fun c4 => ?_)
  · have hf := rs_bz_ne c4
    have e : rs_oS ts run = (nI 1, ts, some (ts, 0)) := by unfold rs_oS; rw [if_pos hf]
    obtain ⟨hcp, T, t1, t2, -⟩ := hI.known (hk hf)
    have hall : ∀ x, x < 4 → ∃ L p, pp_p1 x ts = some L ∧ T[p]? = some L ∧ p < 48 ∧ S1 4 x = nI p := by
      intro x hx
      have hs : (pp_p1 x ts).isSome = true := by
        have hx4 : x = 0 ∨ x = 1 ∨ x = 2 ∨ x = 3 := by omega
        rcases hx4 with rfl | rfl | rfl | rfl
        · exact hf.2.1
        · exact hf.2.2.1
        · exact hf.2.2.2.1
        · exact hf.2.2.2.2
      obtain ⟨L, hL⟩ := Option.isSome_iff_exists.mp hs
      have t2 := t2 x hx
      rw [hL] at t2
      obtain ⟨p, p1, p2⟩ := t2
      exact ⟨L, p, hL, p1, (t1.row p1).1, p2⟩
    have loop : ∀ (m k : Nat) (S2 : rs_St), k ≤ 4 → 5 ≤ k + m → (∀ q, q < 10 → S2 q = S1 q) → S2 10 0 = nI 1 → S2 12 0 = nI 0 → (∀ x, x < k → S2 11 x = S1 4 x) → rs_J (rs_GX l D dB dI a) E 21 [(1, .int (nI k)), (0, .ref (a 0))] [] S2 := by
      intro m
      induction m with
      | zero => intro k S2 q1 q2; omega
      | succ m ih =>
        intro k S2 q1 q2 q3 q4 q5 q6
        refine rj_iload_n (pc := 21) F dX0_start_21 rfl ?_
        refine rj_iconst (pc := 22) (v := nI 4) F dX0_start_22 (by decide) ?_
        refine rj_icmp_ge (pc := 23) (tgt := 44) F dX0_start_23 (by decide) (fun c23 => ?_) (fun c23 => ?_)
        · rw [nI_leI (by omega) (by omega)] at c23
          refine rj_iconst (pc := 44) (v := nI 1) F dX0_start_44 (by decide) ?_
          refine Rr 45 _ _ _ dX0_start_45 (by decide) ?_
          rw [e]
          refine ⟨rfl, hI.1, ?_, ?_, ?_, ?_, ⟨q4, q5⟩, Or.inr ⟨?_, hcp, T, rs_TB_congr t1 (q3 5 (by omega)) (q3 6 (by omega)) (q3 7 (by omega)) (q3 8 (by omega)) (q3 9 (by omega)), ?_, ?_⟩⟩
          · intro g n e2
            cases e2
            refine ⟨pp_wl_one hI.1 hcp, hI.1.1, fun x hx => ?_⟩
            obtain ⟨L, p, hL, -⟩ := hall x hx
            exact ⟨L, hL⟩
          · rw [q3 0 (by omega)]
            exact hI.2.2.1
          · rw [q3 1 (by omega)]
            exact hI.2.2.2.1
          · rw [q3 9 (by omega)]
            exact hI.2.2.2.2.1
          · rw [q3 2 (by omega)]
            exact hk hf
          · rw [q3 4 (by omega)]
            exact t2
          · intro g n e2 x hx
            cases e2
            rw [q6 x (by omega)]
            exact t2 x hx
        · rw [nI_leI (by omega) (by omega)] at c23
          obtain ⟨L, p, hL, p1, p2, p3⟩ := hall k (by omega)
          refine rj_aload_n (pc := 26) F dX0_start_26 rfl ?_
          refine rx_g11 (pc := 27) F K q37 dX0_start_27 ?_
          refine rj_iload_n (pc := 30) F dX0_start_30 rfl ?_
          refine rj_aload_n (pc := 31) F dX0_start_31 rfl ?_
          refine rx_g4 (pc := 32) F K q30 dX0_start_32 ?_
          refine rj_iload_n (pc := 35) F dX0_start_35 rfl ?_
          refine rx_l4 (pc := 36) F K dX0_start_36 rfl (by omega) ?_
          refine rj_top (y := nI p) (by rw [q3 4 (by omega)]; exact p3) ?_
          refine rx_s11 (pc := 37) F K dX0_start_37 rfl (by omega) (rs_n8 (by omega)) ?_
          refine rj_iinc (pc := 38) F dX0_start_38 rfl (by decide) (rs_inc k) ?_
          refine rj_goto (pc := 41) (tgt := 21) F dX0_start_41 (by decide) ?_
          refine rj_to2 (ih (k + 1) (rs_sU S2 11 k (nI p)) (by omega) (by omega) (fun q hq => ?_) q4 q5 (fun x hx => ?_)) rfl rfl
          · funext j
            rw [rs_sU_k _ _ _ _ (by omega), q3 q hq]
          · by_cases ex : x = k
            · subst ex
              rw [rs_sU_s, p3]
            · rw [rs_sU_j _ _ _ ex]
              exact q6 x (by omega)
    refine rj_aload_n (pc := 9) F dX0_start_9 rfl ?_
    refine rj_iconst (pc := 10) (v := nI 1) F dX0_start_10 (by decide) ?_
    refine rx_p10 (pc := 11) F K q36 dX0_start_11 (by decide) (by decide) ?_
    refine rj_aload_n (pc := 14) F dX0_start_14 rfl ?_
    refine rj_iconst (pc := 15) (v := nI 0) F dX0_start_15 (by decide) ?_
    refine rx_p12 (pc := 16) F K q38 dX0_start_16 ?_
    refine rj_iconst (pc := 19) (v := nI 0) F dX0_start_19 (by decide) ?_
    refine rj_istore_n (pc := 20) F dX0_start_20 (by decide) ?_
    refine rj_to2 (loop 5 0 (rs_sU (rs_sU S1 10 0 (nI 1)) 12 0 (nI 0)) (by omega) (by omega) (fun q hq => ?_) rfl rfl (fun x hx => absurd hx (by omega))) rfl rfl
    funext j
    rw [rs_sU_k _ _ _ _ (by omega), rs_sU_k _ _ _ _ (by omega)]
  · have hf := rs_bz_eq c4
    have e : rs_oS ts run = (nI 0, ts, run) := by unfold rs_oS; rw [if_neg hf]
    refine rj_iconst (pc := 7) (v := nI 0) F dX0_start_7 (by decide) ?_
    exact Rr 8 _ _ _ dX0_start_8 (by decide) (by rw [e]; exact ⟨rfl, hI⟩)
end XF
end
section
/-! RoleSessionsModel: the signs: complete, write, rub, runs, sent -/
theorem rs_need2 {o b : Nat} (h : 1 ≤ o) : nI o - nI 1 + nI b = nI (o - 1 + b) := by rw [pk_sub h, nI_add]
def rs_tM (ts : List Nat) (S : rs_St) : Prop := pp_wl ts ∧ S 1 0 = nI ts.length ∧ ∀ j, j < ts.length → S 0 j = nI (ts.getD j 0)
theorem rs_IM.tM {ts : List Nat} {run : rs_Rn} {S : rs_St} (h : rs_IM ts run S) : rs_tM ts S := ⟨h.1, h.2.2.1, h.2.2.2.1⟩
theorem rs_IM.run0 {ts : List Nat} {S : rs_St} (h : rs_IM ts none S) : S 2 0 = nI 0 := h.2.2.2.2
theorem rs_IM.run1 {ts g : List Nat} {n : Nat} {S : rs_St} (h : rs_IM ts (some (g, n)) S) : S 2 0 = nI 1 ∧ S 3 0 = nI n ∧ S 1 1 = nI g.length ∧ ∀ j, j < g.length → S 0 (21 + j) = nI (g.getD j 0) := h.2.2.2.2
theorem rs_IM_congr {ts : List Nat} {run : rs_Rn} {S S' : rs_St} (h : rs_IM ts run S) (e : ∀ q, q < 4 → S' q = S q) : rs_IM ts run S' := by
  unfold rs_IM at h ⊢
  rw [e 0 (by omega), e 1 (by omega), e 2 (by omega), e 3 (by omega)]
  exact h
theorem rs_IM_write {ts : List Nat} {run : rs_Rn} {S : rs_St} {t : Nat} (h : rs_IM ts run S) (ht : pp_tk t) (hc : ¬ pp_cp ts) (hl : ts.length < 21) : rs_IM (ts ++ [t]) none (rs_sU (rs_sU (rs_sU S 2 0 (nI 0)) 0 ts.length (nI t)) 1 0 (nI (ts.length + 1))) := by
  obtain ⟨⟨w1, w2, w3⟩, -, h3, h4, -⟩ := h
  refine ⟨⟨by simp; omega, ?_, ?_⟩, (fun g n e => by cases e), ?_, ?_, ?_⟩
  · intro u hu
    rcases List.mem_append.mp hu with e | e
    · exact w2 u e
    · rw [List.mem_singleton.mp e]; exact ht
  · exact pp_pr_app.mpr ⟨w3, Nat.one_le_iff_ne_zero.mpr hc⟩
  · rw [List.length_append]
    rfl
  · intro j hj
    show rs_sU (rs_sU S 2 0 (nI 0)) 0 ts.length (nI t) 0 j = _
    by_cases e : j = ts.length
    · rw [e, rs_sU_s]
      simp
    · rw [rs_sU_j _ _ _ e]
      simp at hj
      show S 0 j = _
      rw [h4 j (by omega), List.getD_eq_getElem?_getD, List.getD_eq_getElem?_getD, List.getElem?_append_left (by omega)]
  · rfl
theorem rs_IM_rub {ts : List Nat} {run : rs_Rn} {S : rs_St} {v : Int32} (h : rs_IM ts run S) (hn : ts ≠ []) (hv : v = nI (ts.length - 1)) : rs_IM ts.dropLast none (rs_sU (rs_sU S 2 0 (nI 0)) 1 0 v) := by
  obtain ⟨⟨w1, w2, w3⟩, -, h3, h4, -⟩ := h
  have hd : ts.dropLast ++ [ts.getLast hn] = ts := List.dropLast_concat_getLast hn
  have hlen : ts.dropLast.length = ts.length - 1 := List.length_dropLast
  refine ⟨⟨by omega, fun u hu => w2 u (by rw [← hd]; exact List.mem_append_left _ hu), ?_⟩, (fun g n e => by cases e), ?_, ?_, ?_⟩
  · rw [← hd] at w3
    exact (pp_pr_app.mp w3).1
  · rw [hlen, ← hv]
    rfl
  · intro j hj
    rw [hlen] at hj
    have h1 := h4 j (by omega)
    have h2 : ts.dropLast.getD j 0 = ts.getD j 0 := by
      have : ts.getD j 0 = (ts.dropLast ++ [ts.getLast hn]).getD j 0 := by rw [hd]
      rw [this, List.getD_eq_getElem?_getD, List.getD_eq_getElem?_getD, List.getElem?_append_left (by omega)]
    rw [h2]
    exact h1
  · rfl
section MW
variable (l : Launch) (D : va_G) (dI : ClassId) (a : Nat → Nat)
set_option maxHeartbeats 4000000 in
theorem ct_X1_complete {ts : List Nat} {S : rs_St} (h : rs_tM ts S) : rs_CT (rs_GM l D dI a) yX1_complete cX1_complete 3 (some .boolean) rm_X1_complete [.ref (a 0)] S (fun r S' => r = rs_aC ts ∧ S' = S) := by
  obtain ⟨⟨w1, w2, w3⟩, h3, h4⟩ := h
  have hb := pp_op_le ts 1
  refine rs_ofz (own := RX1) (by decide) rfl (Nat.le_of_ble_eq_true rfl) rfl rfl ?_
  intro E F K Rr
  have loop : ∀ (n k o : Nat), k ≤ ts.length → ts.length + 1 ≤ k + n → pp_op pp_ar o (ts.drop k) = pp_op pp_ar 1 ts → pp_pr pp_ar o (ts.drop k) → rs_J (rs_GM l D dI a) E 4 [(2, .int (nI k)), (1, .int (nI o)), (0, .ref (a 0))] [] S := by
    intro n
    induction n with
    | zero => intro k o q1 q2; omega
    | succ n ih =>
      intro k o q1 q2 q3 q4
      refine rj_iload_n (pc := 4) F dX1_complete_4 rfl ?_
      refine rj_aload_n (pc := 5) F dX1_complete_5 rfl ?_
      refine ry_g1 (pc := 6) F K q178 dX1_complete_6 ?_
      refine rj_iconst (pc := 9) (v := nI 0) F dX1_complete_9 (by decide) ?_
      refine ry_l1 (pc := 10) F K dX1_complete_10 rfl (by omega) ?_
      refine rj_top h3 ?_
      refine rj_icmp_ge (pc := 11) (tgt := 35) F dX1_complete_11 (by decide) (fun c11 => ?_) (fun c11 => ?_)
      · rw [nI_leI (by omega) (by omega)] at c11
        rw [List.drop_eq_nil_of_le c11] at q3
        have q3 : o = pp_op pp_ar 1 ts := q3
        refine rj_iload_n (pc := 35) F dX1_complete_35 rfl ?_
        refine rj_if_ne (pc := 36) (tgt := 43) F dX1_complete_36 (by decide) (fun c36 => ?_) (fun c36 => ?_)
        · refine rj_iconst (pc := 43) (v := nI 0) F dX1_complete_43 (by decide) ?_
          exact Rr 44 _ _ _ dX1_complete_44 (by decide) ⟨(rs_bz_f (fun e => c36 (by rw [q3, show pp_op pp_ar 1 ts = 0 from e]; exact nI_0))).symm, rfl⟩
        · refine rj_iconst (pc := 39) (v := nI 1) F dX1_complete_39 (by decide) ?_
          refine rj_goto (pc := 40) (tgt := 44) F dX1_complete_40 (by decide) ?_
          exact Rr 44 _ _ _ dX1_complete_44 (by decide) ⟨(rs_bz_t (by rw [← nI_0, nI_eq (by omega) (by omega)] at c36; exact q3.symm.trans c36)).symm, rfl⟩
      · rw [nI_leI (by omega) (by omega)] at c11
        have hk : k < ts.length := by omega
        have ht := w2 _ (rs_get hk)
        rw [rs_drop hk] at q3 q4
        refine rj_iload_n (pc := 14) F dX1_complete_14 rfl ?_
        refine rj_iconst (pc := 15) (v := nI 1) F dX1_complete_15 (by decide) ?_
        refine rj_isub (pc := 16) F dX1_complete_16 ?_
        refine rj_aload_n (pc := 17) F dX1_complete_17 rfl ?_
        refine rj_aload_n (pc := 18) F dX1_complete_18 rfl ?_
        refine ry_g0 (pc := 19) F K q177 dX1_complete_19 ?_
        refine rj_iload_n (pc := 22) F dX1_complete_22 rfl ?_
        refine ry_l0 (pc := 23) F K dX1_complete_23 rfl (by omega) ?_
        refine rj_top (h4 k hk) ?_
        generalize ts.getD k 0 = t at ht q3 q4
        refine rj_callp1 (pc := 24) F K rs_rcM (ct_X1_plans l (a 0) ht.1) (lw_V q221 q223 qs7 q17 q224) (by decide +kernel) ⟨rfl, rfl⟩ ⟨Nat.le_of_ble_eq_true rfl, Nat.le_of_ble_eq_true rfl⟩ (Nat.le_of_ble_eq_true rfl) dX1_complete_24 ?_
        refine rj_iaddE (pc := 27) F dX1_complete_27 (rs_need2 q4.1) ?_
        refine rj_istore_n (pc := 28) F dX1_complete_28 (by decide) ?_
        refine rj_iinc (pc := 29) F dX1_complete_29 rfl (by decide) (rs_inc k) ?_
        refine rj_goto (pc := 32) (tgt := 4) F dX1_complete_32 (by decide) ?_
        exact rj_to3 (ih (k + 1) (o - 1 + pp_ar t) hk (by omega) q3 q4.2) rfl rfl rfl
  refine rj_iconst (pc := 0) (v := nI 1) F dX1_complete_0 (by decide) ?_
  refine rj_istore_n (pc := 1) F dX1_complete_1 (by decide) ?_
  refine rj_iconst (pc := 2) (v := nI 0) F dX1_complete_2 (by decide) ?_
  refine rj_istore_n (pc := 3) F dX1_complete_3 (by decide) ?_
  exact rj_to3 (loop (ts.length + 1) 0 1 (Nat.zero_le _) (by omega) rfl w3) rfl rfl rfl
theorem rs_tk_neg {x : Int32} (h : x < 0) : ¬ rs_tk x := by
  intro hr
  have e := hr.1
  have ht := hr.2.1
  generalize x.toNatClampNeg = t at e ht
  rw [e] at h
  exact nI_pos (by omega) h
set_option maxHeartbeats 4000000 in
theorem ct_X1_write {ts : List Nat} {run : rs_Rn} {S : rs_St} (x : Int32) (h : rs_IM ts run S) : rs_CT (rs_GM l D dI a) yX1_write cX1_write 2 (some .int) rm_X1_write [.ref (a 0), .int x] S (fun r S' => r = (rs_oW ts run x).1 ∧ rs_IM (rs_oW ts run x).2.1 (rs_oW ts run x).2.2 S') := by
  have hcnt := h.2.2.1
  have hlen := h.1.1
  refine rs_ofi (own := RX1) (by decide) rfl (Nat.le_of_ble_eq_true rfl) rfl rfl ?_
  intro E F K Rr
  have K27 : ¬ rs_tk x → rs_J (rs_GM l D dI a) E 27 [] [] S := by
    intro htk
    refine rj_iconst (pc := 27) (v := (-1)) F dX1_write_27 (by decide) ?_
    have e : rs_oW ts run x = (-1, ts, run) := by unfold rs_oW; rw [if_pos htk]
    exact Rr 28 _ _ _ dX1_write_28 (by rw [e]; exact ⟨rfl, h⟩)
  have K29 : rs_tk x → rs_J (rs_GM l D dI a) E 29 [(1, .int x), (0, .ref (a 0))] [] S := by
    intro htk
    refine rj_aload_n (pc := 29) F dX1_write_29 rfl ?_
    refine rj_calli0 (pc := 30) F K rs_rcM (ct_X1_complete l D dI a h.tM) (lw_V q217 q218 q219 q17 q220) (by decide +kernel) ⟨rfl, rfl⟩ ⟨Nat.le_of_ble_eq_true rfl, Nat.le_of_ble_eq_true rfl⟩ (Nat.le_of_ble_eq_true rfl) dX1_write_30 (fun r S1 hp => ?_)
    obtain ⟨rfl, rfl⟩ := hp
    refine rj_if_ne (pc := 33) (tgt := 47) F dX1_write_33 (by decide) (fun c33 => ?_) (fun c33 => ?_)
    · have hcp := rs_bz_ne c33
      refine rj_bipush (pc := 47) (v := (-2)) F dX1_write_47 (by decide) ?_
      have e : rs_oW ts run x = (-2, ts, run) := by unfold rs_oW; rw [if_neg (fun q => q htk), if_pos (Or.inl hcp)]
      exact Rr 49 _ _ _ dX1_write_49 (by rw [e]; exact ⟨rfl, h⟩)
    · have hcp := rs_bz_eq c33
      refine rj_aload_n (pc := 36) F dX1_write_36 rfl ?_
      refine ry_g1 (pc := 37) F K q178 dX1_write_37 ?_
      refine rj_iconst (pc := 40) (v := nI 0) F dX1_write_40 (by decide) ?_
      refine ry_l1 (pc := 41) F K dX1_write_41 rfl (by omega) ?_
      refine rj_top hcnt ?_
      refine rj_bipush (pc := 42) (v := nI 21) F dX1_write_42 (by decide) ?_
      refine rj_icmp_lt (pc := 44) (tgt := 50) F dX1_write_44 (by decide) (fun c44 => ?_) (fun c44 => ?_)
      · rw [nI_ltI (by omega) (by omega)] at c44
        obtain ⟨t, ht, rfl⟩ : ∃ t, pp_tk t ∧ x = nI t := ⟨_, htk.2, htk.1⟩
        have ht3 := ht.1
        have e : rs_oW ts run (nI t) = (nI (ts.length + 1), ts ++ [t], none) := by unfold rs_oW; rw [if_neg (fun q => q htk), if_neg (fun q => q.elim hcp (by omega)), nI_clamp (by omega)]
        refine rj_aload_n (pc := 50) F dX1_write_50 rfl ?_
        refine rj_iconst (pc := 51) (v := nI 0) F dX1_write_51 (by decide) ?_
        refine ry_p2 (pc := 52) F K q179 dX1_write_52 (by decide) (by decide) ?_
        refine rj_aload_n (pc := 55) F dX1_write_55 rfl ?_
        refine ry_g0 (pc := 56) F K q177 dX1_write_56 ?_
        refine rj_aload_n (pc := 59) F dX1_write_59 rfl ?_
        refine ry_g1 (pc := 60) F K q178 dX1_write_60 ?_
        refine rj_iconst (pc := 63) (v := nI 0) F dX1_write_63 (by decide) ?_
        refine ry_l1 (pc := 64) F K dX1_write_64 rfl (by omega) ?_
        refine rj_top (y := nI ts.length) hcnt ?_
        refine rj_iload_n (pc := 65) F dX1_write_65 rfl ?_
        refine ry_s0 (pc := 66) F K dX1_write_66 rfl (by omega) ?_
        refine rj_aload_n (pc := 67) F dX1_write_67 rfl ?_
        refine ry_g1 (pc := 68) F K q178 dX1_write_68 ?_
        refine rj_iconst (pc := 71) (v := nI 0) F dX1_write_71 (by decide) ?_
        refine rj_dup2 (pc := 72) F dX1_write_72 rfl rfl ?_
        refine ry_l1 (pc := 73) F K dX1_write_73 rfl (by omega) ?_
        refine rj_top (y := nI ts.length) hcnt ?_
        refine rj_iconst (pc := 74) (v := nI 1) F dX1_write_74 (by decide) ?_
        refine rj_iaddE (pc := 75) F dX1_write_75 (nI_add _ _) ?_
        refine ry_s1 (pc := 76) F K dX1_write_76 rfl (by omega) ?_
        refine rj_aload_n (pc := 77) F dX1_write_77 rfl ?_
        refine ry_g1 (pc := 78) F K q178 dX1_write_78 ?_
        refine rj_iconst (pc := 81) (v := nI 0) F dX1_write_81 (by decide) ?_
        refine ry_l1 (pc := 82) F K dX1_write_82 rfl (by omega) ?_
        exact Rr 83 _ _ _ dX1_write_83 (by rw [e]; exact ⟨rfl, rs_IM_write h ht hcp c44⟩)
      · rw [nI_ltI (by omega) (by omega)] at c44
        refine rj_bipush (pc := 47) (v := (-2)) F dX1_write_47 (by decide) ?_
        have e : rs_oW ts run x = (-2, ts, run) := by unfold rs_oW; rw [if_neg (fun q => q htk), if_pos (Or.inr (by omega))]
        exact Rr 49 _ _ _ dX1_write_49 (by rw [e]; exact ⟨rfl, h⟩)
  refine rj_iload_n (pc := 0) F dX1_write_0 rfl ?_
  refine rj_if_lt (pc := 1) (tgt := 27) F dX1_write_1 (by decide) (fun c1 => ?_) (fun c1 => ?_)
  · exact rj_sb (lv' := []) trivial (K27 (rs_tk_neg c1))
  · refine rj_iload_n (pc := 4) F dX1_write_4 rfl ?_
    refine rj_bipush (pc := 5) (v := nI 32) F dX1_write_5 (by decide) ?_
    refine rj_icmp_gt (pc := 7) (tgt := 27) F dX1_write_7 (by decide) (fun c7 => ?_) (fun c7 => ?_)
    · exact rj_sb (lv' := []) trivial (K27 (rs_tk_gt c7))
    · refine rj_iload_n (pc := 10) F dX1_write_10 rfl ?_
      obtain ⟨t, ht, rfl⟩ := rs_nn c1
      rw [nI_ltI (by omega) (by omega)] at c7
      refine rj_if_le (pc := 11) (tgt := 29) F dX1_write_11 (by decide) (fun c11 => ?_) (fun c11 => ?_)
      · rw [← nI_0, nI_leI (by omega) (by omega)] at c11
        have e : t = 0 := by omega
        subst e
        exact rj_to2 (K29 rs_tk_0) rfl rfl
      · rw [← nI_0, nI_leI (by omega) (by omega)] at c11
        have hsn := pp_sn_lt t
        have hrc := pp_rc_lt t
        refine rj_aload_n (pc := 14) F dX1_write_14 rfl ?_
        refine rj_iload_n (pc := 15) F dX1_write_15 rfl ?_
        refine rj_callp1 (pc := 16) F K rs_rcM (ct_X1_sender l (a 0) (t := t) (by omega)) (lw_V q209 q211 qs5 q17 q212) (by decide +kernel) ⟨rfl, rfl⟩ ⟨Nat.le_of_ble_eq_true rfl, Nat.le_of_ble_eq_true rfl⟩ (Nat.le_of_ble_eq_true rfl) dX1_write_16 ?_
        refine rj_aload_n (pc := 19) F dX1_write_19 rfl ?_
        refine rj_iload_n (pc := 20) F dX1_write_20 rfl ?_
        refine rj_callp1 (pc := 21) F K rs_rcM (ct_X1_receiver l (a 0) (t := t) (by omega)) (lw_V q213 q215 qs6 q17 q216) (by decide +kernel) ⟨rfl, rfl⟩ ⟨Nat.le_of_ble_eq_true rfl, Nat.le_of_ble_eq_true rfl⟩ (Nat.le_of_ble_eq_true rfl) dX1_write_21 ?_
        refine rj_icmp_ne (pc := 24) (tgt := 29) F dX1_write_24 (by decide) (fun c24 => ?_) (fun c24 => ?_)
        · rw [nI_eq (by omega) (by omega)] at c24
          exact rj_to2 (K29 (rs_tk_of rfl ⟨by omega, Or.inr c24⟩).1) rfl rfl
        · rw [nI_eq (by omega) (by omega)] at c24
          refine rj_sb (lv' := []) trivial (K27 (fun q => ?_))
          rw [rs_tk, nI_clamp ht] at q
          exact q.2.2.elim (by omega) (fun q => q c24)
set_option maxHeartbeats 4000000 in
theorem ct_X1_rub {ts : List Nat} {run : rs_Rn} {S : rs_St} (h : rs_IM ts run S) : rs_CT (rs_GM l D dI a) yX1_rub cX1_rub 1 (some .int) rm_X1_rub [.ref (a 0)] S (fun r S' => r = (rs_oU ts run).1 ∧ rs_IM (rs_oU ts run).2.1 (rs_oU ts run).2.2 S') := by
  have hcnt := h.2.2.1
  have hlen := h.1.1
  refine rs_ofi (own := RX1) (by decide) rfl (Nat.le_of_ble_eq_true rfl) rfl rfl ?_
  intro E F K Rr
  refine rj_aload_n (pc := 0) F dX1_rub_0 rfl ?_
  refine ry_g1 (pc := 1) F K q178 dX1_rub_1 ?_
  refine rj_iconst (pc := 4) (v := nI 0) F dX1_rub_4 (by decide) ?_
  refine ry_l1 (pc := 5) F K dX1_rub_5 rfl (by omega) ?_
  refine rj_top hcnt ?_
  refine rj_if_ne (pc := 6) (tgt := 11) F dX1_rub_6 (by decide) (fun c6 => ?_) (fun c6 => ?_)
  · have hn : ts ≠ [] := fun e => c6 (by rw [e]; exact nI_0)
    have hpos : 0 < ts.length := List.length_pos_iff.mpr hn
    have e : rs_oU ts run = (nI (ts.getLastD 0), ts.dropLast, none) := by unfold rs_oU; rw [if_neg hn]
    have hm : nI ts.length - nI 1 = nI (ts.length - 1) := pk_sub (by omega)
    refine rj_aload_n (pc := 11) F dX1_rub_11 rfl ?_
    refine rj_iconst (pc := 12) (v := nI 0) F dX1_rub_12 (by decide) ?_
    refine ry_p2 (pc := 13) F K q179 dX1_rub_13 (by decide) (by decide) ?_
    refine rj_aload_n (pc := 16) F dX1_rub_16 rfl ?_
    refine ry_g1 (pc := 17) F K q178 dX1_rub_17 ?_
    refine rj_iconst (pc := 20) (v := nI 0) F dX1_rub_20 (by decide) ?_
    refine rj_dup2 (pc := 21) F dX1_rub_21 rfl rfl ?_
    refine ry_l1 (pc := 22) F K dX1_rub_22 rfl (by omega) ?_
    refine rj_top (y := nI ts.length) hcnt ?_
    refine rj_iconst (pc := 23) (v := nI 1) F dX1_rub_23 (by decide) ?_
    refine rj_isubE (pc := 24) F dX1_rub_24 hm ?_
    refine ry_s1 (pc := 25) F K dX1_rub_25 rfl (by omega) ?_
    refine rj_aload_n (pc := 26) F dX1_rub_26 rfl ?_
    refine ry_g0 (pc := 27) F K q177 dX1_rub_27 ?_
    refine rj_aload_n (pc := 30) F dX1_rub_30 rfl ?_
    refine ry_g1 (pc := 31) F K q178 dX1_rub_31 ?_
    refine rj_iconst (pc := 34) (v := nI 0) F dX1_rub_34 (by decide) ?_
    refine ry_l1 (pc := 35) F K dX1_rub_35 rfl (by omega) ?_
    refine ry_l0 (pc := 36) F K dX1_rub_36 rfl (by omega) ?_
    refine rj_top (y := nI (ts.getD (ts.length - 1) 0)) (h.2.2.2.1 _ (by omega)) ?_
    have eg : ts.getD (ts.length - 1) 0 = ts.getLastD 0 := by
      rw [List.getLastD_eq_getLast?, List.getLast?_eq_getElem?, List.getD_eq_getElem?_getD]
    exact Rr 37 _ _ _ dX1_rub_37 (by rw [e, eg]; exact ⟨rfl, rs_IM_rub h hn rfl⟩)
  · refine rj_iconst (pc := 9) (v := (-1)) F dX1_rub_9 (by decide) ?_
    have hn : ts = [] := by
      rw [← nI_0, nI_eq (by omega) (by omega)] at c6
      exact List.length_eq_zero_iff.mp c6
    have e : rs_oU ts run = (-1, ts, run) := by unfold rs_oU; rw [if_pos hn]
    exact Rr 10 _ _ _ dX1_rub_10 (by rw [e]; exact ⟨rfl, h⟩)
theorem ct_X1_runs {ts : List Nat} {run : rs_Rn} {S : rs_St} (h : rs_IM ts run S) : rs_CT (rs_GM l D dI a) yX1_runs cX1_runs 1 (some .boolean) rm_X1_runs [.ref (a 0)] S (fun r S' => r = rs_aR run ∧ rs_IM ts run S') := by
  refine rs_ofz (own := RX1) (by decide) rfl (Nat.le_of_ble_eq_true rfl) rfl rfl ?_
  intro E F K Rr
  refine rj_aload_n (pc := 0) F dX1_runs_0 rfl ?_
  refine ry_g2 (pc := 1) F K q179 dX1_runs_1 ?_
  cases run with
  | none =>
    refine rj_top h.run0 ?_
    exact Rr 4 _ _ _ dX1_runs_4 (by decide) ⟨rfl, h⟩
  | some q =>
    obtain ⟨g, n⟩ := q
    refine rj_top h.run1.1 ?_
    exact Rr 4 _ _ _ dX1_runs_4 (by decide) ⟨rfl, h⟩
theorem ct_X1_sent {ts : List Nat} {run : rs_Rn} {S : rs_St} (h : rs_IM ts run S) : rs_CT (rs_GM l D dI a) yX1_sent cX1_sent 1 (some .int) rm_X1_sent [.ref (a 0)] S (fun r S' => r = rs_aT run ∧ rs_IM ts run S') := by
  refine rs_ofi (own := RX1) (by decide) rfl (Nat.le_of_ble_eq_true rfl) rfl rfl ?_
  intro E F K Rr
  refine rj_aload_n (pc := 0) F dX1_sent_0 rfl ?_
  refine ry_g2 (pc := 1) F K q179 dX1_sent_1 ?_
  cases run with
  | none =>
    refine rj_top h.run0 ?_
    refine rj_if_eq (pc := 4) (tgt := 14) F dX1_sent_4 (by decide) (fun c4 => ?_) (fun c4 => ?_)
    · refine rj_iconst (pc := 14) (v := (-1)) F dX1_sent_14 (by decide) ?_
      exact Rr 15 _ _ _ dX1_sent_15 ⟨rfl, h⟩
    · exact absurd nI_0 c4
  | some q =>
    obtain ⟨g, n⟩ := q
    refine rj_top h.run1.1 ?_
    refine rj_if_eq (pc := 4) (tgt := 14) F dX1_sent_4 (by decide) (fun c4 => ?_) (fun c4 => ?_)
    · exact absurd c4 (by decide)
    · refine rj_aload_n (pc := 7) F dX1_sent_7 rfl ?_
      refine ry_g3 (pc := 8) F K q180 dX1_sent_8 ?_
      refine rj_top h.run1.2.1 ?_
      refine rj_goto (pc := 11) (tgt := 15) F dX1_sent_11 (by decide) ?_
      exact Rr 15 _ _ _ dX1_sent_15 ⟨rfl, h⟩
end MW
end
section
/-! RoleSessionsModel: behind, possible, choices -/
/-- what is left of the plan lies behind place 21 -/
def rs_gM (g : List Nat) (S : rs_St) : Prop := pp_one g ∧ g.length ≤ 21 ∧ S 1 1 = nI g.length ∧ ∀ j, j < g.length → S 0 (21 + j) = nI (g.getD j 0)
theorem rs_IM.gM {ts g : List Nat} {n : Nat} {S : rs_St} (h : rs_IM ts (some (g, n)) S) : rs_gM g S :=
  ⟨(h.2.1 g n rfl).1, (h.2.1 g n rfl).2.1, h.run1.2.2.1, h.run1.2.2.2⟩
section MR
variable (l : Launch) (D : va_G) (dI : ClassId) (a : Nat → Nat)
set_option maxHeartbeats 4000000 in
theorem ct_X1_behind {g : List Nat} {S : rs_St} (hv : pp_vd pp_ar g) (htk : ∀ t ∈ g, pp_tk t) (hl : g.length ≤ 21) (hg : ∀ j, j < g.length → S 0 (21 + j) = nI (g.getD j 0)) {i : Nat} (hi : i < g.length) : rs_CT (rs_GM l D dI a) yX1_behind cX1_behind 4 (some .int) rm_X1_behind [.ref (a 0), .int (nI i)] S (fun r S' => r = nI (i + pp_ln pp_ar 1 (g.drop i)) ∧ S' = S) := by
  refine rs_ofi (own := RX1) (by decide) rfl (Nat.le_of_ble_eq_true rfl) rfl rfl ?_
  intro E F K Rr
  have loop : ∀ (n k o : Nat), k ≤ g.length → g.length + 1 ≤ k + n → o ≤ pp_hg pp_ar (g.drop k) → k + pp_ln pp_ar o (g.drop k) = i + pp_ln pp_ar 1 (g.drop i) → rs_J (rs_GM l D dI a) E 4 [(3, .int (nI k)), (2, .int (nI o)), (0, .ref (a 0))] [] S := by
    intro n
    induction n with
    | zero => intro k o q1 q2; omega
    | succ n ih =>
      intro k o q1 q2 q3 q4
      have hle := pp_hg_le (ar := pp_ar) (g.drop k)
      rw [List.length_drop] at hle
      refine rj_iload_n (pc := 4) F dX1_behind_4 rfl ?_
      refine rj_if_le (pc := 5) (tgt := 38) F dX1_behind_5 (by decide) (fun c5 => ?_) (fun c5 => ?_)
      · rw [← nI_0, nI_leI (by omega) (by omega)] at c5
        have e : o = 0 := by omega
        subst e
        rw [pp_ln_0] at q4
        refine rj_iload_n (pc := 38) F dX1_behind_38 rfl ?_
        exact Rr 39 _ _ _ dX1_behind_39 ⟨by rw [← q4]; rfl, rfl⟩
      · rw [← nI_0, nI_leI (by omega) (by omega)] at c5
        have hk : k < g.length := by omega
        refine rj_iload_n (pc := 8) F dX1_behind_8 rfl ?_
        refine rj_bipush (pc := 9) (v := nI 21) F dX1_behind_9 (by decide) ?_
        refine rj_icmp_ge (pc := 11) (tgt := 38) F dX1_behind_11 (by decide) (fun c11 => ?_) (fun c11 => ?_)
        · rw [nI_leI (by omega) (by omega)] at c11
          omega
        · obtain ⟨o', rfl⟩ : ∃ o', o = o' + 1 := ⟨o - 1, by omega⟩
          have ht := htk _ (rs_get hk)
          have hvk := pp_vd_drop hv k
          have hgk := hg k hk
          rw [rs_drop hk] at q3 q4 hvk
          generalize g.getD k 0 = t at ht q3 q4 hvk hgk
          rw [pp_ln_cons] at q4
          have h1 := hvk.1
          have q3 : o' + 1 ≤ pp_hg pp_ar (g.drop (k + 1)) - pp_ar t + 1 := q3
          refine rj_iload_n (pc := 14) F dX1_behind_14 rfl ?_
          refine rj_iconst (pc := 15) (v := nI 1) F dX1_behind_15 (by decide) ?_
          refine rj_isub (pc := 16) F dX1_behind_16 ?_
          refine rj_aload_n (pc := 17) F dX1_behind_17 rfl ?_
          refine rj_aload_n (pc := 18) F dX1_behind_18 rfl ?_
          refine ry_g0 (pc := 19) F K q177 dX1_behind_19 ?_
          refine rj_bipush (pc := 22) (v := nI 21) F dX1_behind_22 (by decide) ?_
          refine rj_iload_n (pc := 24) F dX1_behind_24 rfl ?_
          refine rj_iaddE (pc := 25) F dX1_behind_25 (nI_add _ _) ?_
          refine ry_l0 (pc := 26) F K dX1_behind_26 rfl (by omega) ?_
          refine rj_top hgk ?_
          refine rj_callp1 (pc := 27) F K rs_rcM (ct_X1_plans l (a 0) ht.1) (lw_V q221 q223 qs7 q17 q224) (by decide +kernel) ⟨rfl, rfl⟩ ⟨Nat.le_of_ble_eq_true rfl, Nat.le_of_ble_eq_true rfl⟩ (Nat.le_of_ble_eq_true rfl) dX1_behind_27 ?_
          have e2 : o' + 1 - 1 + pp_ar t = pp_ar t + o' := by omega
          have e3 : nI (o' + 1) - nI 1 + nI (pp_ar t) = nI (pp_ar t + o') := by rw [rs_need2 (by omega), e2]
          refine rj_iaddE (pc := 30) F dX1_behind_30 e3 ?_
          refine rj_istore_n (pc := 31) F dX1_behind_31 (by decide) ?_
          refine rj_iinc (pc := 32) F dX1_behind_32 rfl (by decide) (rs_inc k) ?_
          refine rj_goto (pc := 35) (tgt := 4) F dX1_behind_35 (by decide) ?_
          exact rj_to3 (ih (k + 1) (pp_ar t + o') hk (by omega) (by omega) (by omega)) rfl rfl rfl
  refine rj_iconst (pc := 0) (v := nI 1) F dX1_behind_0 (by decide) ?_
  refine rj_istore_n (pc := 1) F dX1_behind_1 (by decide) ?_
  refine rj_iload_n (pc := 2) F dX1_behind_2 rfl ?_
  refine rj_istore_n (pc := 3) F dX1_behind_3 (by decide) ?_
  refine rj_to3 (loop (g.length + 1) i 1 (by omega) (by omega) (pp_hg_pos ?_) rfl) rfl rfl rfl
  intro e
  have := List.drop_eq_nil_iff.mp e
  omega
set_option maxHeartbeats 8000000 in
theorem ct_X1_possible {ts : List Nat} {run : rs_Rn} {S : rs_St} (x y z : Int32) (h : rs_IM ts run S) : rs_CT (rs_GM l D dI a) yX1_possible cX1_possible 8 (some .boolean) rm_X1_possible [.ref (a 0), .int x, .int y, .int z] S (fun r S' => r = rs_aP run x y z ∧ S' = S) := by
  refine rs_ofz (own := RX1) (by decide) rfl (Nat.le_of_ble_eq_true rfl) rfl rfl ?_
  intro E F K Rr
  refine rj_aload_n (pc := 0) F dX1_possible_0 rfl ?_
  refine ry_g2 (pc := 1) F K q179 dX1_possible_1 ?_
  cases run with
  | none =>
    refine rj_top h.run0 ?_
    refine rj_if_eq (pc := 4) (tgt := 37) F dX1_possible_4 (by decide) (fun c4 => ?_) (fun c4 => ?_)
    · refine rj_iconst (pc := 37) (v := nI 0) F dX1_possible_37 (by decide) ?_
      exact Rr 38 _ _ _ dX1_possible_38 (by decide) ⟨rfl, rfl⟩
    · exact absurd nI_0 c4
  | some q =>
    obtain ⟨g, n⟩ := q
    refine rj_top h.run1.1 ?_
    obtain ⟨⟨hv, h1, htk⟩, hl, hsz, hg⟩ := h.gM
    have K37 : ¬ rs_pp g x y z → rs_J (rs_GM l D dI a) E 37 [] [] S := by
      intro hn
      refine rj_iconst (pc := 37) (v := nI 0) F dX1_possible_37 (by decide) ?_
      exact Rr 38 _ _ _ dX1_possible_38 (by decide) ⟨(rs_bz_f hn).symm, rfl⟩
    refine rj_if_eq (pc := 4) (tgt := 37) F dX1_possible_4 (by decide) (fun c4 => ?_) (fun c4 => ?_)
    · exact absurd c4 (by decide)
    · refine rj_aload_n (pc := 7) F dX1_possible_7 rfl ?_
      refine rj_iload_n (pc := 8) F dX1_possible_8 rfl ?_
      refine rj_callp1 (pc := 9) F K rs_rcM (ct_X1_role l (a 0) x) (lw_V q234 q236 qs8 q17 q237) (by decide +kernel) ⟨rfl, rfl⟩ ⟨Nat.le_of_ble_eq_true rfl, Nat.le_of_ble_eq_true rfl⟩ (Nat.le_of_ble_eq_true rfl) dX1_possible_9 ?_
      refine rj_if_eq (pc := 12) (tgt := 37) F dX1_possible_12 (by decide) (fun c12 => ?_) (fun c12 => ?_)
      · exact rj_sb (lv' := []) trivial (K37 (fun q => rs_bz_eq c12 q.1))
      · have hro := rs_bz_ne c12
        refine rj_aload_n (pc := 15) F dX1_possible_15 rfl ?_
        refine rj_iload_n (pc := 16) F dX1_possible_16 rfl ?_
        refine rj_callp1 (pc := 17) F K rs_rcM (ct_X1_role l (a 0) y) (lw_V q234 q236 qs8 q17 q237) (by decide +kernel) ⟨rfl, rfl⟩ ⟨Nat.le_of_ble_eq_true rfl, Nat.le_of_ble_eq_true rfl⟩ (Nat.le_of_ble_eq_true rfl) dX1_possible_17 ?_
        refine rj_if_eq (pc := 20) (tgt := 37) F dX1_possible_20 (by decide) (fun c20 => ?_) (fun c20 => ?_)
        · exact rj_sb (lv' := []) trivial (K37 (fun q => rs_bz_eq c20 q.2.1))
        · have hro2 := rs_bz_ne c20
          refine rj_iload_n (pc := 23) F dX1_possible_23 rfl ?_
          refine rj_iload_n (pc := 24) F dX1_possible_24 rfl ?_
          refine rj_icmp_eq (pc := 25) (tgt := 37) F dX1_possible_25 (by decide) (fun c25 => ?_) (fun c25 => ?_)
          · exact rj_sb (lv' := []) trivial (K37 (fun q => q.2.2.1 c25))
          · refine rj_iload_n (pc := 28) F dX1_possible_28 rfl ?_
            refine rj_if_lt (pc := 29) (tgt := 37) F dX1_possible_29 (by decide) (fun c29 => ?_) (fun c29 => ?_)
            · refine rj_sb (lv' := []) trivial (K37 (fun q => ?_))
              have e := q.2.2.2.1
              have e2 := q.2.2.2.2.1
              rw [e] at c29
              exact nI_pos (by omega) c29
            · refine rj_iload_n (pc := 32) F dX1_possible_32 rfl ?_
              refine rj_iconst (pc := 33) (v := nI 1) F dX1_possible_33 (by decide) ?_
              obtain ⟨k, hk, rfl⟩ := rs_nn c29
              refine rj_icmp_le (pc := 34) (tgt := 39) F dX1_possible_34 (by decide) (fun c34 => ?_) (fun c34 => ?_)
              · rw [nI_leI hk (by omega)] at c34
                obtain ⟨i, hi, rfl⟩ := rs_ro_to hro
                obtain ⟨j, hj, rfl⟩ := rs_ro_to hro2
                have hij : i ≠ j := fun e => c25 (by rw [e])
                have hpp : rs_pp g (nI i) (nI j) (nI k) ↔ (pp_ev pp_ar (pp_ps i j k) g).all id = true := by
                  unfold rs_pp
                  rw [nI_clamp (by omega), nI_clamp (by omega), nI_clamp (by omega)]
                  exact ⟨fun q => q.2.2.2.2.2, fun q => ⟨hro, hro2, c25, rfl, by omega, q⟩⟩
                have loop : ∀ (m p : Nat), p ≤ g.length → g.length + 1 ≤ p + m → (pp_ev pp_ar (pp_ps i j k) (g.drop p)).all id = (pp_ev pp_ar (pp_ps i j k) g).all id → rs_J (rs_GM l D dI a) E 42 [(4, .int (nI p)), (3, .int (nI k)), (2, .int (nI j)), (1, .int (nI i)), (0, .ref (a 0))] [] S := by
                  intro m
                  induction m with
                  | zero => intro p q1 q2; omega
                  | succ m ih =>
                    intro p q1 q2 q3
                    refine rj_iload (pc := 42) F dX1_possible_42 rfl ?_
                    refine rj_aload_n (pc := 44) F dX1_possible_44 rfl ?_
                    refine ry_g1 (pc := 45) F K q178 dX1_possible_45 ?_
                    refine rj_iconst (pc := 48) (v := nI 1) F dX1_possible_48 (by decide) ?_
                    refine ry_l1 (pc := 49) F K dX1_possible_49 rfl (by omega) ?_
                    refine rj_top hsz ?_
                    refine rj_icmp_ge (pc := 50) (tgt := 194) F dX1_possible_50 (by decide) (fun c50 => ?_) (fun c50 => ?_)
                    · rw [nI_leI (by omega) (by omega)] at c50
                      rw [List.drop_eq_nil_of_le c50] at q3
                      refine rj_iconst (pc := 194) (v := nI 1) F dX1_possible_194 (by decide) ?_
                      exact Rr 195 _ _ _ dX1_possible_195 (by decide) ⟨(rs_bz_t (hpp.mpr (by rw [← q3]; rfl))).symm, rfl⟩
                    · rw [nI_leI (by omega) (by omega)] at c50
                      have hp : p < g.length := by omega
                      have ht := htk _ (rs_get hp)
                      have hvk := pp_vd_drop hv p
                      have hgk := hg p hp
                      have hdr := rs_drop hp
                      generalize g.getD p 0 = t at ht hgk hdr
                      rw [hdr] at q3 hvk
                      have hsn := pp_sn_lt t
                      have hrc := pp_rc_lt t
                      have hal := pp_ar_le t
                      have t33 := ht.1
                      have K159 : ∀ v6 v7 : Int32, v6 = rs_bz (pp_mt i j t ∧ k < pp_ar t) → v7 = rs_bz (pp_ot i j t) → rs_J (rs_GM l D dI a) E 159 [(7, .int v7), (6, .int v6), (4, .int (nI p)), (3, .int (nI k)), (2, .int (nI j)), (1, .int (nI i)), (0, .ref (a 0))] [] S := by
                        intro v6 v7 e6 e7
                        subst e6
                        subst e7
                        refine rj_iload (pc := 159) F dX1_possible_159 rfl ?_
                        refine rj_if_ne (pc := 161) (tgt := 171) F dX1_possible_161 (by decide) (fun c161 => ?_) (fun c161 => ?_)
                        · have hm := rs_bz_ne c161
                          have hle := pp_ln_le (ar := pp_ar) 1 (g.drop p)
                          have hpos := pp_ln_pos (ar := pp_ar) (ts := g.drop p) (by rw [hdr]; simp)
                          rw [List.length_drop] at hle
                          refine rj_iload (pc := 171) F dX1_possible_171 rfl ?_
                          refine rj_if_eq (pc := 173) (tgt := 185) F dX1_possible_173 (by decide) (fun c173 => ?_) (fun c173 => ?_)
                          · exact absurd c173 c161
                          · refine rj_aload_n (pc := 176) F dX1_possible_176 rfl ?_
                            refine rj_iload (pc := 177) F dX1_possible_177 rfl ?_
                            refine rj_calli1 (pc := 179) F K rs_rcM (ct_X1_behind l D dI a hv htk hl hg hp) (lw_V q276 q278 qs13 q17 q279) (by decide +kernel) ⟨rfl, rfl⟩ ⟨Nat.le_of_ble_eq_true rfl, Nat.le_of_ble_eq_true rfl⟩ (Nat.le_of_ble_eq_true rfl) dX1_possible_179 (fun r S1 hp_1 => ?_)
                            obtain ⟨rfl, rfl⟩ := hp_1
                            refine rj_goto (pc := 182) (tgt := 189) F dX1_possible_182 (by decide) ?_
                            refine rj_istore (pc := 189) F dX1_possible_189 (by decide) ?_
                            refine rj_goto (pc := 191) (tgt := 42) F dX1_possible_191 (by decide) ?_
                            refine rj_to5 (ih (p + pp_ln pp_ar 1 (g.drop p)) (by omega) (by omega) ?_) rfl rfl rfl rfl rfl
                            rw [← List.drop_drop, hdr, ← pp_ps_skip hvk hm]
                            exact q3
                        · have hm := rs_bz_eq c161
                          refine rj_iload (pc := 164) F dX1_possible_164 rfl ?_
                          refine rj_if_ne (pc := 166) (tgt := 171) F dX1_possible_166 (by decide) (fun c166 => ?_) (fun c166 => ?_)
                          · have ho := rs_bz_ne c166
                            refine rj_iload (pc := 171) F dX1_possible_171 rfl ?_
                            refine rj_if_eq (pc := 173) (tgt := 185) F dX1_possible_173 (by decide) (fun c173 => ?_) (fun c173 => ?_)
                            · refine rj_iload (pc := 185) F dX1_possible_185 rfl ?_
                              refine rj_iconst (pc := 187) (v := nI 1) F dX1_possible_187 (by decide) ?_
                              refine rj_iaddE (pc := 188) F dX1_possible_188 (nI_add _ _) ?_
                              refine rj_istore (pc := 189) F dX1_possible_189 (by decide) ?_
                              refine rj_goto (pc := 191) (tgt := 42) F dX1_possible_191 (by decide) ?_
                              exact rj_to5 (ih (p + 1) (by omega) (by omega) (by rw [← q3, pp_ps_other hm ho])) rfl rfl rfl rfl rfl
                            · exact absurd c161 c173
                          · have ho := rs_bz_eq c166
                            refine rj_iconst (pc := 169) (v := nI 0) F dX1_possible_169 (by decide) ?_
                            rw [pp_ps_no hm ho] at q3
                            exact Rr 170 _ _ _ dX1_possible_170 (by decide) ⟨(rs_bz_f (fun q => by rw [hpp, ← q3] at q; cases q)).symm, rfl⟩
                      have K107 : ∀ v6 : Int32, v6 = rs_bz (pp_mt i j t ∧ k < pp_ar t) → rs_J (rs_GM l D dI a) E 107 [(6, .int v6), (5, .int (nI t)), (4, .int (nI p)), (3, .int (nI k)), (2, .int (nI j)), (1, .int (nI i)), (0, .ref (a 0))] [] S := by
                        intro v6 e6
                        have K156 : ¬ pp_ot i j t → rs_J (rs_GM l D dI a) E 156 [(6, .int v6), (4, .int (nI p)), (3, .int (nI k)), (2, .int (nI j)), (1, .int (nI i)), (0, .ref (a 0))] [] S := by
                          intro hn
                          refine rj_iconst (pc := 156) (v := nI 0) F dX1_possible_156 (by decide) ?_
                          refine rj_istore (pc := 157) F dX1_possible_157 (by decide) ?_
                          exact rj_to7 (K159 v6 (nI 0) e6 (rs_bz_f hn).symm) rfl rfl rfl rfl rfl rfl rfl
                        refine rj_iload (pc := 107) F dX1_possible_107 rfl ?_
                        refine rj_if_le (pc := 109) (tgt := 156) F dX1_possible_109 (by decide) (fun c109 => ?_) (fun c109 => ?_)
                        · rw [← nI_0, nI_leI (by omega) (by omega)] at c109
                          exact rj_to6 (K156 (fun q => q.1 (by omega))) rfl rfl rfl rfl rfl rfl
                        · rw [← nI_0, nI_leI (by omega) (by omega)] at c109
                          refine rj_aload_n (pc := 112) F dX1_possible_112 rfl ?_
                          refine rj_iload (pc := 113) F dX1_possible_113 rfl ?_
                          refine rj_callp1 (pc := 115) F K rs_rcM (ct_X1_sender l (a 0) t33) (lw_V q209 q211 qs5 q17 q212) (by decide +kernel) ⟨rfl, rfl⟩ ⟨Nat.le_of_ble_eq_true rfl, Nat.le_of_ble_eq_true rfl⟩ (Nat.le_of_ble_eq_true rfl) dX1_possible_115 ?_
                          refine rj_iload_n (pc := 118) F dX1_possible_118 rfl ?_
                          refine rj_icmp_eq (pc := 119) (tgt := 156) F dX1_possible_119 (by decide) (fun c119 => ?_) (fun c119 => ?_)
                          · rw [nI_eq (by omega) (by omega)] at c119
                            exact rj_to6 (K156 (fun q => q.2.1 c119)) rfl rfl rfl rfl rfl rfl
                          · rw [nI_eq (by omega) (by omega)] at c119
                            refine rj_aload_n (pc := 122) F dX1_possible_122 rfl ?_
                            refine rj_iload (pc := 123) F dX1_possible_123 rfl ?_
                            refine rj_callp1 (pc := 125) F K rs_rcM (ct_X1_sender l (a 0) t33) (lw_V q209 q211 qs5 q17 q212) (by decide +kernel) ⟨rfl, rfl⟩ ⟨Nat.le_of_ble_eq_true rfl, Nat.le_of_ble_eq_true rfl⟩ (Nat.le_of_ble_eq_true rfl) dX1_possible_125 ?_
                            refine rj_iload_n (pc := 128) F dX1_possible_128 rfl ?_
                            refine rj_icmp_eq (pc := 129) (tgt := 156) F dX1_possible_129 (by decide) (fun c129 => ?_) (fun c129 => ?_)
                            · rw [nI_eq (by omega) (by omega)] at c129
                              exact rj_to6 (K156 (fun q => q.2.2.1 c129)) rfl rfl rfl rfl rfl rfl
                            · rw [nI_eq (by omega) (by omega)] at c129
                              refine rj_aload_n (pc := 132) F dX1_possible_132 rfl ?_
                              refine rj_iload (pc := 133) F dX1_possible_133 rfl ?_
                              refine rj_callp1 (pc := 135) F K rs_rcM (ct_X1_receiver l (a 0) t33) (lw_V q213 q215 qs6 q17 q216) (by decide +kernel) ⟨rfl, rfl⟩ ⟨Nat.le_of_ble_eq_true rfl, Nat.le_of_ble_eq_true rfl⟩ (Nat.le_of_ble_eq_true rfl) dX1_possible_135 ?_
                              refine rj_iload_n (pc := 138) F dX1_possible_138 rfl ?_
                              refine rj_icmp_eq (pc := 139) (tgt := 156) F dX1_possible_139 (by decide) (fun c139 => ?_) (fun c139 => ?_)
                              · rw [nI_eq (by omega) (by omega)] at c139
                                exact rj_to6 (K156 (fun q => q.2.2.2.1 c139)) rfl rfl rfl rfl rfl rfl
                              · rw [nI_eq (by omega) (by omega)] at c139
                                refine rj_aload_n (pc := 142) F dX1_possible_142 rfl ?_
                                refine rj_iload (pc := 143) F dX1_possible_143 rfl ?_
                                refine rj_callp1 (pc := 145) F K rs_rcM (ct_X1_receiver l (a 0) t33) (lw_V q213 q215 qs6 q17 q216) (by decide +kernel) ⟨rfl, rfl⟩ ⟨Nat.le_of_ble_eq_true rfl, Nat.le_of_ble_eq_true rfl⟩ (Nat.le_of_ble_eq_true rfl) dX1_possible_145 ?_
                                refine rj_iload_n (pc := 148) F dX1_possible_148 rfl ?_
                                refine rj_icmp_eq (pc := 149) (tgt := 156) F dX1_possible_149 (by decide) (fun c149 => ?_) (fun c149 => ?_)
                                · rw [nI_eq (by omega) (by omega)] at c149
                                  exact rj_to6 (K156 (fun q => q.2.2.2.2 c149)) rfl rfl rfl rfl rfl rfl
                                · rw [nI_eq (by omega) (by omega)] at c149
                                  refine rj_iconst (pc := 152) (v := nI 1) F dX1_possible_152 (by decide) ?_
                                  refine rj_goto (pc := 153) (tgt := 157) F dX1_possible_153 (by decide) ?_
                                  refine rj_istore (pc := 157) F dX1_possible_157 (by decide) ?_
                                  exact rj_to7 (K159 v6 (nI 1) e6 (rs_bz_t ⟨by omega, c119, c129, c139, c149⟩).symm) rfl rfl rfl rfl rfl rfl rfl
                      have K104 : ¬ (pp_mt i j t ∧ k < pp_ar t) → rs_J (rs_GM l D dI a) E 104 [(5, .int (nI t)), (4, .int (nI p)), (3, .int (nI k)), (2, .int (nI j)), (1, .int (nI i)), (0, .ref (a 0))] [] S := by
                        intro hn
                        refine rj_iconst (pc := 104) (v := nI 0) F dX1_possible_104 (by decide) ?_
                        refine rj_istore (pc := 105) F dX1_possible_105 (by decide) ?_
                        exact rj_to7 (K107 (nI 0) (rs_bz_f hn).symm) rfl rfl rfl rfl rfl rfl rfl
                      refine rj_aload_n (pc := 53) F dX1_possible_53 rfl ?_
                      refine ry_g0 (pc := 54) F K q177 dX1_possible_54 ?_
                      refine rj_bipush (pc := 57) (v := nI 21) F dX1_possible_57 (by decide) ?_
                      refine rj_iload (pc := 59) F dX1_possible_59 rfl ?_
                      refine rj_iaddE (pc := 61) F dX1_possible_61 (nI_add _ _) ?_
                      refine ry_l0 (pc := 62) F K dX1_possible_62 rfl (by omega) ?_
                      refine rj_top hgk ?_
                      refine rj_istore (pc := 63) F dX1_possible_63 (by decide) ?_
                      refine rj_iload (pc := 65) F dX1_possible_65 rfl ?_
                      refine rj_if_le (pc := 67) (tgt := 104) F dX1_possible_67 (by decide) (fun c67 => ?_) (fun c67 => ?_)
                      · rw [← nI_0, nI_leI (by omega) (by omega)] at c67
                        exact rj_to6 (K104 (fun q => q.1.1 (by omega))) rfl rfl rfl rfl rfl rfl
                      · rw [← nI_0, nI_leI (by omega) (by omega)] at c67
                        refine rj_aload_n (pc := 70) F dX1_possible_70 rfl ?_
                        refine rj_iload (pc := 71) F dX1_possible_71 rfl ?_
                        refine rj_callp1 (pc := 73) F K rs_rcM (ct_X1_sender l (a 0) t33) (lw_V q209 q211 qs5 q17 q212) (by decide +kernel) ⟨rfl, rfl⟩ ⟨Nat.le_of_ble_eq_true rfl, Nat.le_of_ble_eq_true rfl⟩ (Nat.le_of_ble_eq_true rfl) dX1_possible_73 ?_
                        refine rj_iload_n (pc := 76) F dX1_possible_76 rfl ?_
                        refine rj_icmp_ne (pc := 77) (tgt := 104) F dX1_possible_77 (by decide) (fun c77 => ?_) (fun c77 => ?_)
                        · rw [nI_eq (by omega) (by omega)] at c77
                          exact rj_to6 (K104 (fun q => c77 q.1.2.1)) rfl rfl rfl rfl rfl rfl
                        · rw [nI_eq (by omega) (by omega)] at c77
                          refine rj_aload_n (pc := 80) F dX1_possible_80 rfl ?_
                          refine rj_iload (pc := 81) F dX1_possible_81 rfl ?_
                          refine rj_callp1 (pc := 83) F K rs_rcM (ct_X1_receiver l (a 0) t33) (lw_V q213 q215 qs6 q17 q216) (by decide +kernel) ⟨rfl, rfl⟩ ⟨Nat.le_of_ble_eq_true rfl, Nat.le_of_ble_eq_true rfl⟩ (Nat.le_of_ble_eq_true rfl) dX1_possible_83 ?_
                          refine rj_iload_n (pc := 86) F dX1_possible_86 rfl ?_
                          refine rj_icmp_ne (pc := 87) (tgt := 104) F dX1_possible_87 (by decide) (fun c87 => ?_) (fun c87 => ?_)
                          · rw [nI_eq (by omega) (by omega)] at c87
                            exact rj_to6 (K104 (fun q => c87 q.1.2.2)) rfl rfl rfl rfl rfl rfl
                          · rw [nI_eq (by omega) (by omega)] at c87
                            refine rj_iload_n (pc := 90) F dX1_possible_90 rfl ?_
                            refine rj_aload_n (pc := 91) F dX1_possible_91 rfl ?_
                            refine rj_iload (pc := 92) F dX1_possible_92 rfl ?_
                            refine rj_callp1 (pc := 94) F K rs_rcM (ct_X1_plans l (a 0) t33) (lw_V q221 q223 qs7 q17 q224) (by decide +kernel) ⟨rfl, rfl⟩ ⟨Nat.le_of_ble_eq_true rfl, Nat.le_of_ble_eq_true rfl⟩ (Nat.le_of_ble_eq_true rfl) dX1_possible_94 ?_
                            refine rj_icmp_ge (pc := 97) (tgt := 104) F dX1_possible_97 (by decide) (fun c97 => ?_) (fun c97 => ?_)
                            · rw [nI_leI (by omega) (by omega)] at c97
                              exact rj_to6 (K104 (fun q => absurd q.2 (by omega))) rfl rfl rfl rfl rfl rfl
                            · rw [nI_leI (by omega) (by omega)] at c97
                              refine rj_iconst (pc := 100) (v := nI 1) F dX1_possible_100 (by decide) ?_
                              refine rj_goto (pc := 101) (tgt := 105) F dX1_possible_101 (by decide) ?_
                              refine rj_istore (pc := 105) F dX1_possible_105 (by decide) ?_
                              exact rj_to7 (K107 (nI 1) (rs_bz_t ⟨⟨by omega, c77, c87⟩, by omega⟩).symm) rfl rfl rfl rfl rfl rfl rfl
                refine rj_iconst (pc := 39) (v := nI 0) F dX1_possible_39 (by decide) ?_
                refine rj_istore (pc := 40) F dX1_possible_40 (by decide) ?_
                exact rj_to5 (loop (g.length + 1) 0 (Nat.zero_le _) (by omega) rfl) rfl rfl rfl rfl rfl
              · rw [nI_leI hk (by omega)] at c34
                refine rj_sb (lv' := []) trivial (K37 (fun q => ?_))
                have e2 := q.2.2.2.2.1
                rw [nI_clamp hk] at e2
                omega
set_option maxHeartbeats 4000000 in
theorem ct_X1_choices {ts : List Nat} {run : rs_Rn} {S : rs_St} (h : rs_IM ts run S) : rs_CT (rs_GM l D dI a) yX1_choices cX1_choices 3 (some .int) rm_X1_choices [.ref (a 0)] S (fun r S' => r = rs_aH run ∧ S' = S) := by
  have e3 : ∀ c, c < 32 → nI c >>> (nI 3 &&& 31) = nI (c / 8) := by decide +kernel
  have e1 : ∀ c, c < 32 → (nI c >>> (nI 1 &&& 31)) &&& nI 3 = nI (c / 2 % 4) := by decide +kernel
  have e0 : ∀ c, c < 32 → nI c &&& nI 1 = nI (c % 2) := by decide +kernel
  refine rs_ofi (own := RX1) (by decide) rfl (Nat.le_of_ble_eq_true rfl) rfl rfl ?_
  intro E F K Rr
  have loop : ∀ (m c : Nat), c ≤ 32 → 33 ≤ c + m → rs_J (rs_GM l D dI a) E 4 [(2, .int (nI c)), (1, .int (nI (rs_sm run c))), (0, .ref (a 0))] [] S := by
    intro m
    induction m with
    | zero => intro c q1 q2; omega
    | succ m ih =>
      intro c q1 q2
      refine rj_iload_n (pc := 4) F dX1_choices_4 rfl ?_
      refine rj_bipush (pc := 5) (v := nI 32) F dX1_choices_5 (by decide) ?_
      refine rj_icmp_ge (pc := 7) (tgt := 42) F dX1_choices_7 (by decide) (fun c7 => ?_) (fun c7 => ?_)
      · rw [nI_leI (by omega) (by omega)] at c7
        have : c = 32 := by omega
        subst this
        refine rj_iload_n (pc := 42) F dX1_choices_42 rfl ?_
        exact Rr 43 _ _ _ dX1_choices_43 ⟨rfl, rfl⟩
      · rw [nI_leI (by omega) (by omega)] at c7
        refine rj_aload_n (pc := 10) F dX1_choices_10 rfl ?_
        refine rj_iload_n (pc := 11) F dX1_choices_11 rfl ?_
        refine rj_iconst (pc := 12) (v := nI 3) F dX1_choices_12 (by decide) ?_
        refine rj_ishrE (pc := 13) F dX1_choices_13 (e3 c (by omega)) ?_
        refine rj_iload_n (pc := 14) F dX1_choices_14 rfl ?_
        refine rj_iconst (pc := 15) (v := nI 1) F dX1_choices_15 (by decide) ?_
        refine rj_ishr (pc := 16) F dX1_choices_16 ?_
        refine rj_iconst (pc := 17) (v := nI 3) F dX1_choices_17 (by decide) ?_
        refine rj_iandE (pc := 18) F dX1_choices_18 (e1 c (by omega)) ?_
        refine rj_iload_n (pc := 19) F dX1_choices_19 rfl ?_
        refine rj_iconst (pc := 20) (v := nI 1) F dX1_choices_20 (by decide) ?_
        refine rj_iandE (pc := 21) F dX1_choices_21 (e0 c (by omega)) ?_
        refine rj_calli3 (pc := 22) F K rs_rcM (ct_X1_possible l D dI a _ _ _ h) (lw_V q284 q273 q274 q17 q275) (by decide +kernel) ⟨rfl, rfl⟩ ⟨Nat.le_of_ble_eq_true rfl, Nat.le_of_ble_eq_true rfl⟩ (Nat.le_of_ble_eq_true rfl) dX1_choices_22 (fun r S1 hp => ?_)
        obtain ⟨rfl, rfl⟩ := hp
        have ih := ih (c + 1) (by omega) (by omega)
        refine rj_if_eq (pc := 25) (tgt := 34) F dX1_choices_25 (by decide) (fun c25 => ?_) (fun c25 => ?_)
        · rw [rs_sm_0 rfl rfl rfl c25] at ih
          refine rj_iload_n (pc := 34) F dX1_choices_34 rfl ?_
          refine rj_istore_n (pc := 35) F dX1_choices_35 (by decide) ?_
          refine rj_iinc (pc := 36) F dX1_choices_36 rfl (by decide) (rs_inc c) ?_
          refine rj_goto (pc := 39) (tgt := 4) F dX1_choices_39 (by decide) ?_
          exact rj_to3 ih rfl rfl rfl
        · rw [rs_sm_1 rfl rfl rfl c25] at ih
          refine rj_iload_n (pc := 28) F dX1_choices_28 rfl ?_
          refine rj_iconst (pc := 29) (v := nI 1) F dX1_choices_29 (by decide) ?_
          refine rj_iaddE (pc := 30) F dX1_choices_30 (nI_add _ _) ?_
          refine rj_goto (pc := 31) (tgt := 35) F dX1_choices_31 (by decide) ?_
          refine rj_istore_n (pc := 35) F dX1_choices_35 (by decide) ?_
          refine rj_iinc (pc := 36) F dX1_choices_36 rfl (by decide) (rs_inc c) ?_
          refine rj_goto (pc := 39) (tgt := 4) F dX1_choices_39 (by decide) ?_
          exact rj_to3 ih rfl rfl rfl
  refine rj_iconst (pc := 0) (v := nI 0) F dX1_choices_0 (by decide) ?_
  refine rj_istore_n (pc := 1) F dX1_choices_1 (by decide) ?_
  refine rj_iconst (pc := 2) (v := nI 0) F dX1_choices_2 (by decide) ?_
  refine rj_istore_n (pc := 3) F dX1_choices_3 (by decide) ?_
  exact rj_to3 (loop 33 0 (by omega) (by omega)) rfl rfl rfl
end MR
end
section
/-! RoleSessionsModel: send -/
theorem rs_get_app {l : List Nat} {v : Nat} {f : Nat → Int32} {g : Nat → Int32} (h : ∀ c, c < l.length → f c = nI (l.getD c 0)) (h1 : ∀ c, c < l.length → g c = f c) (h2 : g l.length = nI v) : ∀ c, c < (l ++ [v]).length → g c = nI ((l ++ [v]).getD c 0) := by
  intro c hc
  simp at hc
  by_cases e : c = l.length
  · rw [e, h2]
    simp
  · rw [h1 c (by omega), h c (by omega), List.getD_eq_getElem?_getD, List.getD_eq_getElem?_getD, List.getElem?_append_left (by omega)]
theorem pp_sd_nil (r s k : Nat) : pp_sd r s k [] = [] := rfl
/-- the first sign of a plan on which the message is possible -/
theorem pp_ps_first {r s k t : Nat} {u : List Nat} (h : (pp_ev pp_ar (pp_ps r s k) (t :: u)).all id = true) : (pp_mt r s t ∧ k < pp_ar t) ∨ (¬ pp_mt r s t ∧ pp_ot r s t) := by
  by_cases hm : pp_mt r s t ∧ k < pp_ar t
  · exact Or.inl hm
  · by_cases ho : pp_ot r s t
    · exact Or.inr ⟨fun q => ho.2.1 q.2.1, ho⟩
    · rw [pp_ps_no hm ho] at h
      cases h
section MS
variable (l : Launch) (D : va_G) (dI : ClassId) (a : Nat → Nat)
set_option maxHeartbeats 16000000 in
theorem ct_X1_send {ts : List Nat} {run : rs_Rn} {S : rs_St} (x y z : Int32) (h : rs_IM ts run S) : rs_CT (rs_GM l D dI a) yX1_send cX1_send 11 (some .boolean) rm_X1_send [.ref (a 0), .int x, .int y, .int z] S (fun r S' => r = (rs_oN run x y z).1 ∧ rs_IM ts (rs_oN run x y z).2 S') := by
  refine rs_ofz (own := RX1) (by decide) rfl (Nat.le_of_ble_eq_true rfl) rfl rfl ?_
  intro E F K Rr
  refine rj_aload_n (pc := 0) F dX1_send_0 rfl ?_
  refine rj_iload_n (pc := 1) F dX1_send_1 rfl ?_
  refine rj_iload_n (pc := 2) F dX1_send_2 rfl ?_
  refine rj_iload_n (pc := 3) F dX1_send_3 rfl ?_
  refine rj_calli3 (pc := 4) F K rs_rcM (ct_X1_possible l D dI a x y z h) (lw_V q284 q273 q274 q17 q275) (by decide +kernel) ⟨rfl, rfl⟩ ⟨Nat.le_of_ble_eq_true rfl, Nat.le_of_ble_eq_true rfl⟩ (Nat.le_of_ble_eq_true rfl) dX1_send_4 (fun r S1 hp => ?_)
  obtain ⟨rfl, rfl⟩ := hp
  cases run with
  | none =>
    refine rj_if_ne (pc := 7) (tgt := 12) F dX1_send_7 (by decide) (fun c7 => ?_) (fun c7 => ?_)
    · exact absurd nI_0 c7
    · refine rj_iconst (pc := 10) (v := nI 0) F dX1_send_10 (by decide) ?_
      exact Rr 11 _ _ _ dX1_send_11 (by decide) ⟨rfl, h⟩
  | some q =>
    obtain ⟨g, n⟩ := q
    refine rj_if_ne (pc := 7) (tgt := 12) F dX1_send_7 (by decide) (fun c7 => ?_) (fun c7 => ?_)
    · have hpp : rs_pp g x y z := rs_bz_ne c7
      have e : rs_oN (some (g, n)) x y z = (nI 1, some (pp_sd x.toNatClampNeg y.toNatClampNeg z.toNatClampNeg g, n + 1)) := by show (if rs_pp g x y z then _ else _) = _; rw [if_pos hpp]
      obtain ⟨i, hi, rfl⟩ := rs_ro_to hpp.1
      obtain ⟨j, hj, rfl⟩ := rs_ro_to hpp.2.1
      obtain ⟨k, hk, rfl⟩ : ∃ k, k < 2 ∧ z = nI k := ⟨_, hpp.2.2.2.2.1, hpp.2.2.2.1⟩
      have hall := hpp.2.2.2.2.2
      rw [nI_clamp (by omega), nI_clamp (by omega), nI_clamp (by omega)] at e hall
      obtain ⟨hone, hl, hsz, hg⟩ := h.gM
      have hgo := pp_send hone hall
      obtain ⟨hv, h1, htk⟩ := hone
      have hNl := hgo.2.1
      have hfit := (h.2.1 g n rfl).2.2
      -- the copy back
      have K179 : ∀ S2 : rs_St, (∀ q, q < 8 → S2 q = S1 q) → (∀ c, c < (pp_sd i j k g).length → S2 8 c = nI ((pp_sd i j k g).getD c 0)) → rs_J (rs_GM l D dI a) E 179 [(4, .int (nI (pp_sd i j k g).length)), (0, .ref (a 0))] [] S2 := by
        intro S2 f1 f2
        have back : ∀ (m c : Nat) (S3 : rs_St), c ≤ (pp_sd i j k g).length → (pp_sd i j k g).length + 1 ≤ c + m → (∀ q, q ≠ 0 → S3 q = S2 q) → (∀ w, w < 21 → S3 0 w = S1 0 w) → (∀ w, w < c → S3 0 (21 + w) = nI ((pp_sd i j k g).getD w 0)) → rs_J (rs_GM l D dI a) E 182 [(6, .int (nI c)), (4, .int (nI (pp_sd i j k g).length)), (0, .ref (a 0))] [] S3 := by
          intro m
          induction m with
          | zero => intro c S3 q1 q2; omega
          | succ m ih =>
            intro c S3 q1 q2 q3 q4 q5
            refine rj_iload (pc := 182) F dX1_send_182 rfl ?_
            refine rj_iload (pc := 184) F dX1_send_184 rfl ?_
            refine rj_icmp_ge (pc := 186) (tgt := 212) F dX1_send_186 (by decide) (fun c186 => ?_) (fun c186 => ?_)
            · rw [nI_leI (by omega) (by omega)] at c186
              refine rj_aload_n (pc := 212) F dX1_send_212 rfl ?_
              refine ry_g1 (pc := 213) F K q178 dX1_send_213 ?_
              refine rj_iconst (pc := 216) (v := nI 1) F dX1_send_216 (by decide) ?_
              refine rj_iload (pc := 217) F dX1_send_217 rfl ?_
              refine ry_s1 (pc := 219) F K dX1_send_219 rfl (by omega) ?_
              refine rj_aload_n (pc := 220) F dX1_send_220 rfl ?_
              refine rj_dup (pc := 221) F dX1_send_221 rfl ?_
              refine ry_g3 (pc := 222) F K q180 dX1_send_222 ?_
              refine rj_top (y := nI n) (by show S3 3 0 = _; rw [q3 3 (by omega), f1 3 (by omega)]; exact h.run1.2.1) ?_
              refine rj_iconst (pc := 225) (v := nI 1) F dX1_send_225 (by decide) ?_
              refine rj_iaddE (pc := 226) F dX1_send_226 (nI_add _ _) ?_
              refine ry_p3 (pc := 227) F K q180 dX1_send_227 ?_
              refine rj_iconst (pc := 230) (v := nI 1) F dX1_send_230 (by decide) ?_
              refine Rr 231 _ _ _ dX1_send_231 (by decide) ?_
              rw [e]
              refine ⟨rfl, h.1, ?_, ?_, ?_, ?_, rfl, rfl, ?_⟩
              · intro g' n' e2
                cases e2
                refine ⟨hgo.1, by omega, fun x hx => ?_⟩
                obtain ⟨L, hL⟩ := hfit x hx
                by_cases e3 : x = i ∨ x = j
                · exact ⟨_, (hgo.2.2 x L hL).2 e3⟩
                · exact ⟨_, (hgo.2.2 x L hL).1 (fun q => e3 (Or.inl q)) (fun q => e3 (Or.inr q))⟩
              · show S3 1 0 = _
                rw [q3 1 (by omega), f1 1 (by omega)]
                exact h.2.2.1
              · intro w hw
                have := h.1.1
                show S3 0 w = _
                rw [q4 w (by omega)]
                exact h.2.2.2.1 w hw
              · show S3 2 0 = _
                rw [q3 2 (by omega), f1 2 (by omega)]
                exact h.run1.1
              · intro w hw
                show S3 0 (21 + w) = _
                exact q5 w (by omega)
            · rw [nI_leI (by omega) (by omega)] at c186
              refine rj_aload_n (pc := 189) F dX1_send_189 rfl ?_
              refine ry_g0 (pc := 190) F K q177 dX1_send_190 ?_
              refine rj_bipush (pc := 193) (v := nI 21) F dX1_send_193 (by decide) ?_
              refine rj_iload (pc := 195) F dX1_send_195 rfl ?_
              refine rj_iaddE (pc := 197) F dX1_send_197 (nI_add _ _) ?_
              refine rj_aload_n (pc := 198) F dX1_send_198 rfl ?_
              refine ry_g8 (pc := 199) F K q185 dX1_send_199 ?_
              refine rj_iload (pc := 202) F dX1_send_202 rfl ?_
              refine ry_l8 (pc := 204) F K dX1_send_204 rfl (by omega) ?_
              refine rj_top (y := nI ((pp_sd i j k g).getD c 0)) (by rw [q3 8 (by omega)]; exact f2 c (by omega)) ?_
              refine ry_s0 (pc := 205) F K dX1_send_205 rfl (by omega) ?_
              refine rj_iinc (pc := 206) F dX1_send_206 rfl (by decide) (rs_inc c) ?_
              refine rj_goto (pc := 209) (tgt := 182) F dX1_send_209 (by decide) ?_
              refine rj_to3 (ih (c + 1) _ (by omega) (by omega) (fun q hq => ?_) (fun w hw => ?_) (fun w hw => ?_)) rfl rfl rfl
              · funext w
                rw [rs_sU_k _ _ _ _ hq, q3 q hq]
              · rw [rs_sU_j _ _ _ (by omega)]
                exact q4 w hw
              · by_cases ew : w = c
                · rw [ew, rs_sU_s]
                · rw [rs_sU_j _ _ _ (by omega)]
                  exact q5 w (by omega)
        refine rj_iconst (pc := 179) (v := nI 0) F dX1_send_179 (by decide) ?_
        refine rj_istore (pc := 180) F dX1_send_180 (by decide) ?_
        exact rj_to3 (back ((pp_sd i j k g).length + 1) 0 S2 (Nat.zero_le _) (by omega) (fun _ _ => rfl) (fun w _ => by rw [f1 0 (by omega)]) (fun w hw => absurd hw (by omega))) rfl rfl rfl
      -- the copy of one piece
      have inner : ∀ (v7 : Int32) (p en : Nat) (full : List Nat), en ≤ g.length → full.length ≤ 21 → (∀ S3 : rs_St, (∀ q, q < 8 → S3 q = S1 q) → (∀ c, c < full.length → S3 8 c = nI (full.getD c 0)) → rs_J (rs_GM l D dI a) E 156 [(7, .int v7), (5, .int (nI p)), (4, .int (nI full.length)), (3, .int (nI k)), (2, .int (nI j)), (1, .int (nI i)), (0, .ref (a 0))] [] S3) → ∀ (m c : Nat) (pre : List Nat) (S2 : rs_St), c ≤ en → en + 1 ≤ c + m → (∀ q, q < 8 → S2 q = S1 q) → (∀ c, c < pre.length → S2 8 c = nI (pre.getD c 0)) → pre ++ (g.drop c).take (en - c) = full → rs_J (rs_GM l D dI a) E 123 [(10, .int (nI c)), (9, .int (nI en)), (7, .int v7), (5, .int (nI p)), (4, .int (nI pre.length)), (3, .int (nI k)), (2, .int (nI j)), (1, .int (nI i)), (0, .ref (a 0))] [] S2 := by
        intro v7 p en full hen hfl cont m
        induction m with
        | zero => intro c pre S2 q1 q2; omega
        | succ m ih =>
          intro c pre S2 q1 q2 q3 q4 q5
          refine rj_iload (pc := 123) F dX1_send_123 rfl ?_
          refine rj_iload (pc := 125) F dX1_send_125 rfl ?_
          refine rj_icmp_ge (pc := 127) (tgt := 156) F dX1_send_127 (by decide) (fun c127 => ?_) (fun c127 => ?_)
          · rw [nI_leI (by omega) (by omega)] at c127
            have ec : en - c = 0 := by omega
            rw [ec, List.take_zero, List.append_nil] at q5
            subst q5
            exact rj_to7 (cont S2 q3 q4) rfl rfl rfl rfl rfl rfl rfl
          · rw [nI_leI (by omega) (by omega)] at c127
            have hc : c < g.length := by omega
            have ec : en - c = (en - (c + 1)) + 1 := by omega
            have q6 : (pre ++ [g.getD c 0]) ++ (g.drop (c + 1)).take (en - (c + 1)) = full := by
              rw [← q5, rs_drop hc, ec, List.take_succ_cons, List.append_assoc]
              rfl
            have hpl : pre.length < 21 := by
              have := congrArg List.length q6
              simp at this
              omega
            have ih := ih (c + 1) (pre ++ [g.getD c 0]) (rs_sU S2 8 pre.length (nI (g.getD c 0))) (by omega) (by omega) (fun q hq => by funext w; rw [rs_sU_k _ _ _ _ (by omega), q3 q hq]) (rs_get_app (f := S2 8) q4 (fun w hw => by rw [rs_sU_j _ _ _ (by omega)]) (by rw [rs_sU_s])) q6
            rw [List.length_append] at ih
            refine rj_aload_n (pc := 130) F dX1_send_130 rfl ?_
            refine ry_g8 (pc := 131) F K q185 dX1_send_131 ?_
            refine rj_iload (pc := 134) F dX1_send_134 rfl ?_
            refine rj_aload_n (pc := 136) F dX1_send_136 rfl ?_
            refine ry_g0 (pc := 137) F K q177 dX1_send_137 ?_
            refine rj_bipush (pc := 140) (v := nI 21) F dX1_send_140 (by decide) ?_
            refine rj_iload (pc := 142) F dX1_send_142 rfl ?_
            refine rj_iaddE (pc := 144) F dX1_send_144 (nI_add _ _) ?_
            refine ry_l0 (pc := 145) F K dX1_send_145 rfl (by omega) ?_
            refine rj_top (y := nI (g.getD c 0)) (by rw [q3 0 (by omega)]; exact hg c hc) ?_
            refine ry_s8 (pc := 146) F K dX1_send_146 rfl hpl ?_
            refine rj_iinc (pc := 147) F dX1_send_147 rfl (by decide) (rs_inc pre.length) ?_
            refine rj_iinc (pc := 150) F dX1_send_150 rfl (by decide) (rs_inc c) ?_
            refine rj_goto (pc := 153) (tgt := 123) F dX1_send_153 (by decide) ?_
            exact rj_to9 ih rfl rfl rfl rfl rfl rfl rfl rfl rfl
      have outer : ∀ (m p : Nat) (pre : List Nat) (S2 : rs_St), p ≤ g.length → g.length + 1 ≤ p + m → (∀ q, q < 8 → S2 q = S1 q) → (∀ c, c < pre.length → S2 8 c = nI (pre.getD c 0)) → pre ++ pp_sd i j k (g.drop p) = pp_sd i j k g → (pp_ev pp_ar (pp_ps i j k) (g.drop p)).all id = true → rs_J (rs_GM l D dI a) E 18 [(5, .int (nI p)), (4, .int (nI pre.length)), (3, .int (nI k)), (2, .int (nI j)), (1, .int (nI i)), (0, .ref (a 0))] [] S2 := by
        intro m
        induction m with
        | zero => intro p pre S2 q1 q2; omega
        | succ m ih =>
          intro p pre S2 q1 q2 q3 q4 q5 q6
          refine rj_iload (pc := 18) F dX1_send_18 rfl ?_
          refine rj_aload_n (pc := 20) F dX1_send_20 rfl ?_
          refine ry_g1 (pc := 21) F K q178 dX1_send_21 ?_
          refine rj_iconst (pc := 24) (v := nI 1) F dX1_send_24 (by decide) ?_
          refine ry_l1 (pc := 25) F K dX1_send_25 rfl (by omega) ?_
          refine rj_top (y := nI g.length) (by rw [q3 1 (by omega)]; exact hsz) ?_
          refine rj_icmp_ge (pc := 26) (tgt := 179) F dX1_send_26 (by decide) (fun c26 => ?_) (fun c26 => ?_)
          · rw [nI_leI (by omega) (by omega)] at c26
            rw [List.drop_eq_nil_of_le c26, pp_sd_nil, List.append_nil] at q5
            subst q5
            exact rj_to2 (K179 S2 q3 q4) rfl rfl
          · rw [nI_leI (by omega) (by omega)] at c26
            have hp : p < g.length := by omega
            have ht := htk _ (rs_get hp)
            have hvk := pp_vd_drop hv p
            have hgk := hg p hp
            have hdr := rs_drop hp
            generalize g.getD p 0 = t at ht hgk hdr
            rw [hdr] at hvk
            have hle := pp_ln_le (ar := pp_ar) 1 (g.drop p)
            have hpos := pp_ln_pos (ar := pp_ar) (ts := g.drop p) (by rw [hdr]; simp)
            rw [List.length_drop] at hle
            rw [hdr] at q5 q6
            have hsn := pp_sn_lt t
            have hrc := pp_rc_lt t
            have hal := pp_ar_le t
            have t33 := ht.1
            have hfirst := pp_ps_first q6
            have hg2 : ∀ w, w < g.length → S2 0 (21 + w) = nI (g.getD w 0) := fun w hw => by rw [q3 0 (by omega)]; exact hg w hw
            -- not meant
            have K66n : ¬ pp_mt i j t → rs_J (rs_GM l D dI a) E 66 [(5, .int (nI p)), (4, .int (nI pre.length)), (3, .int (nI k)), (2, .int (nI j)), (1, .int (nI i)), (0, .ref (a 0))] [.int (nI 0)] S2 := by
              intro hm
              have ho := (hfirst.resolve_left (fun q => hm q.1)).2
              rw [pp_sd_copy hm] at q5
              have q5' : (pre ++ [t]) ++ pp_sd i j k (g.drop (p + 1)) = pp_sd i j k g := by rw [← q5, List.append_assoc]; rfl
              have hfl : (pre ++ [t]).length ≤ 21 := by
                have := congrArg List.length q5'
                rw [List.length_append] at this
                omega
              refine rj_istore (pc := 66) F dX1_send_66 (by decide) ?_
              refine rj_iload (pc := 68) F dX1_send_68 rfl ?_
              refine rj_if_ne (pc := 70) (tgt := 78) F dX1_send_70 (by decide) (fun c70 => ?_) (fun c70 => ?_)
              · exact absurd nI_0 c70
              · refine rj_iload (pc := 73) F dX1_send_73 rfl ?_
                refine rj_goto (pc := 75) (tgt := 97) F dX1_send_75 (by decide) ?_
                refine rj_istore (pc := 97) F dX1_send_97 (by decide) ?_
                refine rj_iload (pc := 99) F dX1_send_99 rfl ?_
                refine rj_if_eq (pc := 101) (tgt := 113) F dX1_send_101 (by decide) (fun c101 => ?_) (fun c101 => ?_)
                · refine rj_iload (pc := 113) F dX1_send_113 rfl ?_
                  refine rj_iconst (pc := 115) (v := nI 1) F dX1_send_115 (by decide) ?_
                  refine rj_iaddE (pc := 116) F dX1_send_116 (nI_add _ _) ?_
                  refine rj_istore (pc := 117) F dX1_send_117 (by decide) ?_
                  refine rj_iload (pc := 119) F dX1_send_119 rfl ?_
                  refine rj_istore (pc := 121) F dX1_send_121 (by decide) ?_
                  refine rj_to9 (inner (nI 0) p (p + 1) (pre ++ [t]) (by omega) hfl ?_ 2 p pre S2 (by omega) (by omega) q3 q4 ?_) rfl rfl rfl rfl rfl rfl rfl rfl rfl
                  · intro S3 f1 f2
                    refine rj_iload (pc := 156) F dX1_send_156 rfl ?_
                    refine rj_if_eq (pc := 158) (tgt := 170) F dX1_send_158 (by decide) (fun c158 => ?_) (fun c158 => ?_)
                    · refine rj_iload (pc := 170) F dX1_send_170 rfl ?_
                      refine rj_iconst (pc := 172) (v := nI 1) F dX1_send_172 (by decide) ?_
                      refine rj_iaddE (pc := 173) F dX1_send_173 (nI_add _ _) ?_
                      refine rj_istore (pc := 174) F dX1_send_174 (by decide) ?_
                      refine rj_goto (pc := 176) (tgt := 18) F dX1_send_176 (by decide) ?_
                      exact rj_to6 (ih (p + 1) (pre ++ [t]) S3 (by omega) (by omega) f1 f2 q5' (by rw [← q6, pp_ps_other (fun q => hm q.1) ho])) rfl rfl rfl rfl rfl rfl
                    · exact absurd nI_0 c158
                  · rw [hdr, show p + 1 - p = 0 + 1 by omega, List.take_succ_cons, List.take_zero]
                · exact absurd nI_0 c101
            -- meant
            have K66m : pp_mt i j t → rs_J (rs_GM l D dI a) E 66 [(5, .int (nI p)), (4, .int (nI pre.length)), (3, .int (nI k)), (2, .int (nI j)), (1, .int (nI i)), (0, .ref (a 0))] [.int (nI 1)] S2 := by
              intro hm
              have hka : k < pp_ar t := (hfirst.resolve_right (fun q => q.1 hm)).2
              have hu1 : pp_ar t ≤ pp_hg pp_ar (g.drop (p + 1)) := hvk.1
              rw [pp_sd_skip hvk hm hka, ← List.append_assoc] at q5
              have q6' := q6
              rw [pp_ps_skip hvk ⟨hm, hka⟩] at q6'
              rw [← hdr, List.drop_drop] at q5 q6'
              have hfl : (pre ++ (pp_fo pp_ar (g.drop (p + 1))).getD k []).length ≤ 21 := by
                have := congrArg List.length q5
                rw [List.length_append] at this
                omega
              have K97 : ∀ st : Nat, st < g.length → (g.drop st).take (pp_ln pp_ar 1 (g.drop st)) = (pp_fo pp_ar (g.drop (p + 1))).getD k [] → rs_J (rs_GM l D dI a) E 97 [(7, .int (nI 1)), (5, .int (nI p)), (4, .int (nI pre.length)), (3, .int (nI k)), (2, .int (nI j)), (1, .int (nI i)), (0, .ref (a 0))] [.int (nI st)] S2 := by
                intro st hst hseg
                have hle2 := pp_ln_le (ar := pp_ar) 1 (g.drop st)
                rw [List.length_drop] at hle2
                refine rj_istore (pc := 97) F dX1_send_97 (by decide) ?_
                refine rj_iload (pc := 99) F dX1_send_99 rfl ?_
                refine rj_if_eq (pc := 101) (tgt := 113) F dX1_send_101 (by decide) (fun c101 => ?_) (fun c101 => ?_)
                · exact absurd c101 (by decide)
                · refine rj_aload_n (pc := 104) F dX1_send_104 rfl ?_
                  refine rj_iload (pc := 105) F dX1_send_105 rfl ?_
                  refine rj_calli1 (pc := 107) F K rs_rcM (ct_X1_behind l D dI a hv htk hl hg2 hst) (lw_V q276 q278 qs13 q17 q279) (by decide +kernel) ⟨rfl, rfl⟩ ⟨Nat.le_of_ble_eq_true rfl, Nat.le_of_ble_eq_true rfl⟩ (Nat.le_of_ble_eq_true rfl) dX1_send_107 (fun r S3 hp3 => ?_)
                  obtain ⟨rfl, rfl⟩ := hp3
                  refine rj_goto (pc := 110) (tgt := 117) F dX1_send_110 (by decide) ?_
                  refine rj_istore (pc := 117) F dX1_send_117 (by decide) ?_
                  refine rj_iload (pc := 119) F dX1_send_119 rfl ?_
                  refine rj_istore (pc := 121) F dX1_send_121 (by decide) ?_
                  refine rj_to9 (inner (nI 1) p (st + pp_ln pp_ar 1 (g.drop st)) (pre ++ (pp_fo pp_ar (g.drop (p + 1))).getD k []) (by omega) hfl ?_ (pp_ln pp_ar 1 (g.drop st) + 1) st pre S3 (by omega) (by omega) q3 q4 ?_) rfl rfl rfl rfl rfl rfl rfl rfl rfl
                  · intro S4 f1 f2
                    refine rj_iload (pc := 156) F dX1_send_156 rfl ?_
                    refine rj_if_eq (pc := 158) (tgt := 170) F dX1_send_158 (by decide) (fun c158 => ?_) (fun c158 => ?_)
                    · exact absurd c158 (by decide)
                    · refine rj_aload_n (pc := 161) F dX1_send_161 rfl ?_
                      refine rj_iload (pc := 162) F dX1_send_162 rfl ?_
                      refine rj_calli1 (pc := 164) F K rs_rcM (ct_X1_behind l D dI a hv htk hl (fun w hw => by rw [f1 0 (by omega)]; exact hg w hw) hp) (lw_V q276 q278 qs13 q17 q279) (by decide +kernel) ⟨rfl, rfl⟩ ⟨Nat.le_of_ble_eq_true rfl, Nat.le_of_ble_eq_true rfl⟩ (Nat.le_of_ble_eq_true rfl) dX1_send_164 (fun r S5 hp5 => ?_)
                      obtain ⟨rfl, rfl⟩ := hp5
                      refine rj_goto (pc := 167) (tgt := 174) F dX1_send_167 (by decide) ?_
                      refine rj_istore (pc := 174) F dX1_send_174 (by decide) ?_
                      refine rj_goto (pc := 176) (tgt := 18) F dX1_send_176 (by decide) ?_
                      exact rj_to6 (ih (p + pp_ln pp_ar 1 (g.drop p)) _ S5 (by omega) (by omega) f1 f2 q5 q6') rfl rfl rfl rfl rfl rfl
                  · rw [show st + pp_ln pp_ar 1 (g.drop st) - st = pp_ln pp_ar 1 (g.drop st) by omega, hseg]
              have hne : g.drop (p + 1) ≠ [] := by
                intro e2
                rw [e2] at hu1
                have : pp_hg pp_ar [] = 0 := rfl
                omega
              have hp1 : p + 1 < g.length := by
                rcases Nat.lt_or_ge (p + 1) g.length with q | q
                · exact q
                · exact absurd (List.drop_eq_nil_of_le q) hne
              refine rj_istore (pc := 66) F dX1_send_66 (by decide) ?_
              refine rj_iload (pc := 68) F dX1_send_68 rfl ?_
              refine rj_if_ne (pc := 70) (tgt := 78) F dX1_send_70 (by decide) (fun c70 => ?_) (fun c70 => ?_)
              · refine rj_iload_n (pc := 78) F dX1_send_78 rfl ?_
                refine rj_if_ne (pc := 79) (tgt := 89) F dX1_send_79 (by decide) (fun c79 => ?_) (fun c79 => ?_)
                · have hk1 : k = 1 := by
                    rcases Nat.lt_or_ge k 1 with q | q
                    · have : k = 0 := by omega
                      rw [this] at c79
                      exact absurd nI_0 c79
                    · omega
                  have hdd : (g.drop (p + 1)).drop (pp_ln pp_ar 1 (g.drop (p + 1))) = g.drop (p + 1 + pp_ln pp_ar 1 (g.drop (p + 1))) := List.drop_drop
                  have hst : p + 1 + pp_ln pp_ar 1 (g.drop (p + 1)) < g.length := by
                    have e2 := pp_hg_skip hvk.2 (k := 1) (by omega)
                    have := pp_hg_le (ar := pp_ar) ((g.drop (p + 1)).drop (pp_ln pp_ar 1 (g.drop (p + 1))))
                    rw [hdd, List.length_drop] at this
                    rw [hdd] at e2
                    omega
                  have hseg := pp_tree1 hvk.2 (by omega)
                  rw [hdd] at hseg
                  refine rj_aload_n (pc := 89) F dX1_send_89 rfl ?_
                  refine rj_iload (pc := 90) F dX1_send_90 rfl ?_
                  refine rj_iconst (pc := 92) (v := nI 1) F dX1_send_92 (by decide) ?_
                  refine rj_iaddE (pc := 93) F dX1_send_93 (nI_add _ _) ?_
                  refine rj_calli1 (pc := 94) F K rs_rcM (ct_X1_behind l D dI a hv htk hl hg2 hp1) (lw_V q276 q278 qs13 q17 q279) (by decide +kernel) ⟨rfl, rfl⟩ ⟨Nat.le_of_ble_eq_true rfl, Nat.le_of_ble_eq_true rfl⟩ (Nat.le_of_ble_eq_true rfl) dX1_send_94 (fun r S3 hp3 => ?_)
                  obtain ⟨rfl, rfl⟩ := hp3
                  exact rj_to7 (K97 _ hst (by rw [hk1]; exact hseg)) rfl rfl rfl rfl rfl rfl rfl
                · have hk0 : k = 0 := by
                    rw [← nI_0, nI_eq (by omega) (by omega)] at c79
                    exact c79
                  refine rj_iload (pc := 82) F dX1_send_82 rfl ?_
                  refine rj_iconst (pc := 84) (v := nI 1) F dX1_send_84 (by decide) ?_
                  refine rj_iaddE (pc := 85) F dX1_send_85 (nI_add _ _) ?_
                  refine rj_goto (pc := 86) (tgt := 97) F dX1_send_86 (by decide) ?_
                  exact rj_to7 (K97 (p + 1) hp1 (by rw [hk0]; exact pp_tree0 hne)) rfl rfl rfl rfl rfl rfl rfl
              · exact absurd c70 (by decide)
            refine rj_aload_n (pc := 29) F dX1_send_29 rfl ?_
            refine ry_g0 (pc := 30) F K q177 dX1_send_30 ?_
            refine rj_bipush (pc := 33) (v := nI 21) F dX1_send_33 (by decide) ?_
            refine rj_iload (pc := 35) F dX1_send_35 rfl ?_
            refine rj_iaddE (pc := 37) F dX1_send_37 (nI_add _ _) ?_
            refine ry_l0 (pc := 38) F K dX1_send_38 rfl (by omega) ?_
            refine rj_top (y := nI t) (by rw [q3 0 (by omega)]; exact hgk) ?_
            have ht0 : t ≠ 0 := hfirst.elim (fun q => q.1.1) (fun q => q.2.1)
            refine rj_istore (pc := 39) F dX1_send_39 (by decide) ?_
            refine rj_aload_n (pc := 41) F dX1_send_41 rfl ?_
            refine rj_iload (pc := 42) F dX1_send_42 rfl ?_
            refine rj_callp1 (pc := 44) F K rs_rcM (ct_X1_sender l (a 0) t33) (lw_V q209 q211 qs5 q17 q212) (by decide +kernel) ⟨rfl, rfl⟩ ⟨Nat.le_of_ble_eq_true rfl, Nat.le_of_ble_eq_true rfl⟩ (Nat.le_of_ble_eq_true rfl) dX1_send_44 ?_
            refine rj_iload_n (pc := 47) F dX1_send_47 rfl ?_
            refine rj_icmp_ne (pc := 48) (tgt := 65) F dX1_send_48 (by decide) (fun c48 => ?_) (fun c48 => ?_)
            · rw [nI_eq (by omega) (by omega)] at c48
              refine rj_iconst (pc := 65) (v := nI 0) F dX1_send_65 (by decide) ?_
              exact rj_to6 (K66n (fun q => c48 q.2.1)) rfl rfl rfl rfl rfl rfl
            · rw [nI_eq (by omega) (by omega)] at c48
              refine rj_aload_n (pc := 51) F dX1_send_51 rfl ?_
              refine rj_iload (pc := 52) F dX1_send_52 rfl ?_
              refine rj_callp1 (pc := 54) F K rs_rcM (ct_X1_receiver l (a 0) t33) (lw_V q213 q215 qs6 q17 q216) (by decide +kernel) ⟨rfl, rfl⟩ ⟨Nat.le_of_ble_eq_true rfl, Nat.le_of_ble_eq_true rfl⟩ (Nat.le_of_ble_eq_true rfl) dX1_send_54 ?_
              refine rj_iload_n (pc := 57) F dX1_send_57 rfl ?_
              refine rj_icmp_ne (pc := 58) (tgt := 65) F dX1_send_58 (by decide) (fun c58 => ?_) (fun c58 => ?_)
              · rw [nI_eq (by omega) (by omega)] at c58
                refine rj_iconst (pc := 65) (v := nI 0) F dX1_send_65 (by decide) ?_
                exact rj_to6 (K66n (fun q => c58 q.2.2)) rfl rfl rfl rfl rfl rfl
              · rw [nI_eq (by omega) (by omega)] at c58
                refine rj_iconst (pc := 61) (v := nI 1) F dX1_send_61 (by decide) ?_
                refine rj_goto (pc := 62) (tgt := 66) F dX1_send_62 (by decide) ?_
                exact rj_to6 (K66m ⟨ht0, c48, c58⟩) rfl rfl rfl rfl rfl rfl
      refine rj_iconst (pc := 12) (v := nI 0) F dX1_send_12 (by decide) ?_
      refine rj_istore (pc := 13) F dX1_send_13 (by decide) ?_
      refine rj_iconst (pc := 15) (v := nI 0) F dX1_send_15 (by decide) ?_
      refine rj_istore (pc := 16) F dX1_send_16 (by decide) ?_
      exact rj_to6 (outer (g.length + 1) 0 [] S1 (Nat.zero_le _) (by omega) (fun _ _ => rfl) (fun c hc => absurd hc (by simp)) rfl hall) rfl rfl rfl rfl rfl rfl
    · have hpp : ¬ rs_pp g x y z := rs_bz_eq c7
      have e : rs_oN (some (g, n)) x y z = (nI 0, some (g, n)) := by show (if rs_pp g x y z then _ else _) = _; rw [if_neg hpp]
      refine rj_iconst (pc := 10) (v := nI 0) F dX1_send_10 (by decide) ?_
      exact Rr 11 _ _ _ dX1_send_11 (by decide) (by rw [e]; exact ⟨rfl, h⟩)
end MS
end
section
/-! RoleSessionsModel: the stack of parts in 'local' and 'lengths': front, join, measure -/
def rs_Lo (stk : List (List Nat)) (S : rs_St) : Prop :=
  stk.flatten.length ≤ 21 ∧ stk.length ≤ 21 ∧ S 4 0 = nI (21 - stk.flatten.length) ∧ (∀ j, j < stk.flatten.length → S 5 (21 - stk.flatten.length + j) = nI (stk.flatten.getD j 0)) ∧ S 6 0 = nI stk.length ∧ (∀ q, q < stk.length → S 7 (stk.length - 1 - q) = nI ((stk.getD q []).length)) ∧ ∀ v ∈ stk.flatten, v ≤ 16
theorem rs_Lo_front {stk : List (List Nat)} {S S' : rs_St} {v k : Nat} (h : rs_Lo stk S) (hv : v ≤ 16) (hk : k ≤ stk.length) (hL : stk.flatten.length < 21) (hh : stk.length - k < 21) (e4 : S' 4 0 = nI (21 - stk.flatten.length - 1)) (e5 : S' 5 (21 - stk.flatten.length - 1) = nI v) (e5' : ∀ j, j ≠ 21 - stk.flatten.length - 1 → S' 5 j = S 5 j) (e6 : S' 6 0 = nI (stk.length - k + 1)) (e7 : S' 7 (stk.length - k) = nI (1 + (stk.take k).flatten.length)) (e7' : ∀ j, j ≠ stk.length - k → S' 7 j = S 7 j) : rs_Lo ((v :: (stk.take k).flatten) :: stk.drop k) S' := by
  obtain ⟨h1, h2, h3, h4, h5, h6, h7⟩ := h
  have hf : ((v :: (stk.take k).flatten) :: stk.drop k).flatten = v :: stk.flatten := by
    rw [List.flatten_cons, List.cons_append, ← List.flatten_append, List.take_append_drop]
  have hl : ((v :: (stk.take k).flatten) :: stk.drop k).length = stk.length - k + 1 := by simp
  unfold rs_Lo
  rw [hf, hl, List.length_cons]
  refine ⟨by omega, by omega, by rw [e4]; congr 1, fun j hj => ?_, e6, fun q hq => ?_, fun u hu => ?_⟩
  · cases j with
    | zero =>
      rw [show 21 - (stk.flatten.length + 1) + 0 = 21 - stk.flatten.length - 1 by omega, e5]
      rfl
    | succ j =>
      rw [e5' _ (by omega), show 21 - (stk.flatten.length + 1) + (j + 1) = 21 - stk.flatten.length + j by omega, h4 j (by omega)]
      simp
  · cases q with
    | zero =>
      rw [show stk.length - k + 1 - 1 - 0 = stk.length - k by omega, e7]
      simp
      congr 1
      omega
    | succ q =>
      rw [e7' _ (by omega), show stk.length - k + 1 - 1 - (q + 1) = stk.length - 1 - (k + q) by omega, h6 (k + q) (by omega)]
      simp [List.getD_eq_getElem?_getD]
  · rcases List.mem_cons.mp hu with e | e
    · rw [e]; exact hv
    · exact h7 u e
theorem rs_Lo_join {x y : List Nat} {R : List (List Nat)} {S S' : rs_St} (h : rs_Lo (x :: y :: R) S) (e4 : S' 4 0 = nI (21 - (x :: y :: R).flatten.length + x.length)) (e5 : S' 5 = S 5) (e6 : S' 6 0 = nI ((x :: y :: R).length - 1)) (e7 : S' 7 = S 7) : rs_Lo (y :: R) S' := by
  obtain ⟨h1, h2, h3, h4, h5, h6, h7⟩ := h
  have hf : (x :: y :: R).flatten = x ++ (y :: R).flatten := List.flatten_cons
  rw [hf, List.length_append] at h1 h4 e4
  rw [hf] at h7
  unfold rs_Lo
  generalize (y :: R).flatten = W at *
  refine ⟨by omega, by simp at h2 ⊢; omega, by rw [e4]; congr 1; omega, fun j hj => ?_, by rw [e6]; simp, fun q hq => ?_, fun u hu => h7 u (List.mem_append_right _ hu)⟩
  · have := h4 (x.length + j) (by omega)
    rw [e5, show 21 - W.length + j = 21 - (x.length + W.length) + (x.length + j) by omega, this, List.getD_eq_getElem?_getD, List.getD_eq_getElem?_getD, List.getElem?_append_right (by omega), show x.length + j - x.length = j by omega]
  · have := h6 (q + 1) (by simp at hq ⊢; omega)
    rw [e7, show (y :: R).length - 1 - q = (x :: y :: R).length - 1 - (q + 1) by simp only [List.length_cons]; omega, this]
    simp
theorem rs_ext {x y : List Nat} (hl : x.length = y.length) (h : ∀ j, j < x.length → x.getD j 0 = y.getD j 0) : x = y := by
  apply List.ext_getElem hl
  intro j h1 h2
  have := h j h1
  rw [List.getD_eq_getElem?_getD, List.getD_eq_getElem?_getD, List.getElem?_eq_getElem h1, List.getElem?_eq_getElem h2] at this
  exact this
section MP
variable (l : Launch) (D : va_G) (dI : ClassId) (a : Nat → Nat)
set_option maxHeartbeats 4000000 in
theorem ct_X1_front {stk : List (List Nat)} {S : rs_St} {v k : Nat} (h : rs_Lo stk S) (hv : v ≤ 16) (hk : k ≤ stk.length) (hL : stk.flatten.length < 21) (hh : stk.length - k < 21) : rs_CV (rs_GM l D dI a) yX1_front cX1_front 5 none rm_X1_front [.ref (a 0), .int (nI v), .int (nI k)] S (fun S' => rs_Lo ((v :: (stk.take k).flatten) :: stk.drop k) S' ∧ ∀ q, q < 4 ∨ q = 8 → S' q = S q) := by
  obtain ⟨h1, h2, h3, h4, h5, h6, h7⟩ := id h
  refine rs_ofv (own := RX1) (by decide) rfl (Nat.le_of_ble_eq_true rfl) rfl rfl ?_
  intro E F K Rr
  have hlen : ∀ c, c < stk.length → (stk.take (c + 1)).flatten.length = (stk.take c).flatten.length + (stk.getD c []).length := by
    intro c hc
    rw [List.take_add_one, List.flatten_append, List.length_append, List.getD_eq_getElem?_getD]
    cases hq : stk[c]? with
    | none => rw [List.getElem?_eq_none_iff] at hq; omega
    | some w => simp
  have hle : ∀ c, (stk.take c).flatten.length ≤ stk.flatten.length := by
    intro c
    have := congrArg List.length (congrArg List.flatten (List.take_append_drop c stk))
    rw [List.flatten_append, List.length_append] at this
    omega
  have loop : ∀ (m c : Nat) (S2 : rs_St), c ≤ k → k + 1 ≤ c + m → S2 6 0 = nI (stk.length - c) → (∀ q, q ≠ 6 → S2 q = rs_sU (rs_sU S 4 0 (nI (21 - stk.flatten.length - 1))) 5 (21 - stk.flatten.length - 1) (nI v) q) → rs_J (rs_GM l D dI a) E 25 [(4, .int (nI c)), (3, .int (nI (1 + (stk.take c).flatten.length))), (2, .int (nI k)), (0, .ref (a 0))] [] S2 := by
    intro m
    induction m with
    | zero => intro c S2 q1 q2; omega
    | succ m ih =>
      intro c S2 q1 q2 q3 q4
      have e7 : S2 7 = S 7 := (q4 7 (by omega))
      refine rj_iload (pc := 25) F dX1_front_25 rfl ?_
      refine rj_iload_n (pc := 27) F dX1_front_27 rfl ?_
      refine rj_icmp_ge (pc := 28) (tgt := 59) F dX1_front_28 (by decide) (fun c28 => ?_) (fun c28 => ?_)
      · rw [nI_leI (by omega) (by omega)] at c28
        have ec : c = k := by omega
        subst ec
        refine rj_aload_n (pc := 59) F dX1_front_59 rfl ?_
        refine ry_g7 (pc := 60) F K q184 dX1_front_60 ?_
        refine rj_aload_n (pc := 63) F dX1_front_63 rfl ?_
        refine ry_g6 (pc := 64) F K q183 dX1_front_64 ?_
        refine rj_top q3 ?_
        refine rj_iload_n (pc := 67) F dX1_front_67 rfl ?_
        refine ry_s7 (pc := 68) F K dX1_front_68 rfl (by omega) ?_
        refine rj_aload_n (pc := 69) F dX1_front_69 rfl ?_
        refine rj_dup (pc := 70) F dX1_front_70 rfl ?_
        refine ry_g6 (pc := 71) F K q183 dX1_front_71 ?_
        refine rj_top (y := nI (stk.length - c)) q3 ?_
        refine rj_iconst (pc := 74) (v := nI 1) F dX1_front_74 (by decide) ?_
        refine rj_iaddE (pc := 75) F dX1_front_75 (nI_add _ _) ?_
        refine ry_p6 (pc := 76) F K q183 dX1_front_76 ?_
        refine Rr 79 _ _ dX1_front_79 ⟨rs_Lo_front h hv hk hL hh ?_ ?_ ?_ rfl ?_ ?_, ?_⟩
        · show S2 4 0 = _
          rw [q4 4 (by omega)]
          rfl
        · show S2 5 _ = _
          rw [q4 5 (by omega), rs_sU_s]
        · intro j hj
          show S2 5 j = _
          rw [q4 5 (by omega), rs_sU_j _ _ _ hj]
          rfl
        · show rs_sU S2 7 (stk.length - c) _ 7 (stk.length - c) = _
          rw [rs_sU_s]
        · intro j hj
          show rs_sU S2 7 (stk.length - c) _ 7 j = _
          rw [rs_sU_j _ _ _ hj, e7]
        · intro q hq
          funext j
          rw [rs_sU_k _ _ _ _ (by omega), rs_sU_k _ _ _ _ (by omega), q4 q (by omega), rs_sU_k _ _ _ _ (by omega), rs_sU_k _ _ _ _ (by omega)]
      · rw [nI_leI (by omega) (by omega)] at c28
        refine rj_aload_n (pc := 31) F dX1_front_31 rfl ?_
        refine rj_dup (pc := 32) F dX1_front_32 rfl ?_
        refine ry_g6 (pc := 33) F K q183 dX1_front_33 ?_
        refine rj_top q3 ?_
        refine rj_iconst (pc := 36) (v := nI 1) F dX1_front_36 (by decide) ?_
        refine rj_isubE (pc := 37) F dX1_front_37 (pk_sub (by omega)) ?_
        refine ry_p6 (pc := 38) F K q183 dX1_front_38 ?_
        refine rj_iload_n (pc := 41) F dX1_front_41 rfl ?_
        refine rj_aload_n (pc := 42) F dX1_front_42 rfl ?_
        refine ry_g7 (pc := 43) F K q184 dX1_front_43 ?_
        refine rj_aload_n (pc := 46) F dX1_front_46 rfl ?_
        refine ry_g6 (pc := 47) F K q183 dX1_front_47 ?_
        refine ry_l7 (pc := 50) F K dX1_front_50 rfl (by omega) ?_
        have hle1 := hle c
        refine rj_top (y := nI ((stk.getD c []).length)) (by show S2 7 _ = _; rw [e7, show stk.length - c - 1 = stk.length - 1 - c by omega]; exact h6 c (by omega)) ?_
        have ih := ih (c + 1) (rs_sU S2 6 0 (nI (stk.length - c - 1))) (by omega) (by omega) (by rw [rs_sU_s]; congr 1) (fun q hq => by funext j; rw [rs_sU_k _ _ _ _ hq, q4 q hq])
        rw [hlen c (by omega), ← Nat.add_assoc] at ih
        refine rj_iaddE (pc := 51) F dX1_front_51 (nI_add _ _) ?_
        refine rj_istore_n (pc := 52) F dX1_front_52 (by decide) ?_
        refine rj_iinc (pc := 53) F dX1_front_53 rfl (by decide) (rs_inc c) ?_
        refine rj_goto (pc := 56) (tgt := 25) F dX1_front_56 (by decide) ?_
        exact rj_to4 ih rfl rfl rfl rfl
  refine rj_aload_n (pc := 0) F dX1_front_0 rfl ?_
  refine rj_dup (pc := 1) F dX1_front_1 rfl ?_
  refine ry_g4 (pc := 2) F K q181 dX1_front_2 ?_
  refine rj_top h3 ?_
  refine rj_iconst (pc := 5) (v := nI 1) F dX1_front_5 (by decide) ?_
  refine rj_isubE (pc := 6) F dX1_front_6 (pk_sub (by omega)) ?_
  refine ry_p4 (pc := 7) F K q181 dX1_front_7 ?_
  refine rj_aload_n (pc := 10) F dX1_front_10 rfl ?_
  refine ry_g5 (pc := 11) F K q182 dX1_front_11 ?_
  refine rj_aload_n (pc := 14) F dX1_front_14 rfl ?_
  refine ry_g4 (pc := 15) F K q181 dX1_front_15 ?_
  refine rj_iload_n (pc := 18) F dX1_front_18 rfl ?_
  refine ry_s5 (pc := 19) F K dX1_front_19 rfl (by omega) ?_
  refine rj_iconst (pc := 20) (v := nI 1) F dX1_front_20 (by decide) ?_
  refine rj_istore_n (pc := 21) F dX1_front_21 (by decide) ?_
  refine rj_iconst (pc := 22) (v := nI 0) F dX1_front_22 (by decide) ?_
  refine rj_istore (pc := 23) F dX1_front_23 (by decide) ?_
  exact rj_to4 (loop (k + 1) 0 _ (Nat.zero_le _) (by omega) h5 (fun _ _ => rfl)) rfl rfl rfl rfl
set_option maxHeartbeats 4000000 in
theorem ct_X1_join {x y : List Nat} {R : List (List Nat)} {S : rs_St} (h : rs_Lo (x :: y :: R) S) : rs_CT (rs_GM l D dI a) yX1_join cX1_join 4 (some .boolean) rm_X1_join [.ref (a 0)] S (fun r S' => r = rs_bz (x = y) ∧ rs_Lo (y :: R) S' ∧ ∀ q, q < 4 ∨ q = 8 → S' q = S q) := by
  obtain ⟨h1, h2, h3, h4, h5, h6, h7⟩ := id h
  have hf : (x :: y :: R).flatten = x ++ (y ++ R.flatten) := by rw [List.flatten_cons, List.flatten_cons]
  have hfl : (x :: y :: R).flatten.length = x.length + (y.length + R.flatten.length) := by rw [hf, List.length_append, List.length_append]
  have hh : 2 ≤ (x :: y :: R).length := by simp
  have l0 : S 7 ((x :: y :: R).length - 1) = nI x.length := h6 0 (by simp)
  have l1 : S 7 ((x :: y :: R).length - 2) = nI y.length := h6 1 (by simp)
  have ex : ∀ j, j < x.length → S 5 (21 - (x :: y :: R).flatten.length + j) = nI (x.getD j 0) := by
    intro j hj
    rw [h4 j (by omega), hf, List.getD_eq_getElem?_getD, List.getD_eq_getElem?_getD, List.getElem?_append_left hj]
  have ey : ∀ j, j < y.length → S 5 (21 - (x :: y :: R).flatten.length + x.length + j) = nI (y.getD j 0) := by
    intro j hj
    rw [Nat.add_assoc, h4 (x.length + j) (by omega), hf, List.getD_eq_getElem?_getD, List.getD_eq_getElem?_getD, List.getElem?_append_right (by omega), show x.length + j - x.length = j by omega, List.getElem?_append_left hj]
  have bx : ∀ j, j < x.length → x.getD j 0 ≤ 16 := fun j hj => h7 _ (by rw [hf]; exact List.mem_append_left _ (rs_get hj))
  have by' : ∀ j, j < y.length → y.getD j 0 ≤ 16 := fun j hj => h7 _ (by rw [hf]; exact List.mem_append_right _ (List.mem_append_left _ (rs_get hj)))
  generalize hHe : (x :: y :: R).length = hH at h2 h5 l0 l1 hh
  generalize hLe : (x :: y :: R).flatten.length = hL at h1 h3 hfl ex ey
  refine rs_ofz (own := RX1) (by decide) rfl (Nat.le_of_ble_eq_true rfl) rfl rfl ?_
  intro E F K Rr
  have K83 : ∀ v2 : Int32, v2 = rs_bz (x = y) → rs_J (rs_GM l D dI a) E 83 [(2, .int v2), (1, .int (nI x.length)), (0, .ref (a 0))] [] S := by
    intro v2 e2
    refine rj_aload_n (pc := 83) F dX1_join_83 rfl ?_
    refine rj_aload_n (pc := 84) F dX1_join_84 rfl ?_
    refine ry_g4 (pc := 85) F K q181 dX1_join_85 ?_
    refine rj_top h3 ?_
    refine rj_iload_n (pc := 88) F dX1_join_88 rfl ?_
    refine rj_iaddE (pc := 89) F dX1_join_89 (nI_add _ _) ?_
    refine ry_p4 (pc := 90) F K q181 dX1_join_90 ?_
    refine rj_aload_n (pc := 93) F dX1_join_93 rfl ?_
    refine rj_dup (pc := 94) F dX1_join_94 rfl ?_
    refine ry_g6 (pc := 95) F K q183 dX1_join_95 ?_
    refine rj_top (y := nI hH) h5 ?_
    refine rj_iconst (pc := 98) (v := nI 1) F dX1_join_98 (by decide) ?_
    refine rj_isubE (pc := 99) F dX1_join_99 (pk_sub (by omega)) ?_
    refine ry_p6 (pc := 100) F K q183 dX1_join_100 ?_
    refine rj_iload_n (pc := 103) F dX1_join_103 rfl ?_
    refine Rr 104 _ _ _ dX1_join_104 (by rw [e2]; exact rs_bz_and) ⟨e2, rs_Lo_join h ?_ rfl ?_ rfl, fun q hq => ?_⟩
    · rw [hLe]
      rfl
    · rw [hHe]
      rfl
    · funext j
      rw [rs_sU_k _ _ _ _ (by omega), rs_sU_k _ _ _ _ (by omega)]
  have loop : ∀ (m c : Nat) (v2 : Int32), c ≤ x.length → x.length + 1 ≤ c + m → ((v2 = nI 0 ∧ x ≠ y) ∨ (v2 = nI 1 ∧ x.length = y.length ∧ ∀ j, j < c → x.getD j 0 = y.getD j 0)) → rs_J (rs_GM l D dI a) E 35 [(3, .int (nI c)), (2, .int v2), (1, .int (nI x.length)), (0, .ref (a 0))] [] S := by
    intro m
    induction m with
    | zero => intro c v2 q1 q2; omega
    | succ m ih =>
      intro c v2 q1 q2 q3
      refine rj_iload_n (pc := 35) F dX1_join_35 rfl ?_
      refine rj_iload_n (pc := 36) F dX1_join_36 rfl ?_
      refine rj_icmp_ge (pc := 37) (tgt := 83) F dX1_join_37 (by decide) (fun c37 => ?_) (fun c37 => ?_)
      · rw [nI_leI (by omega) (by omega)] at c37
        refine rj_to3 (K83 v2 ?_) rfl rfl rfl
        rcases q3 with ⟨rfl, q3⟩ | ⟨rfl, q3, q4⟩
        · exact (rs_bz_f q3).symm
        · exact (rs_bz_t (rs_ext q3 (fun j hj => q4 j (by omega)))).symm
      · rw [nI_leI (by omega) (by omega)] at c37
        refine rj_iload_n (pc := 40) F dX1_join_40 rfl ?_
        refine rj_if_eq (pc := 41) (tgt := 83) F dX1_join_41 (by decide) (fun c41 => ?_) (fun c41 => ?_)
        · refine rj_to3 (K83 v2 ?_) rfl rfl rfl
          rcases q3 with ⟨rfl, q3⟩ | ⟨rfl, q3, q4⟩
          · exact (rs_bz_f q3).symm
          · exact absurd c41 (by decide)
        · rcases q3 with ⟨rfl, q3⟩ | ⟨rfl, q3, q4⟩
          · exact absurd nI_0 c41
          · have hcy : c < y.length := by omega
            have b1 := bx c (by omega)
            have b2 := by' c hcy
            refine rj_aload_n (pc := 44) F dX1_join_44 rfl ?_
            refine ry_g5 (pc := 45) F K q182 dX1_join_45 ?_
            refine rj_aload_n (pc := 48) F dX1_join_48 rfl ?_
            refine ry_g4 (pc := 49) F K q181 dX1_join_49 ?_
            refine rj_top h3 ?_
            refine rj_iload_n (pc := 52) F dX1_join_52 rfl ?_
            refine rj_iaddE (pc := 53) F dX1_join_53 (nI_add _ _) ?_
            refine ry_l5 (pc := 54) F K dX1_join_54 rfl (by omega) ?_
            refine rj_top (ex c (by omega)) ?_
            refine rj_aload_n (pc := 55) F dX1_join_55 rfl ?_
            refine ry_g5 (pc := 56) F K q182 dX1_join_56 ?_
            refine rj_aload_n (pc := 59) F dX1_join_59 rfl ?_
            refine ry_g4 (pc := 60) F K q181 dX1_join_60 ?_
            refine rj_top h3 ?_
            refine rj_iload_n (pc := 63) F dX1_join_63 rfl ?_
            refine rj_iaddE (pc := 64) F dX1_join_64 (nI_add _ _) ?_
            refine rj_iload_n (pc := 65) F dX1_join_65 rfl ?_
            refine rj_iaddE (pc := 66) F dX1_join_66 (nI_add _ _) ?_
            refine ry_l5 (pc := 67) F K dX1_join_67 rfl (by omega) ?_
            refine rj_top (ey c hcy) ?_
            refine rj_icmp_ne (pc := 68) (tgt := 75) F dX1_join_68 (by decide) (fun c68 => ?_) (fun c68 => ?_)
            · rw [nI_eq (by omega) (by omega)] at c68
              refine rj_iconst (pc := 75) (v := nI 0) F dX1_join_75 (by decide) ?_
              refine rj_istore_n (pc := 76) F dX1_join_76 (by decide) ?_
              refine rj_iinc (pc := 77) F dX1_join_77 rfl (by decide) (rs_inc c) ?_
              refine rj_goto (pc := 80) (tgt := 35) F dX1_join_80 (by decide) ?_
              exact rj_to4 (ih (c + 1) (nI 0) (by omega) (by omega) (Or.inl ⟨rfl, fun e => c68 (by rw [e])⟩)) rfl rfl rfl rfl
            · rw [nI_eq (by omega) (by omega)] at c68
              refine rj_iconst (pc := 71) (v := nI 1) F dX1_join_71 (by decide) ?_
              refine rj_goto (pc := 72) (tgt := 76) F dX1_join_72 (by decide) ?_
              refine rj_istore_n (pc := 76) F dX1_join_76 (by decide) ?_
              refine rj_iinc (pc := 77) F dX1_join_77 rfl (by decide) (rs_inc c) ?_
              refine rj_goto (pc := 80) (tgt := 35) F dX1_join_80 (by decide) ?_
              refine rj_to4 (ih (c + 1) (nI 1) (by omega) (by omega) (Or.inr ⟨rfl, q3, fun j hj => ?_⟩)) rfl rfl rfl rfl
              by_cases e : j = c
              · rw [e]; exact c68
              · exact q4 j (by omega)
  refine rj_aload_n (pc := 0) F dX1_join_0 rfl ?_
  refine ry_g7 (pc := 1) F K q184 dX1_join_1 ?_
  refine rj_aload_n (pc := 4) F dX1_join_4 rfl ?_
  refine ry_g6 (pc := 5) F K q183 dX1_join_5 ?_
  refine rj_top h5 ?_
  refine rj_iconst (pc := 8) (v := nI 1) F dX1_join_8 (by decide) ?_
  refine rj_isubE (pc := 9) F dX1_join_9 (pk_sub (by omega)) ?_
  refine ry_l7 (pc := 10) F K dX1_join_10 rfl (by omega) ?_
  refine rj_top l0 ?_
  refine rj_istore_n (pc := 11) F dX1_join_11 (by decide) ?_
  refine rj_iload_n (pc := 12) F dX1_join_12 rfl ?_
  refine rj_aload_n (pc := 13) F dX1_join_13 rfl ?_
  refine ry_g7 (pc := 14) F K q184 dX1_join_14 ?_
  refine rj_aload_n (pc := 17) F dX1_join_17 rfl ?_
  refine ry_g6 (pc := 18) F K q183 dX1_join_18 ?_
  refine rj_top h5 ?_
  refine rj_iconst (pc := 21) (v := nI 2) F dX1_join_21 (by decide) ?_
  refine rj_isubE (pc := 22) F dX1_join_22 (pk_sub hh) ?_
  refine ry_l7 (pc := 23) F K dX1_join_23 rfl (by omega) ?_
  refine rj_top l1 ?_
  refine rj_icmp_ne (pc := 24) (tgt := 31) F dX1_join_24 (by decide) (fun c24 => ?_) (fun c24 => ?_)
  · rw [nI_eq (by omega) (by omega)] at c24
    refine rj_iconst (pc := 31) (v := nI 0) F dX1_join_31 (by decide) ?_
    refine rj_istore_n (pc := 32) F dX1_join_32 (by decide) ?_
    refine rj_iconst (pc := 33) (v := nI 0) F dX1_join_33 (by decide) ?_
    refine rj_istore_n (pc := 34) F dX1_join_34 (by decide) ?_
    exact rj_to4 (loop (x.length + 1) 0 (nI 0) (Nat.zero_le _) (by omega) (Or.inl ⟨rfl, fun e => c24 (by rw [e])⟩)) rfl rfl rfl rfl
  · rw [nI_eq (by omega) (by omega)] at c24
    refine rj_iconst (pc := 27) (v := nI 1) F dX1_join_27 (by decide) ?_
    refine rj_goto (pc := 28) (tgt := 32) F dX1_join_28 (by decide) ?_
    refine rj_istore_n (pc := 32) F dX1_join_32 (by decide) ?_
    refine rj_iconst (pc := 33) (v := nI 0) F dX1_join_33 (by decide) ?_
    refine rj_istore_n (pc := 34) F dX1_join_34 (by decide) ?_
    exact rj_to4 (loop (x.length + 1) 0 (nI 1) (Nat.zero_le _) (by omega) (Or.inr ⟨rfl, c24, fun j hj => absurd hj (by omega)⟩)) rfl rfl rfl rfl
set_option maxHeartbeats 4000000 in
theorem ct_X1_measure {stk : List (List Nat)} {S : rs_St} (h : rs_Lo stk S) : rs_CT (rs_GM l D dI a) yX1_measure cX1_measure 3 (some .int) rm_X1_measure [.ref (a 0)] S (fun r S' => r = nI (pp_ct stk.flatten) ∧ S' = S) := by
  obtain ⟨h1, h2, h3, h4, h5, h6, h7⟩ := h
  generalize stk.flatten = W at h1 h3 h4 h7 ⊢
  refine rs_ofi (own := RX1) (by decide) rfl (Nat.le_of_ble_eq_true rfl) rfl rfl ?_
  intro E F K Rr
  have loop : ∀ (m c n : Nat), c ≤ W.length → W.length + 1 ≤ c + m → n + pp_ct (W.drop c) = pp_ct W → rs_J (rs_GM l D dI a) E 7 [(2, .int (nI (21 - W.length + c))), (1, .int (nI n)), (0, .ref (a 0))] [] S := by
    intro m
    induction m with
    | zero => intro c n q1 q2; omega
    | succ m ih =>
      intro c n q1 q2 q3
      refine rj_iload_n (pc := 7) F dX1_measure_7 rfl ?_
      refine rj_bipush (pc := 8) (v := nI 21) F dX1_measure_8 (by decide) ?_
      refine rj_icmp_ge (pc := 10) (tgt := 36) F dX1_measure_10 (by decide) (fun c10 => ?_) (fun c10 => ?_)
      · rw [nI_leI (by omega) (by omega)] at c10
        rw [List.drop_eq_nil_of_le (by omega)] at q3
        refine rj_iload_n (pc := 36) F dX1_measure_36 rfl ?_
        exact Rr 37 _ _ _ dX1_measure_37 ⟨by rw [← q3]; rfl, rfl⟩
      · rw [nI_leI (by omega) (by omega)] at c10
        have hc : c < W.length := by omega
        have hv := h7 _ (rs_get hc)
        have e5 := h4 c hc
        rw [rs_drop hc] at q3
        generalize W.getD c 0 = v at hv e5 q3
        have q3 : n + ((if v = 0 then 0 else 1) + pp_ct (W.drop (c + 1))) = pp_ct W := q3
        refine rj_aload_n (pc := 13) F dX1_measure_13 rfl ?_
        refine ry_g5 (pc := 14) F K q182 dX1_measure_14 ?_
        refine rj_iload_n (pc := 17) F dX1_measure_17 rfl ?_
        refine ry_l5 (pc := 18) F K dX1_measure_18 rfl (by omega) ?_
        refine rj_top e5 ?_
        refine rj_if_le (pc := 19) (tgt := 28) F dX1_measure_19 (by decide) (fun c19 => ?_) (fun c19 => ?_)
        · rw [← nI_0, nI_leI (by omega) (by omega)] at c19
          rw [if_pos (by omega)] at q3
          refine rj_iload_n (pc := 28) F dX1_measure_28 rfl ?_
          refine rj_istore_n (pc := 29) F dX1_measure_29 (by decide) ?_
          refine rj_iinc (pc := 30) F dX1_measure_30 rfl (by decide) (rs_inc _) ?_
          refine rj_goto (pc := 33) (tgt := 7) F dX1_measure_33 (by decide) ?_
          exact rj_to3 (ih (c + 1) n (by omega) (by omega) (by omega)) rfl rfl rfl
        · rw [← nI_0, nI_leI (by omega) (by omega)] at c19
          rw [if_neg (by omega)] at q3
          refine rj_iload_n (pc := 22) F dX1_measure_22 rfl ?_
          refine rj_iconst (pc := 23) (v := nI 1) F dX1_measure_23 (by decide) ?_
          refine rj_iaddE (pc := 24) F dX1_measure_24 (nI_add _ _) ?_
          refine rj_goto (pc := 25) (tgt := 29) F dX1_measure_25 (by decide) ?_
          refine rj_istore_n (pc := 29) F dX1_measure_29 (by decide) ?_
          refine rj_iinc (pc := 30) F dX1_measure_30 rfl (by decide) (rs_inc _) ?_
          refine rj_goto (pc := 33) (tgt := 7) F dX1_measure_33 (by decide) ?_
          exact rj_to3 (ih (c + 1) (n + 1) (by omega) (by omega) (by omega)) rfl rfl rfl
  refine rj_iconst (pc := 0) (v := nI 0) F dX1_measure_0 (by decide) ?_
  refine rj_istore_n (pc := 1) F dX1_measure_1 (by decide) ?_
  refine rj_aload_n (pc := 2) F dX1_measure_2 rfl ?_
  refine ry_g4 (pc := 3) F K q181 dX1_measure_3 ?_
  refine rj_top h3 ?_
  refine rj_istore_n (pc := 6) F dX1_measure_6 (by decide) ?_
  exact rj_to3 (loop (W.length + 1) 0 0 (Nat.zero_le _) (by omega) (by simp)) rfl rfl rfl
end MP
end
section
/-! RoleSessionsModel: read (what role x has to do, from the end of the list to its beginning) -/
abbrev pp_sk (x : Nat) (u : List Nat) : List (List Nat) := (pp_rs x u).map Prod.fst
abbrev pp_ok (x : Nat) (u : List Nat) : Bool := (pp_rs x u).all Prod.snd
theorem pp_sk_cons (x t : Nat) (u : List Nat) : pp_sk x (t :: u) = pp_rd x t ((pp_sk x u).take (pp_ar t)) :: (pp_sk x u).drop (pp_ar t) := by
  show pp_rd x t (((pp_rs x u).take (pp_ar t)).map Prod.fst) :: ((pp_rs x u).drop (pp_ar t)).map Prod.fst = _
  rw [List.map_drop, List.map_take]
theorem pp_ok_cons (x t : Nat) (u : List Nat) : pp_ok x (t :: u) = (pp_ok x u && pp_ck x t ((pp_sk x u).take (pp_ar t))) := by
  have h : (pp_rs x u).all Prod.snd = (((pp_rs x u).take (pp_ar t)).all Prod.snd && ((pp_rs x u).drop (pp_ar t)).all Prod.snd) := by
    rw [← List.all_append, List.take_append_drop]
  show ((((pp_rs x u).take (pp_ar t)).all Prod.snd && pp_ck x t (((pp_rs x u).take (pp_ar t)).map Prod.fst)) && ((pp_rs x u).drop (pp_ar t)).all Prod.snd) = ((pp_rs x u).all Prod.snd && pp_ck x t (((pp_rs x u).map Prod.fst).take (pp_ar t)))
  rw [h, List.map_take]
  generalize ((pp_rs x u).take (pp_ar t)).all Prod.snd = a
  generalize ((pp_rs x u).drop (pp_ar t)).all Prod.snd = b
  generalize pp_ck x t _ = c
  cases a <;> cases b <;> cases c <;> rfl
theorem pp_sk_hg (x : Nat) (u : List Nat) : (pp_sk x u).length = pp_hg pp_ar u := by
  rw [List.length_map]
  exact pp_ev_len u
theorem pp_rd_len {x t : Nat} {l : List (List Nat)} (hl : l.length = pp_ar t) : (pp_rd x t l).length ≤ 1 + l.flatten.length := by
  rcases pp_cases t hl with ⟨h0, rfl⟩ | ⟨h0, h1, h2, a, rfl⟩ | ⟨h0, h1, h2, a, b, rfl⟩
  · simp [pp_rd, h0]
  · by_cases hm : pp_mi x t
    · simp [pp_rd, h0, hm]; omega
    · simp [pp_rd, h0, hm]
  · by_cases hm : pp_mi x t
    · simp [pp_rd, h0, hm]; omega
    · simp [pp_rd, h0, hm]; omega
theorem pp_sk_len {x : Nat} {u : List Nat} (hv : pp_vd pp_ar u) : (pp_sk x u).flatten.length ≤ u.length := by
  induction u with
  | nil => exact Nat.le_refl _
  | cons t u ih =>
    have ih := ih hv.2
    have h1 := hv.1
    rw [← pp_sk_hg x u] at h1
    rw [pp_sk_cons]
    generalize pp_sk x u = k at ih h1
    have h2 := pp_rd_len (x := x) (t := t) (l := k.take (pp_ar t)) (List.length_take_of_le h1)
    have h3 := congrArg List.length (congrArg List.flatten (List.take_append_drop (pp_ar t) k))
    rw [List.flatten_append, List.length_append] at h3
    rw [List.flatten_cons, List.length_append, List.length_cons]
    omega
theorem pp_ck_t {x t : Nat} (h : t = 0 ∨ pp_mi x t) (l : List (List Nat)) : pp_ck x t l = true := by
  unfold pp_ck
  rw [if_pos h]
theorem pp_rd_one {x : Nat} {ts : List Nat} (hv : pp_vd pp_ar ts) (h1 : pp_hg pp_ar ts = 1) : (pp_ok x ts = true ↔ (pp_p1 x ts).isSome = true) ∧ ((pp_p1 x ts).isSome = true → pp_sk x ts = [pp_q1 x ts]) := by
  obtain ⟨q, e1, e2⟩ := pp_rs_1 (x := x) hv h1
  unfold pp_ok pp_sk pp_q1
  rw [e1, ← e2]
  obtain ⟨A, b⟩ := q
  cases b
  · simp [pp_op1]
  · simp [pp_op1]
theorem rs_Lo_nil {S : rs_St} (h4 : S 4 0 = nI 21) (h6 : S 6 0 = nI 0) : rs_Lo [] S := ⟨by decide, by decide, h4, fun j hj => absurd hj (Nat.not_lt_zero _), h6, fun q hq => absurd hq (Nat.not_lt_zero _), fun v hv => by cases hv⟩
section MD
variable (l : Launch) (D : va_G) (dI : ClassId) (a : Nat → Nat)
set_option maxHeartbeats 8000000 in
theorem ct_X1_read {g : List Nat} {S : rs_St} {L x : Nat} (hL : L < 2) (hx : x < 4) (hv : pp_vd pp_ar g) (htk : ∀ t ∈ g, pp_tk t) (hl : g.length ≤ 21) (hn : S 1 L = nI g.length) (hg : ∀ j, j < g.length → S 0 (21 * L + j) = nI (g.getD j 0)) : rs_CT (rs_GM l D dI a) yX1_read cX1_read 9 (some .boolean) rm_X1_read [.ref (a 0), .int (nI L), .int (nI x)] S (fun r S' => r = rs_bz (pp_ok x g = true) ∧ rs_Lo (pp_sk x g) S' ∧ ∀ q, q < 4 ∨ q = 8 → S' q = S q) := by
  refine rs_ofz (own := RX1) (by decide) rfl (Nat.le_of_ble_eq_true rfl) rfl rfl ?_
  intro E F K Rr
  have loop : ∀ (m : Nat) (S2 : rs_St), m ≤ g.length → rs_Lo (pp_sk x (g.drop m)) S2 → (∀ q, q < 4 ∨ q = 8 → S2 q = S q) → rs_J (rs_GM l D dI a) E 23 [(4, .int (nI m - nI 1)), (3, .int (rs_bz (pp_ok x (g.drop m) = true))), (2, .int (nI x)), (1, .int (nI L)), (0, .ref (a 0))] [] S2 := by
    intro m
    induction m with
    | zero =>
      intro S2 hm hLo hq
      refine rj_iload (pc := 23) F dX1_read_23 rfl ?_
      refine rj_if_lt (pc := 25) (tgt := 185) F dX1_read_25 (by decide) (fun c25 => ?_) (fun c25 => ?_)
      · refine rj_iload_n (pc := 185) F dX1_read_185 rfl ?_
        exact Rr 186 _ _ _ dX1_read_186 rs_bz_and ⟨rfl, hLo, hq⟩
      · exact absurd (by decide) c25
    | succ m ih =>
      intro S2 hm hLo hq
      have hsub : nI (m + 1) - nI 1 = nI m := by rw [pk_sub (by omega)]; rfl
      rw [hsub]
      have hmi : m < g.length := by omega
      have ht := htk _ (rs_get hmi)
      have gi := hg m hmi
      have hdr := rs_drop hmi
      have hvm := pp_vd_drop hv m
      have hvu := pp_vd_drop hv (m + 1)
      generalize g.getD m 0 = t at ht gi hdr
      rw [hdr] at hvm ih
      have hul : (g.drop (m + 1)).length < 21 := by rw [List.length_drop]; omega
      generalize g.drop (m + 1) = u at hLo hvm hvu ih hul ⊢
      have hfl2 := pp_sk_len (x := x) hvu
      have hsl := pp_sk_hg x u
      have hhl := pp_hg_le (ar := pp_ar) u
      have har := hvm.1
      rw [← hsl] at har
      have hal := pp_ar_le t
      have hsn := pp_sn_lt t
      have hrc := pp_rc_lt t
      have t33 := ht.1
      have esk := pp_sk_cons x t u
      have eok := pp_ok_cons x t u
      have K179 : ∀ (S3 : rs_St) (v3 : Int32), v3 = rs_bz (pp_ok x (t :: u) = true) → rs_Lo (pp_sk x (t :: u)) S3 → (∀ q, q < 4 ∨ q = 8 → S3 q = S q) → rs_J (rs_GM l D dI a) E 179 [(4, .int (nI m)), (3, .int v3), (2, .int (nI x)), (1, .int (nI L)), (0, .ref (a 0))] [] S3 := by
        intro S3 v3 e3 h3 q3
        subst e3
        refine rj_iinc (pc := 179) F dX1_read_179 rfl (by decide) (rs_dec1 m) ?_
        refine rj_goto (pc := 182) (tgt := 23) F dX1_read_182 (by decide) ?_
        exact rj_to5 (ih S3 (by omega) h3 q3) rfl rfl rfl rfl rfl
      have K143 : ∀ v : Nat, v ≤ 16 → (t = 0 ∨ pp_mi x t) → pp_rd x t ((pp_sk x u).take (pp_ar t)) = v :: ((pp_sk x u).take (pp_ar t)).flatten → rs_J (rs_GM l D dI a) E 143 [(6, .int (nI (pp_ar t))), (5, .int (nI t)), (4, .int (nI m)), (3, .int (rs_bz (pp_ok x u = true))), (2, .int (nI x)), (1, .int (nI L)), (0, .ref (a 0))] [.int (nI v)] S2 := by
        intro v hv16 hc hrd
        refine rj_istore (pc := 143) F dX1_read_143 (by decide) ?_
        refine rj_aload_n (pc := 145) F dX1_read_145 rfl ?_
        refine rj_iload (pc := 146) F dX1_read_146 rfl ?_
        refine rj_iload (pc := 148) F dX1_read_148 rfl ?_
        refine rj_callv2 (pc := 150) F K rs_rcM (ct_X1_front l D dI a hLo hv16 har (by omega) (by omega)) (lw_V q242 q244 qs10 q17 q245) (by decide +kernel) ⟨rfl, rfl⟩ ⟨Nat.le_of_ble_eq_true rfl, Nat.le_of_ble_eq_true rfl⟩ (Nat.le_of_ble_eq_true rfl) dX1_read_150 (fun S3 hp => ?_)
        refine rj_goto (pc := 153) (tgt := 179) F dX1_read_153 (by decide) ?_
        rw [pp_ck_t hc, Bool.and_true] at eok
        rw [hrd] at esk
        exact rj_to5 (K179 S3 (rs_bz (pp_ok x u = true)) (by rw [eok]) (by rw [esk]; exact hp.1) (fun q h => by rw [hp.2 q h, hq q h])) rfl rfl rfl rfl rfl
      have K92 : (t = 0 ∨ pp_mi x t) → rs_J (rs_GM l D dI a) E 92 [(6, .int (nI (pp_ar t))), (5, .int (nI t)), (4, .int (nI m)), (3, .int (rs_bz (pp_ok x u = true))), (2, .int (nI x)), (1, .int (nI L)), (0, .ref (a 0))] [] S2 := by
        intro hc
        have K130 : t ≠ 0 → ∀ w : Nat, w = (if pp_sn t = x then 1 + pp_rc t else 5 + pp_sn t) → rs_J (rs_GM l D dI a) E 130 [(6, .int (nI (pp_ar t))), (5, .int (nI t)), (4, .int (nI m)), (3, .int (rs_bz (pp_ok x u = true))), (2, .int (nI x)), (1, .int (nI L)), (0, .ref (a 0))] [.int (nI w)] S2 := by
          intro h0 w ew
          have hm : pp_mi x t := hc.resolve_left h0
          have hrd : ∀ k : List (List Nat), pp_rd x t k = pp_pv x t :: k.flatten := fun k => by simp [pp_rd, h0, hm]
          have hpv := pp_pv_in x t
          have epv : pp_pv x t = w + (if t ≤ 16 then 0 else 8) := by rw [ew]; rfl
          refine rj_iload (pc := 130) F dX1_read_130 rfl ?_
          refine rj_iconst (pc := 132) (v := nI 2) F dX1_read_132 (by decide) ?_
          refine rj_icmp_ne (pc := 133) (tgt := 141) F dX1_read_133 (by decide) (fun c133 => ?_) (fun c133 => ?_)
          · rw [nI_eq (by omega) (by omega)] at c133
            have h16 : t ≤ 16 := by
              rcases Nat.lt_or_ge 16 t with q | q
              · exact absurd (by unfold pp_ar; rw [if_neg h0, if_neg (by omega)]) c133
              · exact q
            rw [if_pos h16] at epv
            refine rj_iconst (pc := 141) (v := nI 0) F dX1_read_141 (by decide) ?_
            refine rj_iaddE (pc := 142) F dX1_read_142 (nI_add _ _) ?_
            exact K143 (w + 0) (by omega) hc (by rw [hrd, epv])
          · rw [nI_eq (by omega) (by omega)] at c133
            have h16 := (pp_ar_2 c133).2
            rw [if_neg h16] at epv
            refine rj_bipush (pc := 136) (v := nI 8) F dX1_read_136 (by decide) ?_
            refine rj_goto (pc := 138) (tgt := 142) F dX1_read_138 (by decide) ?_
            refine rj_iaddE (pc := 142) F dX1_read_142 (nI_add _ _) ?_
            exact K143 (w + 8) (by omega) hc (by rw [hrd, epv])
        refine rj_iload (pc := 92) F dX1_read_92 rfl ?_
        refine rj_if_ne (pc := 94) (tgt := 101) F dX1_read_94 (by decide) (fun c94 => ?_) (fun c94 => ?_)
        · have h0 : t ≠ 0 := fun e => c94 (by rw [e]; exact nI_0)
          refine rj_aload_n (pc := 101) F dX1_read_101 rfl ?_
          refine rj_iload (pc := 102) F dX1_read_102 rfl ?_
          refine rj_callp1 (pc := 104) F K rs_rcM (ct_X1_sender l (a 0) t33) (lw_V q209 q211 qs5 q17 q212) (by decide +kernel) ⟨rfl, rfl⟩ ⟨Nat.le_of_ble_eq_true rfl, Nat.le_of_ble_eq_true rfl⟩ (Nat.le_of_ble_eq_true rfl) dX1_read_104 ?_
          refine rj_iload_n (pc := 107) F dX1_read_107 rfl ?_
          refine rj_icmp_ne (pc := 108) (tgt := 122) F dX1_read_108 (by decide) (fun c108 => ?_) (fun c108 => ?_)
          · rw [nI_eq (by omega) (by omega)] at c108
            refine rj_iconst (pc := 122) (v := nI 5) F dX1_read_122 (by decide) ?_
            refine rj_aload_n (pc := 123) F dX1_read_123 rfl ?_
            refine rj_iload (pc := 124) F dX1_read_124 rfl ?_
            refine rj_callp1 (pc := 126) F K rs_rcM (ct_X1_sender l (a 0) t33) (lw_V q209 q211 qs5 q17 q212) (by decide +kernel) ⟨rfl, rfl⟩ ⟨Nat.le_of_ble_eq_true rfl, Nat.le_of_ble_eq_true rfl⟩ (Nat.le_of_ble_eq_true rfl) dX1_read_126 ?_
            refine rj_iaddE (pc := 129) F dX1_read_129 (nI_add _ _) ?_
            exact K130 h0 _ (by rw [if_neg c108])
          · rw [nI_eq (by omega) (by omega)] at c108
            refine rj_iconst (pc := 111) (v := nI 1) F dX1_read_111 (by decide) ?_
            refine rj_aload_n (pc := 112) F dX1_read_112 rfl ?_
            refine rj_iload (pc := 113) F dX1_read_113 rfl ?_
            refine rj_callp1 (pc := 115) F K rs_rcM (ct_X1_receiver l (a 0) t33) (lw_V q213 q215 qs6 q17 q216) (by decide +kernel) ⟨rfl, rfl⟩ ⟨Nat.le_of_ble_eq_true rfl, Nat.le_of_ble_eq_true rfl⟩ (Nat.le_of_ble_eq_true rfl) dX1_read_115 ?_
            refine rj_iaddE (pc := 118) F dX1_read_118 (nI_add _ _) ?_
            refine rj_goto (pc := 119) (tgt := 130) F dX1_read_119 (by decide) ?_
            exact K130 h0 _ (by rw [if_pos c108])
        · have h0 : t = 0 := by
            rw [← nI_0, nI_eq (by omega) (by omega)] at c94
            exact c94
          refine rj_iconst (pc := 97) (v := nI 0) F dX1_read_97 (by decide) ?_
          refine rj_goto (pc := 98) (tgt := 143) F dX1_read_98 (by decide) ?_
          refine K143 0 (by omega) hc ?_
          rw [h0]
          rfl
      have K82 : ∀ v7 : Int32, v7 = rs_bz (t ≠ 0 ∧ pp_mi x t) → rs_J (rs_GM l D dI a) E 82 [(7, .int v7), (6, .int (nI (pp_ar t))), (5, .int (nI t)), (4, .int (nI m)), (3, .int (rs_bz (pp_ok x u = true))), (2, .int (nI x)), (1, .int (nI L)), (0, .ref (a 0))] [] S2 := by
        intro v7 e7
        subst e7
        refine rj_iload (pc := 82) F dX1_read_82 rfl ?_
        refine rj_if_ne (pc := 84) (tgt := 92) F dX1_read_84 (by decide) (fun c84 => ?_) (fun c84 => ?_)
        · exact rj_to7 (K92 (Or.inr (rs_bz_ne c84).2)) rfl rfl rfl rfl rfl rfl rfl
        · have hnm := rs_bz_eq c84
          refine rj_iload (pc := 87) F dX1_read_87 rfl ?_
          refine rj_if_ne (pc := 89) (tgt := 156) F dX1_read_89 (by decide) (fun c89 => ?_) (fun c89 => ?_)
          · have h0 : t ≠ 0 := fun e => c89 (by rw [e]; exact nI_0)
            have hm : ¬ pp_mi x t := fun q => hnm ⟨h0, q⟩
            refine rj_iload (pc := 156) F dX1_read_156 rfl ?_
            refine rj_iconst (pc := 158) (v := nI 2) F dX1_read_158 (by decide) ?_
            rcases pp_cases t (l := (pp_sk x u).take (pp_ar t)) (List.length_take_of_le har) with ⟨e, -⟩ | ⟨-, h1, h2, A, hA⟩ | ⟨-, h1, h2, A, B, hA⟩
            · exact absurd e h0
            · have hd : pp_sk x u = A :: (pp_sk x u).drop 1 := by
                have := List.take_append_drop 1 (pp_sk x u)
                rw [← h2, hA, h2] at this
                exact this.symm
              rw [hA, h2] at esk
              rw [hA] at eok
              have er : pp_rd x t [A] = A := by simp [pp_rd, h0, hm]
              have ec : pp_ck x t [A] = true := by simp [pp_ck, h0, hm]
              rw [er, ← hd] at esk
              rw [ec, Bool.and_true] at eok
              refine rj_icmp_ne (pc := 159) (tgt := 179) F dX1_read_159 (by decide) (fun c159 => ?_) (fun c159 => ?_)
              · exact rj_to5 (K179 S2 (rs_bz (pp_ok x u = true)) (by rw [eok]) (by rw [esk]; exact hLo) hq) rfl rfl rfl rfl rfl
              · rw [h2] at c159
                exact absurd c159 (by decide)
            · have hd : pp_sk x u = A :: B :: (pp_sk x u).drop 2 := by
                have := List.take_append_drop 2 (pp_sk x u)
                rw [← h2, hA, h2] at this
                exact this.symm
              rw [hA, h2] at esk
              rw [hA] at eok
              have er : pp_rd x t [A, B] = B := by simp [pp_rd, h0, hm]
              have ec : pp_ck x t [A, B] = decide (A = B) := by simp [pp_ck, h0, hm]
              rw [er] at esk
              rw [ec] at eok
              rw [hd] at hLo
              refine rj_icmp_ne (pc := 159) (tgt := 179) F dX1_read_159 (by decide) (fun c159 => ?_) (fun c159 => ?_)
              · rw [h2] at c159
                exact absurd rfl c159
              · refine rj_aload_n (pc := 162) F dX1_read_162 rfl ?_
                refine rj_calli0 (pc := 163) F K rs_rcM (ct_X1_join l D dI a hLo) (lw_V q246 q248 qs11 q17 q249) (by decide +kernel) ⟨rfl, rfl⟩ ⟨Nat.le_of_ble_eq_true rfl, Nat.le_of_ble_eq_true rfl⟩ (Nat.le_of_ble_eq_true rfl) dX1_read_163 (fun r S3 hp => ?_)
                obtain ⟨rfl, hp1, hp2⟩ := hp
                have hp2 : ∀ q, q < 4 ∨ q = 8 → S3 q = S q := fun q h => by rw [hp2 q h, hq q h]
                have hp1 : rs_Lo (pp_sk x (t :: u)) S3 := by rw [esk]; exact hp1
                refine rj_if_eq (pc := 166) (tgt := 177) F dX1_read_166 (by decide) (fun c166 => ?_) (fun c166 => ?_)
                · have hAB := rs_bz_eq c166
                  refine rj_iconst (pc := 177) (v := nI 0) F dX1_read_177 (by decide) ?_
                  refine rj_istore_n (pc := 178) F dX1_read_178 (by decide) ?_
                  refine rj_to5 (K179 S3 (nI 0) ?_ hp1 hp2) rfl rfl rfl rfl rfl
                  rw [eok, decide_eq_false hAB, Bool.and_false]
                  rfl
                · have hAB := rs_bz_ne c166
                  refine rj_iload_n (pc := 169) F dX1_read_169 rfl ?_
                  refine rj_if_eq (pc := 170) (tgt := 177) F dX1_read_170 (by decide) (fun c170 => ?_) (fun c170 => ?_)
                  · have hk := rs_bz_eq c170
                    refine rj_iconst (pc := 177) (v := nI 0) F dX1_read_177 (by decide) ?_
                    refine rj_istore_n (pc := 178) F dX1_read_178 (by decide) ?_
                    refine rj_to5 (K179 S3 (nI 0) ?_ hp1 hp2) rfl rfl rfl rfl rfl
                    rw [eok, Bool.eq_false_iff.mpr hk, Bool.false_and]
                    rfl
                  · have hk := rs_bz_ne c170
                    refine rj_iconst (pc := 173) (v := nI 1) F dX1_read_173 (by decide) ?_
                    refine rj_goto (pc := 174) (tgt := 178) F dX1_read_174 (by decide) ?_
                    refine rj_istore_n (pc := 178) F dX1_read_178 (by decide) ?_
                    refine rj_to5 (K179 S3 (nI 1) ?_ hp1 hp2) rfl rfl rfl rfl rfl
                    rw [eok, hk, decide_eq_true hAB]
                    rfl
          · have h0 : t = 0 := by
              rw [← nI_0, nI_eq (by omega) (by omega)] at c89
              exact c89
            exact rj_to7 (K92 (Or.inl h0)) rfl rfl rfl rfl rfl rfl rfl
      refine rj_iload (pc := 23) F dX1_read_23 rfl ?_
      refine rj_if_lt (pc := 25) (tgt := 185) F dX1_read_25 (by decide) (fun c25 => ?_) (fun c25 => ?_)
      · exact absurd c25 (nI_pos (by omega))
      · refine rj_aload_n (pc := 28) F dX1_read_28 rfl ?_
        refine ry_g0 (pc := 29) F K q177 dX1_read_29 ?_
        refine rj_bipush (pc := 32) (v := nI 21) F dX1_read_32 (by decide) ?_
        refine rj_iload_n (pc := 34) F dX1_read_34 rfl ?_
        refine rj_imulE (pc := 35) F dX1_read_35 (pk_mul _ _) ?_
        refine rj_iload (pc := 36) F dX1_read_36 rfl ?_
        refine rj_iaddE (pc := 38) F dX1_read_38 (nI_add _ _) ?_
        refine ry_l0 (pc := 39) F K dX1_read_39 rfl (by omega) ?_
        refine rj_top (y := nI t) (by rw [hq 0 (by omega)]; exact gi) ?_
        refine rj_istore (pc := 40) F dX1_read_40 (by decide) ?_
        refine rj_aload_n (pc := 42) F dX1_read_42 rfl ?_
        refine rj_iload (pc := 43) F dX1_read_43 rfl ?_
        refine rj_callp1 (pc := 45) F K rs_rcM (ct_X1_plans l (a 0) t33) (lw_V q221 q223 qs7 q17 q224) (by decide +kernel) ⟨rfl, rfl⟩ ⟨Nat.le_of_ble_eq_true rfl, Nat.le_of_ble_eq_true rfl⟩ (Nat.le_of_ble_eq_true rfl) dX1_read_45 ?_
        refine rj_istore (pc := 48) F dX1_read_48 (by decide) ?_
        refine rj_iload (pc := 50) F dX1_read_50 rfl ?_
        refine rj_if_le (pc := 52) (tgt := 79) F dX1_read_52 (by decide) (fun c52 => ?_) (fun c52 => ?_)
        · rw [← nI_0, nI_leI (by omega) (by omega)] at c52
          refine rj_iconst (pc := 79) (v := nI 0) F dX1_read_79 (by decide) ?_
          refine rj_istore (pc := 80) F dX1_read_80 (by decide) ?_
          exact rj_to8 (K82 (nI 0) (rs_bz_f (fun q => q.1 (by omega))).symm) rfl rfl rfl rfl rfl rfl rfl rfl
        · rw [← nI_0, nI_leI (by omega) (by omega)] at c52
          refine rj_aload_n (pc := 55) F dX1_read_55 rfl ?_
          refine rj_iload (pc := 56) F dX1_read_56 rfl ?_
          refine rj_callp1 (pc := 58) F K rs_rcM (ct_X1_sender l (a 0) t33) (lw_V q209 q211 qs5 q17 q212) (by decide +kernel) ⟨rfl, rfl⟩ ⟨Nat.le_of_ble_eq_true rfl, Nat.le_of_ble_eq_true rfl⟩ (Nat.le_of_ble_eq_true rfl) dX1_read_58 ?_
          refine rj_iload_n (pc := 61) F dX1_read_61 rfl ?_
          refine rj_icmp_eq (pc := 62) (tgt := 75) F dX1_read_62 (by decide) (fun c62 => ?_) (fun c62 => ?_)
          · rw [nI_eq (by omega) (by omega)] at c62
            refine rj_iconst (pc := 75) (v := nI 1) F dX1_read_75 (by decide) ?_
            refine rj_goto (pc := 76) (tgt := 80) F dX1_read_76 (by decide) ?_
            refine rj_istore (pc := 80) F dX1_read_80 (by decide) ?_
            exact rj_to8 (K82 (nI 1) (rs_bz_t ⟨by omega, Or.inl c62⟩).symm) rfl rfl rfl rfl rfl rfl rfl rfl
          · rw [nI_eq (by omega) (by omega)] at c62
            refine rj_aload_n (pc := 65) F dX1_read_65 rfl ?_
            refine rj_iload (pc := 66) F dX1_read_66 rfl ?_
            refine rj_callp1 (pc := 68) F K rs_rcM (ct_X1_receiver l (a 0) t33) (lw_V q213 q215 qs6 q17 q216) (by decide +kernel) ⟨rfl, rfl⟩ ⟨Nat.le_of_ble_eq_true rfl, Nat.le_of_ble_eq_true rfl⟩ (Nat.le_of_ble_eq_true rfl) dX1_read_68 ?_
            refine rj_iload_n (pc := 71) F dX1_read_71 rfl ?_
            refine rj_icmp_ne (pc := 72) (tgt := 79) F dX1_read_72 (by decide) (fun c72 => ?_) (fun c72 => ?_)
            · rw [nI_eq (by omega) (by omega)] at c72
              refine rj_iconst (pc := 79) (v := nI 0) F dX1_read_79 (by decide) ?_
              refine rj_istore (pc := 80) F dX1_read_80 (by decide) ?_
              exact rj_to8 (K82 (nI 0) (rs_bz_f (fun q => q.2.elim c62 c72)).symm) rfl rfl rfl rfl rfl rfl rfl rfl
            · rw [nI_eq (by omega) (by omega)] at c72
              refine rj_iconst (pc := 75) (v := nI 1) F dX1_read_75 (by decide) ?_
              refine rj_goto (pc := 76) (tgt := 80) F dX1_read_76 (by decide) ?_
              refine rj_istore (pc := 80) F dX1_read_80 (by decide) ?_
              exact rj_to8 (K82 (nI 1) (rs_bz_t ⟨by omega, Or.inr c72⟩).symm) rfl rfl rfl rfl rfl rfl rfl rfl
  refine rj_aload_n (pc := 0) F dX1_read_0 rfl ?_
  refine rj_bipush (pc := 1) (v := nI 21) F dX1_read_1 (by decide) ?_
  refine ry_p4 (pc := 3) F K q181 dX1_read_3 ?_
  refine rj_aload_n (pc := 6) F dX1_read_6 rfl ?_
  refine rj_iconst (pc := 7) (v := nI 0) F dX1_read_7 (by decide) ?_
  refine ry_p6 (pc := 8) F K q183 dX1_read_8 ?_
  refine rj_iconst (pc := 11) (v := nI 1) F dX1_read_11 (by decide) ?_
  refine rj_istore_n (pc := 12) F dX1_read_12 (by decide) ?_
  refine rj_aload_n (pc := 13) F dX1_read_13 rfl ?_
  refine ry_g1 (pc := 14) F K q178 dX1_read_14 ?_
  refine rj_iload_n (pc := 17) F dX1_read_17 rfl ?_
  refine ry_l1 (pc := 18) F K dX1_read_18 rfl (by omega) ?_
  refine rj_top (y := nI g.length) hn ?_
  have e0 : g.drop g.length = [] := List.drop_length
  have h0 := loop g.length (rs_sU (rs_sU S 4 0 (nI 21)) 6 0 (nI 0)) (Nat.le_refl _) (by rw [e0]; exact rs_Lo_nil rfl rfl) (fun q hq => by funext j; rw [rs_sU_k _ _ _ _ (by omega), rs_sU_k _ _ _ _ (by omega)])
  rw [e0] at h0
  refine rj_iconst (pc := 19) (v := nI 1) F dX1_read_19 (by decide) ?_
  refine rj_isub (pc := 20) F dX1_read_20 ?_
  refine rj_istore (pc := 21) F dX1_read_21 (by decide) ?_
  exact rj_to5 h0 rfl rfl rfl rfl rfl
end MD
end
section
/-! RoleSessionsModel: fixed, fit, size, start, first, duty, labels, rest, over -/
/-- the first sign of a role's part, with its labels -/
def rs_aV (run : rs_Rn) (x : Int32) : Int32 := match run with
  | none => -1
  | some (g, _) => if rs_ro x then nI ((pp_q1 x.toNatClampNeg g).headD 0) else -1
theorem pp_lt_ne {L : List Nat} (h : pp_lt L) : 0 < L.length ∧ L.headD 0 ≤ 16 := by
  cases L with
  | nil => exact absurd h.2.1 (by decide)
  | cons v L => exact ⟨Nat.succ_pos _, h.2.2 v List.mem_cons_self⟩
section MF
variable (l : Launch) (D : va_G) (dI : ClassId) (a : Nat → Nat)
set_option maxHeartbeats 4000000 in
theorem ct_X1_fixed {ts : List Nat} {run : rs_Rn} {S : rs_St} (x : Int32) (h : rs_IM ts run S) : rs_CT (rs_GM l D dI a) yX1_fixed cX1_fixed 2 (some .boolean) rm_X1_fixed [.ref (a 0), .int x] S (fun r S' => r = rs_aX ts x ∧ rs_IM ts run S' ∧ (rs_fx ts x → rs_Lo [pp_q1 x.toNatClampNeg ts] S')) := by
  refine rs_ofz (own := RX1) (by decide) rfl (Nat.le_of_ble_eq_true rfl) rfl rfl ?_
  intro E F K Rr
  refine rj_aload_n (pc := 0) F dX1_fixed_0 rfl ?_
  refine rj_iload_n (pc := 1) F dX1_fixed_1 rfl ?_
  refine rj_callp1 (pc := 2) F K rs_rcM (ct_X1_role l (a 0) x) (lw_V q234 q236 qs8 q17 q237) (by decide +kernel) ⟨rfl, rfl⟩ ⟨Nat.le_of_ble_eq_true rfl, Nat.le_of_ble_eq_true rfl⟩ (Nat.le_of_ble_eq_true rfl) dX1_fixed_2 ?_
  refine rj_if_eq (pc := 5) (tgt := 28) F dX1_fixed_5 (by decide) (fun c5 => ?_) (fun c5 => ?_)
  · have hro := rs_bz_eq c5
    refine rj_iconst (pc := 28) (v := nI 0) F dX1_fixed_28 (by decide) ?_
    exact Rr 29 _ _ _ dX1_fixed_29 (by decide) ⟨(rs_bz_f (fun q => hro q.1)).symm, h, fun q => absurd q.1 hro⟩
  · have hro := rs_bz_ne c5
    refine rj_aload_n (pc := 8) F dX1_fixed_8 rfl ?_
    refine rj_calli0 (pc := 9) F K rs_rcM (ct_X1_complete l D dI a h.tM) (lw_V q217 q218 q219 q17 q220) (by decide +kernel) ⟨rfl, rfl⟩ ⟨Nat.le_of_ble_eq_true rfl, Nat.le_of_ble_eq_true rfl⟩ (Nat.le_of_ble_eq_true rfl) dX1_fixed_9 (fun r S1 hp => ?_)
    obtain ⟨rfl, rfl⟩ := hp
    refine rj_if_eq (pc := 12) (tgt := 28) F dX1_fixed_12 (by decide) (fun c12 => ?_) (fun c12 => ?_)
    · have hcp := rs_bz_eq c12
      refine rj_iconst (pc := 28) (v := nI 0) F dX1_fixed_28 (by decide) ?_
      exact Rr 29 _ _ _ dX1_fixed_29 (by decide) ⟨(rs_bz_f (fun q => hcp q.2.1)).symm, h, fun q => absurd q.2.1 hcp⟩
    · have hcp := rs_bz_ne c12
      obtain ⟨j, hj, rfl⟩ := rs_ro_to hro
      obtain ⟨hv, h1⟩ := pp_op_vd h.1.2.2 hcp
      obtain ⟨k1, k2⟩ := pp_rd_one (x := j) hv h1
      refine rj_aload_n (pc := 15) F dX1_fixed_15 rfl ?_
      refine rj_iconst (pc := 16) (v := nI 0) F dX1_fixed_16 (by decide) ?_
      refine rj_iload_n (pc := 17) F dX1_fixed_17 rfl ?_
      refine rj_calli2 (pc := 18) F K rs_rcM (ct_X1_read l D dI a (L := 0) (by decide) hj hv h.1.2.1 h.1.1 h.2.2.1 (fun i hi => by rw [Nat.mul_zero, Nat.zero_add]; exact h.2.2.2.1 i hi)) (lw_V q238 q240 qs9 q17 q241) (by decide +kernel) ⟨rfl, rfl⟩ ⟨Nat.le_of_ble_eq_true rfl, Nat.le_of_ble_eq_true rfl⟩ (Nat.le_of_ble_eq_true rfl) dX1_fixed_18 (fun r S2 hp => ?_)
      obtain ⟨rfl, hLo, hq⟩ := hp
      have hI := rs_IM_congr h (fun q hq4 => hq q (Or.inl hq4))
      refine rj_if_eq (pc := 21) (tgt := 28) F dX1_fixed_21 (by decide) (fun c21 => ?_) (fun c21 => ?_)
      · have hok := rs_bz_eq c21
        have hn : ¬ rs_fx ts (nI j) := fun q => hok (k1.mpr ((rs_fx_nI hj).mp q).2)
        refine rj_iconst (pc := 28) (v := nI 0) F dX1_fixed_28 (by decide) ?_
        exact Rr 29 _ _ _ dX1_fixed_29 (by decide) ⟨(rs_bz_f hn).symm, hI, fun q => absurd q hn⟩
      · have hok := k1.mp (rs_bz_ne c21)
        rw [k2 hok] at hLo
        refine rj_iconst (pc := 24) (v := nI 1) F dX1_fixed_24 (by decide) ?_
        refine rj_goto (pc := 25) (tgt := 29) F dX1_fixed_25 (by decide) ?_
        exact Rr 29 _ _ _ dX1_fixed_29 (by decide) ⟨(rs_bz_t ((rs_fx_nI hj).mpr ⟨hcp, hok⟩)).symm, hI, fun _ => by rw [nI_clamp (by omega)]; exact hLo⟩
set_option maxHeartbeats 4000000 in
theorem ct_X1_fit {ts : List Nat} {run : rs_Rn} {S : rs_St} (h : rs_IM ts run S) : rs_CT (rs_GM l D dI a) yX1_fit cX1_fit 1 (some .boolean) rm_X1_fit [.ref (a 0)] S (fun r S' => r = rs_aF ts ∧ rs_IM ts run S') := by
  refine rs_ofz (own := RX1) (by decide) rfl (Nat.le_of_ble_eq_true rfl) rfl rfl ?_
  intro E F K Rr
  have K36 : ∀ S' : rs_St, rs_IM ts run S' → ¬ (pp_cp ts ∧ pp_ft ts) → rs_J (rs_GM l D dI a) E 36 [] [] S' := by
    intro S' hI hn
    refine rj_iconst (pc := 36) (v := nI 0) F dX1_fit_36 (by decide) ?_
    exact Rr 37 _ _ _ dX1_fit_37 (by decide) ⟨(rs_bz_f hn).symm, hI⟩
  refine rj_aload_n (pc := 0) F dX1_fit_0 rfl ?_
  refine rj_iconst (pc := 1) (v := nI 0) F dX1_fit_1 (by decide) ?_
  refine rj_calli1 (pc := 2) F K rs_rcM (ct_X1_fixed l D dI a (nI 0) h) (lw_V q254 q231 q232 q17 q233) (by decide +kernel) ⟨rfl, rfl⟩ ⟨Nat.le_of_ble_eq_true rfl, Nat.le_of_ble_eq_true rfl⟩ (Nat.le_of_ble_eq_true rfl) dX1_fit_2 (fun r0 S0 hp => ?_)
  obtain ⟨rfl, h0, -⟩ := hp
  refine rj_if_eq (pc := 5) (tgt := 36) F dX1_fit_5 (by decide) (fun c5 => ?_) (fun c5 => ?_)
  · exact rj_sb (lv' := []) trivial (K36 S0 h0 (fun q => rs_bz_eq c5 ((rs_fx_nI (by decide)).mpr ⟨q.1, q.2.1⟩)))
  · have b0 := (rs_fx_nI (by decide)).mp (rs_bz_ne c5)
    refine rj_aload_n (pc := 8) F dX1_fit_8 rfl ?_
    refine rj_iconst (pc := 9) (v := nI 1) F dX1_fit_9 (by decide) ?_
    refine rj_calli1 (pc := 10) F K rs_rcM (ct_X1_fixed l D dI a (nI 1) h0) (lw_V q254 q231 q232 q17 q233) (by decide +kernel) ⟨rfl, rfl⟩ ⟨Nat.le_of_ble_eq_true rfl, Nat.le_of_ble_eq_true rfl⟩ (Nat.le_of_ble_eq_true rfl) dX1_fit_10 (fun r1 S1 hp => ?_)
    obtain ⟨rfl, h1, -⟩ := hp
    refine rj_if_eq (pc := 13) (tgt := 36) F dX1_fit_13 (by decide) (fun c13 => ?_) (fun c13 => ?_)
    · exact rj_sb (lv' := []) trivial (K36 S1 h1 (fun q => rs_bz_eq c13 ((rs_fx_nI (by decide)).mpr ⟨q.1, q.2.2.1⟩)))
    · have b1 := (rs_fx_nI (by decide)).mp (rs_bz_ne c13)
      refine rj_aload_n (pc := 16) F dX1_fit_16 rfl ?_
      refine rj_iconst (pc := 17) (v := nI 2) F dX1_fit_17 (by decide) ?_
      refine rj_calli1 (pc := 18) F K rs_rcM (ct_X1_fixed l D dI a (nI 2) h1) (lw_V q254 q231 q232 q17 q233) (by decide +kernel) ⟨rfl, rfl⟩ ⟨Nat.le_of_ble_eq_true rfl, Nat.le_of_ble_eq_true rfl⟩ (Nat.le_of_ble_eq_true rfl) dX1_fit_18 (fun r2 S2 hp => ?_)
      obtain ⟨rfl, h2, -⟩ := hp
      refine rj_if_eq (pc := 21) (tgt := 36) F dX1_fit_21 (by decide) (fun c21 => ?_) (fun c21 => ?_)
      · exact rj_sb (lv' := []) trivial (K36 S2 h2 (fun q => rs_bz_eq c21 ((rs_fx_nI (by decide)).mpr ⟨q.1, q.2.2.2.1⟩)))
      · have b2 := (rs_fx_nI (by decide)).mp (rs_bz_ne c21)
        refine rj_aload_n (pc := 24) F dX1_fit_24 rfl ?_
        refine rj_iconst (pc := 25) (v := nI 3) F dX1_fit_25 (by decide) ?_
        refine rj_calli1 (pc := 26) F K rs_rcM (ct_X1_fixed l D dI a (nI 3) h2) (lw_V q254 q231 q232 q17 q233) (by decide +kernel) ⟨rfl, rfl⟩ ⟨Nat.le_of_ble_eq_true rfl, Nat.le_of_ble_eq_true rfl⟩ (Nat.le_of_ble_eq_true rfl) dX1_fit_26 (fun r3 S3 hp => ?_)
        obtain ⟨rfl, h3, -⟩ := hp
        refine rj_if_eq (pc := 29) (tgt := 36) F dX1_fit_29 (by decide) (fun c29 => ?_) (fun c29 => ?_)
        · exact rj_sb (lv' := []) trivial (K36 S3 h3 (fun q => rs_bz_eq c29 ((rs_fx_nI (by decide)).mpr ⟨q.1, q.2.2.2.2⟩)))
        · have b3 := (rs_fx_nI (by decide)).mp (rs_bz_ne c29)
          refine rj_iconst (pc := 32) (v := nI 1) F dX1_fit_32 (by decide) ?_
          refine rj_goto (pc := 33) (tgt := 37) F dX1_fit_33 (by decide) ?_
          exact Rr 37 _ _ _ dX1_fit_37 (by decide) ⟨(rs_bz_t ⟨b0.1, b0.2, b1.2, b2.2, b3.2⟩).symm, h3⟩
set_option maxHeartbeats 4000000 in
theorem ct_X1_size {ts : List Nat} {run : rs_Rn} {S : rs_St} (x : Int32) (h : rs_IM ts run S) : rs_CT (rs_GM l D dI a) yX1_size cX1_size 2 (some .int) rm_X1_size [.ref (a 0), .int x] S (fun r S' => r = rs_aS ts x ∧ rs_IM ts run S') := by
  refine rs_ofi (own := RX1) (by decide) rfl (Nat.le_of_ble_eq_true rfl) rfl rfl ?_
  intro E F K Rr
  refine rj_aload_n (pc := 0) F dX1_size_0 rfl ?_
  refine rj_iload_n (pc := 1) F dX1_size_1 rfl ?_
  refine rj_calli1 (pc := 2) F K rs_rcM (ct_X1_fixed l D dI a x h) (lw_V q254 q231 q232 q17 q233) (by decide +kernel) ⟨rfl, rfl⟩ ⟨Nat.le_of_ble_eq_true rfl, Nat.le_of_ble_eq_true rfl⟩ (Nat.le_of_ble_eq_true rfl) dX1_size_2 (fun r S1 hp => ?_)
  obtain ⟨rfl, hI, hk⟩ := hp
  refine rj_if_eq (pc := 5) (tgt := 15) F dX1_size_5 (by decide) (fun c5 => ?_) (fun c5 => ?_)
  · have hf := rs_bz_eq c5
    refine rj_iconst (pc := 15) (v := (-1)) F dX1_size_15 (by decide) ?_
    exact Rr 16 _ _ _ dX1_size_16 ⟨by unfold rs_aS; rw [if_neg hf], hI⟩
  · have hf := rs_bz_ne c5
    refine rj_aload_n (pc := 8) F dX1_size_8 rfl ?_
    refine rj_calli0 (pc := 9) F K rs_rcM (ct_X1_measure l D dI a (hk hf)) (lw_V q259 q261 qs12 q17 q262) (by decide +kernel) ⟨rfl, rfl⟩ ⟨Nat.le_of_ble_eq_true rfl, Nat.le_of_ble_eq_true rfl⟩ (Nat.le_of_ble_eq_true rfl) dX1_size_9 (fun r2 S2 hp2 => ?_)
    obtain ⟨rfl, rfl⟩ := hp2
    refine rj_goto (pc := 12) (tgt := 16) F dX1_size_12 (by decide) ?_
    exact Rr 16 _ _ _ dX1_size_16 ⟨by unfold rs_aS; rw [if_pos hf]; simp, hI⟩
set_option maxHeartbeats 4000000 in
theorem ct_X1_start {ts : List Nat} {run : rs_Rn} {S : rs_St} (h : rs_IM ts run S) : rs_CT (rs_GM l D dI a) yX1_start cX1_start 2 (some .boolean) rm_X1_start [.ref (a 0)] S (fun r S' => r = (rs_oS ts run).1 ∧ rs_IM (rs_oS ts run).2.1 (rs_oS ts run).2.2 S') := by
  refine rs_ofz (own := RX1) (by decide) rfl (Nat.le_of_ble_eq_true rfl) rfl rfl ?_
  intro E F K Rr
  refine rj_aload_n (pc := 0) F dX1_start_0 rfl ?_
  refine rj_calli0 (pc := 1) F K rs_rcM (ct_X1_fit l D dI a h) (lw_V q267 q251 q252 q17 q253) (by decide +kernel) ⟨rfl, rfl⟩ ⟨Nat.le_of_ble_eq_true rfl, Nat.le_of_ble_eq_true rfl⟩ (Nat.le_of_ble_eq_true rfl) dX1_start_1 (fun r S1 hp => ?_)
  obtain ⟨rfl, hI⟩ := hp
  refine rj_if_ne (pc := 4) (tgt := 9) F dX1_start_4 (by decide) (fun c4 => ?_) (fun c4 => ?_)
  · have hf := rs_bz_ne c4
    have e : rs_oS ts run = (nI 1, ts, some (ts, 0)) := by unfold rs_oS; rw [if_pos hf]
    have hlen := hI.1.1
    have hcnt := hI.2.2.1
    have htok := hI.2.2.2.1
    have hwr : pp_wr (some (ts, 0)) := by
      intro g n e2
      cases e2
      refine ⟨pp_wl_one hI.1 hf.1, hI.1.1, fun x hx => ?_⟩
      have hs : (pp_p1 x ts).isSome = true := by
        have hx4 : x = 0 ∨ x = 1 ∨ x = 2 ∨ x = 3 := by omega
        rcases hx4 with rfl | rfl | rfl | rfl
        · exact hf.2.1
        · exact hf.2.2.1
        · exact hf.2.2.2.1
        · exact hf.2.2.2.2
      exact Option.isSome_iff_exists.mp hs
    have loop : ∀ (m k : Nat) (S2 : rs_St), k ≤ ts.length → ts.length + 1 ≤ k + m → S2 1 0 = nI ts.length → (∀ j, j < ts.length → S2 0 j = nI (ts.getD j 0)) → (∀ j, j < k → S2 0 (21 + j) = nI (ts.getD j 0)) → rs_J (rs_GM l D dI a) E 11 [(1, .int (nI k)), (0, .ref (a 0))] [] S2 := by
      intro m
      induction m with
      | zero => intro k S2 q1 q2; omega
      | succ m ih =>
        intro k S2 q1 q2 q3 q4 q5
        refine rj_iload_n (pc := 11) F dX1_start_11 rfl ?_
        refine rj_aload_n (pc := 12) F dX1_start_12 rfl ?_
        refine ry_g1 (pc := 13) F K q178 dX1_start_13 ?_
        refine rj_iconst (pc := 16) (v := nI 0) F dX1_start_16 (by decide) ?_
        refine ry_l1 (pc := 17) F K dX1_start_17 rfl (by omega) ?_
        refine rj_top q3 ?_
        refine rj_icmp_ge (pc := 18) (tgt := 42) F dX1_start_18 (by decide) (fun c18 => ?_) (fun c18 => ?_)
        · rw [nI_leI (by omega) (by omega)] at c18
          refine rj_aload_n (pc := 42) F dX1_start_42 rfl ?_
          refine ry_g1 (pc := 43) F K q178 dX1_start_43 ?_
          refine rj_iconst (pc := 46) (v := nI 1) F dX1_start_46 (by decide) ?_
          refine rj_aload_n (pc := 47) F dX1_start_47 rfl ?_
          refine ry_g1 (pc := 48) F K q178 dX1_start_48 ?_
          refine rj_iconst (pc := 51) (v := nI 0) F dX1_start_51 (by decide) ?_
          refine ry_l1 (pc := 52) F K dX1_start_52 rfl (by omega) ?_
          refine rj_top q3 ?_
          refine ry_s1 (pc := 53) F K dX1_start_53 rfl (by omega) ?_
          refine rj_aload_n (pc := 54) F dX1_start_54 rfl ?_
          refine rj_iconst (pc := 55) (v := nI 1) F dX1_start_55 (by decide) ?_
          refine ry_p2 (pc := 56) F K q179 dX1_start_56 (by decide) (by decide) ?_
          refine rj_aload_n (pc := 59) F dX1_start_59 rfl ?_
          refine rj_iconst (pc := 60) (v := nI 0) F dX1_start_60 (by decide) ?_
          refine ry_p3 (pc := 61) F K q180 dX1_start_61 ?_
          refine rj_iconst (pc := 64) (v := nI 1) F dX1_start_64 (by decide) ?_
          refine Rr 65 _ _ _ dX1_start_65 (by decide) ?_
          rw [e]
          exact ⟨rfl, hI.1, hwr, q3, q4, rfl, rfl, rfl, fun j hj => q5 j (by omega)⟩
        · rw [nI_leI (by omega) (by omega)] at c18
          have hk : k < ts.length := by omega
          refine rj_aload_n (pc := 21) F dX1_start_21 rfl ?_
          refine ry_g0 (pc := 22) F K q177 dX1_start_22 ?_
          refine rj_bipush (pc := 25) (v := nI 21) F dX1_start_25 (by decide) ?_
          refine rj_iload_n (pc := 27) F dX1_start_27 rfl ?_
          refine rj_iaddE (pc := 28) F dX1_start_28 (nI_add _ _) ?_
          refine rj_aload_n (pc := 29) F dX1_start_29 rfl ?_
          refine ry_g0 (pc := 30) F K q177 dX1_start_30 ?_
          refine rj_iload_n (pc := 33) F dX1_start_33 rfl ?_
          refine ry_l0 (pc := 34) F K dX1_start_34 rfl (by omega) ?_
          refine rj_top (q4 k hk) ?_
          refine ry_s0 (pc := 35) F K dX1_start_35 rfl (by omega) ?_
          refine rj_iinc (pc := 36) F dX1_start_36 rfl (by decide) (rs_inc k) ?_
          refine rj_goto (pc := 39) (tgt := 11) F dX1_start_39 (by decide) ?_
          refine rj_to2 (ih (k + 1) (rs_sU S2 0 (21 + k) (nI (ts.getD k 0))) (by omega) (by omega) q3 (fun j hj => ?_) (fun j hj => ?_)) rfl rfl
          · rw [rs_sU_j _ _ _ (by omega)]
            exact q4 j hj
          · by_cases ej : j = k
            · rw [ej, rs_sU_s]
            · rw [rs_sU_j _ _ _ (by omega)]
              exact q5 j (by omega)
    refine rj_iconst (pc := 9) (v := nI 0) F dX1_start_9 (by decide) ?_
    refine rj_istore_n (pc := 10) F dX1_start_10 (by decide) ?_
    exact rj_to2 (loop (ts.length + 1) 0 S1 (Nat.zero_le _) (by omega) hcnt htok (fun j hj => absurd hj (Nat.not_lt_zero _))) rfl rfl
  · have hf := rs_bz_eq c4
    have e : rs_oS ts run = (nI 0, ts, run) := by unfold rs_oS; rw [if_neg hf]
    refine rj_iconst (pc := 7) (v := nI 0) F dX1_start_7 (by decide) ?_
    exact Rr 8 _ _ _ dX1_start_8 (by decide) (by rw [e]; exact ⟨rfl, hI⟩)
set_option maxHeartbeats 4000000 in
theorem ct_X1_first {ts : List Nat} {run : rs_Rn} {S : rs_St} (x : Int32) (h : rs_IM ts run S) : rs_CT (rs_GM l D dI a) yX1_first cX1_first 2 (some .int) rm_X1_first [.ref (a 0), .int x] S (fun r S' => r = rs_aV run x ∧ rs_IM ts run S' ∧ ∀ g n, run = some (g, n) → rs_ro x → rs_Lo [pp_q1 x.toNatClampNeg g] S') := by
  refine rs_ofi (own := RX1) (by decide) rfl (Nat.le_of_ble_eq_true rfl) rfl rfl ?_
  intro E F K Rr
  refine rj_aload_n (pc := 0) F dX1_first_0 rfl ?_
  refine ry_g2 (pc := 1) F K q179 dX1_first_1 ?_
  cases run with
  | none =>
    refine rj_top h.run0 ?_
    refine rj_if_eq (pc := 4) (tgt := 15) F dX1_first_4 (by decide) (fun c4 => ?_) (fun c4 => ?_)
    · refine rj_iconst (pc := 15) (v := (-1)) F dX1_first_15 (by decide) ?_
      exact Rr 16 _ _ _ dX1_first_16 ⟨rfl, h, fun g n q => by cases q⟩
    · exact absurd nI_0 c4
  | some q =>
    obtain ⟨g, n⟩ := q
    refine rj_top h.run1.1 ?_
    refine rj_if_eq (pc := 4) (tgt := 15) F dX1_first_4 (by decide) (fun c4 => ?_) (fun c4 => ?_)
    · exact absurd c4 (by decide)
    · refine rj_aload_n (pc := 7) F dX1_first_7 rfl ?_
      refine rj_iload_n (pc := 8) F dX1_first_8 rfl ?_
      refine rj_callp1 (pc := 9) F K rs_rcM (ct_X1_role l (a 0) x) (lw_V q234 q236 qs8 q17 q237) (by decide +kernel) ⟨rfl, rfl⟩ ⟨Nat.le_of_ble_eq_true rfl, Nat.le_of_ble_eq_true rfl⟩ (Nat.le_of_ble_eq_true rfl) dX1_first_9 ?_
      refine rj_if_ne (pc := 12) (tgt := 17) F dX1_first_12 (by decide) (fun c12 => ?_) (fun c12 => ?_)
      · have hro := rs_bz_ne c12
        obtain ⟨j, hj, rfl⟩ := rs_ro_to hro
        obtain ⟨⟨hv, h1, htk⟩, hl, hsz, hg⟩ := h.gM
        obtain ⟨L, hL⟩ := (h.2.1 g n rfl).2.2 j hj
        obtain ⟨k1, k2⟩ := pp_rd_one (x := j) hv h1
        have k2 := k2 (by rw [hL]; rfl)
        have hq1 : pp_q1 j g = L := by unfold pp_q1; rw [hL]; rfl
        have hlt := pp_lt_ne (pp_p1_lt hv h1 hL)
        rw [hq1] at k2
        refine rj_aload_n (pc := 17) F dX1_first_17 rfl ?_
        refine rj_iconst (pc := 18) (v := nI 1) F dX1_first_18 (by decide) ?_
        refine rj_iload_n (pc := 19) F dX1_first_19 rfl ?_
        refine rj_calli2 (pc := 20) F K rs_rcM (ct_X1_read l D dI a (L := 1) (by decide) hj hv htk hl hsz (fun i hi => hg i hi)) (lw_V q238 q240 qs9 q17 q241) (by decide +kernel) ⟨rfl, rfl⟩ ⟨Nat.le_of_ble_eq_true rfl, Nat.le_of_ble_eq_true rfl⟩ (Nat.le_of_ble_eq_true rfl) dX1_first_20 (fun r S2 hp => ?_)
        obtain ⟨rfl, hLo, hq⟩ := hp
        have hI := rs_IM_congr h (fun q hq4 => hq q (Or.inl hq4))
        rw [k2] at hLo
        have hfl : [L].flatten = L := by simp
        have b1 := hLo.1
        have b2 := hLo.2.2.1
        have b3 := hLo.2.2.2.1
        rw [hfl] at b1 b2 b3
        refine rj_pop (pc := 23) F dX1_first_23 rfl ?_
        refine rj_aload_n (pc := 24) F dX1_first_24 rfl ?_
        refine ry_g5 (pc := 25) F K q182 dX1_first_25 ?_
        refine rj_aload_n (pc := 28) F dX1_first_28 rfl ?_
        refine ry_g4 (pc := 29) F K q181 dX1_first_29 ?_
        refine rj_top b2 ?_
        refine ry_l5 (pc := 32) F K dX1_first_32 rfl (by omega) ?_
        refine rj_top (y := nI (L.headD 0)) (by have := b3 0 hlt.1; rw [Nat.add_zero] at this; rw [this]; cases L <;> rfl) ?_
        refine Rr 33 _ _ _ dX1_first_33 ⟨?_, hI, fun g' n' e _ => ?_⟩
        · show _ = if rs_ro (nI j) then nI ((pp_q1 (nI j).toNatClampNeg g).headD 0) else -1
          rw [if_pos hro, nI_clamp (by omega), hq1]
        · cases e
          rw [nI_clamp (by omega), hq1]
          exact hLo
      · have hro := rs_bz_eq c12
        refine rj_iconst (pc := 15) (v := (-1)) F dX1_first_15 (by decide) ?_
        refine Rr 16 _ _ _ dX1_first_16 ⟨?_, h, fun g' n' _ q => absurd q hro⟩
        show _ = if rs_ro x then nI ((pp_q1 x.toNatClampNeg g).headD 0) else -1
        rw [if_neg hro]
theorem rs_aV_in {ts : List Nat} {run : rs_Rn} {S : rs_St} (x : Int32) (h : rs_IM ts run S) : (rs_aV run x = -1 ∧ rs_aD run x = -1 ∧ rs_aL run x = -1 ∧ rs_aE run x = -1) ∨ ∃ g n v, run = some (g, n) ∧ rs_ro x ∧ v ≤ 16 ∧ v = (pp_q1 x.toNatClampNeg g).headD 0 ∧ rs_aV run x = nI v ∧ rs_aD run x = nI (pp_du v) ∧ rs_aL run x = nI (pp_la v) ∧ rs_aE run x = nI (pp_ct (pp_q1 x.toNatClampNeg g)) := by
  cases run with
  | none => exact Or.inl ⟨rfl, rfl, rfl, rfl⟩
  | some q =>
    obtain ⟨g, n⟩ := q
    by_cases hro : rs_ro x
    · refine Or.inr ⟨g, n, _, rfl, hro, ?_, rfl, ?_, ?_, ?_, ?_⟩
      · obtain ⟨⟨hv, h1, htk⟩, hl, hsz, hg⟩ := h.gM
        obtain ⟨L, hL⟩ := (h.2.1 g n rfl).2.2 _ hro.2
        have hq1 : pp_q1 x.toNatClampNeg g = L := by unfold pp_q1; rw [hL]; rfl
        rw [hq1]
        exact (pp_lt_ne (pp_p1_lt hv h1 hL)).2
      · show (if rs_ro x then nI ((pp_q1 x.toNatClampNeg g).headD 0) else -1) = _; rw [if_pos hro]
      · show (if rs_ro x then nI (pp_du ((pp_q1 x.toNatClampNeg g).headD 0)) else -1) = _; rw [if_pos hro]
      · show (if rs_ro x then nI (pp_la ((pp_q1 x.toNatClampNeg g).headD 0)) else -1) = _; rw [if_pos hro]
      · show (if rs_ro x then nI (pp_ct (pp_q1 x.toNatClampNeg g)) else -1) = _; rw [if_pos hro]
    · refine Or.inl ⟨?_, ?_, ?_, ?_⟩
      · show (if rs_ro x then nI ((pp_q1 x.toNatClampNeg g).headD 0) else -1) = _; rw [if_neg hro]
      · show (if rs_ro x then nI (pp_du ((pp_q1 x.toNatClampNeg g).headD 0)) else -1) = _; rw [if_neg hro]
      · show (if rs_ro x then nI (pp_la ((pp_q1 x.toNatClampNeg g).headD 0)) else -1) = _; rw [if_neg hro]
      · show (if rs_ro x then nI (pp_ct (pp_q1 x.toNatClampNeg g)) else -1) = _; rw [if_neg hro]
set_option maxHeartbeats 4000000 in
theorem ct_X1_duty {ts : List Nat} {run : rs_Rn} {S : rs_St} (x : Int32) (h : rs_IM ts run S) : rs_CT (rs_GM l D dI a) yX1_duty cX1_duty 3 (some .int) rm_X1_duty [.ref (a 0), .int x] S (fun r S' => r = rs_aD run x ∧ rs_IM ts run S') := by
  refine rs_ofi (own := RX1) (by decide) rfl (Nat.le_of_ble_eq_true rfl) rfl rfl ?_
  intro E F K Rr
  refine rj_aload_n (pc := 0) F dX1_duty_0 rfl ?_
  refine rj_iload_n (pc := 1) F dX1_duty_1 rfl ?_
  refine rj_calli1 (pc := 2) F K rs_rcM (ct_X1_first l D dI a x h) (lw_V q289 q291 qs14 q17 q292) (by decide +kernel) ⟨rfl, rfl⟩ ⟨Nat.le_of_ble_eq_true rfl, Nat.le_of_ble_eq_true rfl⟩ (Nat.le_of_ble_eq_true rfl) dX1_duty_2 (fun r S1 hp => ?_)
  obtain ⟨rfl, hI, -⟩ := hp
  rcases rs_aV_in x h with ⟨e1, e2, e3, e4⟩ | ⟨g, n, v, e0, hro, hv, ev, e1, e2, e3, e4⟩
  · refine rj_top e1 ?_
    refine rj_istore_n (pc := 5) F dX1_duty_5 (by decide) ?_
    refine rj_iload_n (pc := 6) F dX1_duty_6 rfl ?_
    refine rj_bipush (pc := 7) (v := nI 8) F dX1_duty_7 (by decide) ?_
    refine rj_icmp_le (pc := 9) (tgt := 19) F dX1_duty_9 (by decide) (fun c9 => ?_) (fun c9 => ?_)
    · refine rj_iload_n (pc := 19) F dX1_duty_19 rfl ?_
      exact Rr 20 _ _ _ dX1_duty_20 ⟨e2.symm, hI⟩
    · exact absurd (by decide) c9
  · refine rj_top e1 ?_
    refine rj_istore_n (pc := 5) F dX1_duty_5 (by decide) ?_
    refine rj_iload_n (pc := 6) F dX1_duty_6 rfl ?_
    refine rj_bipush (pc := 7) (v := nI 8) F dX1_duty_7 (by decide) ?_
    refine rj_icmp_le (pc := 9) (tgt := 19) F dX1_duty_9 (by decide) (fun c9 => ?_) (fun c9 => ?_)
    · rw [nI_leI (by omega) (by omega)] at c9
      refine rj_iload_n (pc := 19) F dX1_duty_19 rfl ?_
      exact Rr 20 _ _ _ dX1_duty_20 ⟨by rw [e2]; unfold pp_du; rw [if_pos c9], hI⟩
    · rw [nI_leI (by omega) (by omega)] at c9
      refine rj_iload_n (pc := 12) F dX1_duty_12 rfl ?_
      refine rj_bipush (pc := 13) (v := nI 8) F dX1_duty_13 (by decide) ?_
      refine rj_isubE (pc := 15) F dX1_duty_15 (pk_sub (by omega)) ?_
      refine rj_goto (pc := 16) (tgt := 20) F dX1_duty_16 (by decide) ?_
      exact Rr 20 _ _ _ dX1_duty_20 ⟨by rw [e2]; unfold pp_du; rw [if_neg c9], hI⟩
set_option maxHeartbeats 4000000 in
theorem ct_X1_labels {ts : List Nat} {run : rs_Rn} {S : rs_St} (x : Int32) (h : rs_IM ts run S) : rs_CT (rs_GM l D dI a) yX1_labels cX1_labels 3 (some .int) rm_X1_labels [.ref (a 0), .int x] S (fun r S' => r = rs_aL run x ∧ rs_IM ts run S') := by
  refine rs_ofi (own := RX1) (by decide) rfl (Nat.le_of_ble_eq_true rfl) rfl rfl ?_
  intro E F K Rr
  refine rj_aload_n (pc := 0) F dX1_labels_0 rfl ?_
  refine rj_iload_n (pc := 1) F dX1_labels_1 rfl ?_
  refine rj_calli1 (pc := 2) F K rs_rcM (ct_X1_first l D dI a x h) (lw_V q289 q291 qs14 q17 q292) (by decide +kernel) ⟨rfl, rfl⟩ ⟨Nat.le_of_ble_eq_true rfl, Nat.le_of_ble_eq_true rfl⟩ (Nat.le_of_ble_eq_true rfl) dX1_labels_2 (fun r S1 hp => ?_)
  obtain ⟨rfl, hI, -⟩ := hp
  rcases rs_aV_in x h with ⟨e1, e2, e3, e4⟩ | ⟨g, n, v, e0, hro, hv, ev, e1, e2, e3, e4⟩
  · refine rj_top e1 ?_
    refine rj_istore_n (pc := 5) F dX1_labels_5 (by decide) ?_
    refine rj_iload_n (pc := 6) F dX1_labels_6 rfl ?_
    refine rj_if_gt (pc := 7) (tgt := 14) F dX1_labels_7 (by decide) (fun c7 => ?_) (fun c7 => ?_)
    · exact absurd c7 (by decide)
    · refine rj_iload_n (pc := 10) F dX1_labels_10 rfl ?_
      refine rj_goto (pc := 11) (tgt := 25) F dX1_labels_11 (by decide) ?_
      exact Rr 25 _ _ _ dX1_labels_25 ⟨e3.symm, hI⟩
  · refine rj_top e1 ?_
    refine rj_istore_n (pc := 5) F dX1_labels_5 (by decide) ?_
    refine rj_iload_n (pc := 6) F dX1_labels_6 rfl ?_
    refine rj_if_gt (pc := 7) (tgt := 14) F dX1_labels_7 (by decide) (fun c7 => ?_) (fun c7 => ?_)
    · rw [← nI_0, nI_ltI (by omega) (by omega)] at c7
      refine rj_iload_n (pc := 14) F dX1_labels_14 rfl ?_
      refine rj_bipush (pc := 15) (v := nI 8) F dX1_labels_15 (by decide) ?_
      refine rj_icmp_le (pc := 17) (tgt := 24) F dX1_labels_17 (by decide) (fun c17 => ?_) (fun c17 => ?_)
      · rw [nI_leI (by omega) (by omega)] at c17
        refine rj_iconst (pc := 24) (v := nI 1) F dX1_labels_24 (by decide) ?_
        exact Rr 25 _ _ _ dX1_labels_25 ⟨by rw [e3]; unfold pp_la; rw [if_neg (by omega), if_pos c17], hI⟩
      · rw [nI_leI (by omega) (by omega)] at c17
        refine rj_iconst (pc := 20) (v := nI 2) F dX1_labels_20 (by decide) ?_
        refine rj_goto (pc := 21) (tgt := 25) F dX1_labels_21 (by decide) ?_
        exact Rr 25 _ _ _ dX1_labels_25 ⟨by rw [e3]; unfold pp_la; rw [if_neg (by omega), if_neg c17], hI⟩
    · rw [← nI_0, nI_ltI (by omega) (by omega)] at c7
      have hv0 : v = 0 := by omega
      refine rj_iload_n (pc := 10) F dX1_labels_10 rfl ?_
      refine rj_goto (pc := 11) (tgt := 25) F dX1_labels_11 (by decide) ?_
      exact Rr 25 _ _ _ dX1_labels_25 ⟨by rw [e3, hv0]; rfl, hI⟩
set_option maxHeartbeats 4000000 in
theorem ct_X1_rest {ts : List Nat} {run : rs_Rn} {S : rs_St} (x : Int32) (h : rs_IM ts run S) : rs_CT (rs_GM l D dI a) yX1_rest cX1_rest 3 (some .int) rm_X1_rest [.ref (a 0), .int x] S (fun r S' => r = rs_aE run x ∧ rs_IM ts run S') := by
  refine rs_ofi (own := RX1) (by decide) rfl (Nat.le_of_ble_eq_true rfl) rfl rfl ?_
  intro E F K Rr
  refine rj_aload_n (pc := 0) F dX1_rest_0 rfl ?_
  refine rj_iload_n (pc := 1) F dX1_rest_1 rfl ?_
  refine rj_calli1 (pc := 2) F K rs_rcM (ct_X1_first l D dI a x h) (lw_V q289 q291 qs14 q17 q292) (by decide +kernel) ⟨rfl, rfl⟩ ⟨Nat.le_of_ble_eq_true rfl, Nat.le_of_ble_eq_true rfl⟩ (Nat.le_of_ble_eq_true rfl) dX1_rest_2 (fun r S1 hp => ?_)
  obtain ⟨rfl, hI, hk⟩ := hp
  rcases rs_aV_in x h with ⟨e1, e2, e3, e4⟩ | ⟨g, n, v, e0, hro, hv, ev, e1, e2, e3, e4⟩
  · refine rj_top e1 ?_
    refine rj_istore_n (pc := 5) F dX1_rest_5 (by decide) ?_
    refine rj_iload_n (pc := 6) F dX1_rest_6 rfl ?_
    refine rj_if_ge (pc := 7) (tgt := 14) F dX1_rest_7 (by decide) (fun c7 => ?_) (fun c7 => ?_)
    · exact absurd c7 (by decide)
    · refine rj_iconst (pc := 10) (v := (-1)) F dX1_rest_10 (by decide) ?_
      refine rj_goto (pc := 11) (tgt := 18) F dX1_rest_11 (by decide) ?_
      exact Rr 18 _ _ _ dX1_rest_18 ⟨e4.symm, hI⟩
  · refine rj_top e1 ?_
    refine rj_istore_n (pc := 5) F dX1_rest_5 (by decide) ?_
    refine rj_iload_n (pc := 6) F dX1_rest_6 rfl ?_
    refine rj_if_ge (pc := 7) (tgt := 14) F dX1_rest_7 (by decide) (fun c7 => ?_) (fun c7 => ?_)
    · refine rj_aload_n (pc := 14) F dX1_rest_14 rfl ?_
      refine rj_calli0 (pc := 15) F K rs_rcM (ct_X1_measure l D dI a (hk g n e0 hro)) (lw_V q259 q261 qs12 q17 q262) (by decide +kernel) ⟨rfl, rfl⟩ ⟨Nat.le_of_ble_eq_true rfl, Nat.le_of_ble_eq_true rfl⟩ (Nat.le_of_ble_eq_true rfl) dX1_rest_15 (fun r2 S2 hp2 => ?_)
      obtain ⟨rfl, rfl⟩ := hp2
      exact Rr 18 _ _ _ dX1_rest_18 ⟨by rw [e4]; simp, hI⟩
    · exact absurd (nI_pos' (by omega)) c7
theorem rs_du0 {v : Nat} (hv : v ≤ 16) : nI (pp_du v) = 0 ↔ v = 0 := by
  have h : pp_du v ≤ 16 ∧ (pp_du v = 0 ↔ v = 0) := by unfold pp_du; split <;> omega
  rw [← nI_0, nI_eq (by omega) (by omega)]
  exact h.2
theorem rs_aD_0 {ts g : List Nat} {n : Nat} {S : rs_St} (h : rs_IM ts (some (g, n)) S) {j : Nat} (hj : j < 4) : rs_aD (some (g, n)) (nI j) = 0 ↔ (pp_q1 j g).headD 0 = 0 := by
  have e3 : rs_aD (some (g, n)) (nI j) = nI (pp_du ((pp_q1 j g).headD 0)) := by
    show (if rs_ro (nI j) then nI (pp_du ((pp_q1 (nI j).toNatClampNeg g).headD 0)) else -1) = _
    rw [if_pos (rs_ro_of rfl hj).1, nI_clamp (by omega)]
  obtain ⟨⟨hv, h1, htk⟩, hl, hsz, hg⟩ := h.gM
  obtain ⟨L, hL⟩ := (h.2.1 g n rfl).2.2 j hj
  have hq1 : pp_q1 j g = L := by unfold pp_q1; rw [hL]; rfl
  rw [e3, hq1]
  exact rs_du0 (pp_lt_ne (pp_p1_lt hv h1 hL)).2
set_option maxHeartbeats 4000000 in
theorem ct_X1_over {ts : List Nat} {run : rs_Rn} {S : rs_St} (h : rs_IM ts run S) : rs_CT (rs_GM l D dI a) yX1_over cX1_over 1 (some .boolean) rm_X1_over [.ref (a 0)] S (fun r S' => r = rs_aO run ∧ rs_IM ts run S') := by
  refine rs_ofz (own := RX1) (by decide) rfl (Nat.le_of_ble_eq_true rfl) rfl rfl ?_
  intro E F K Rr
  refine rj_aload_n (pc := 0) F dX1_over_0 rfl ?_
  refine ry_g2 (pc := 1) F K q179 dX1_over_1 ?_
  cases run with
  | none =>
    refine rj_top h.run0 ?_
    refine rj_if_eq (pc := 4) (tgt := 43) F dX1_over_4 (by decide) (fun c4 => ?_) (fun c4 => ?_)
    · refine rj_iconst (pc := 43) (v := nI 0) F dX1_over_43 (by decide) ?_
      exact Rr 44 _ _ _ dX1_over_44 (by decide) ⟨rfl, h⟩
    · exact absurd nI_0 c4
  | some q =>
    obtain ⟨g, n⟩ := q
    refine rj_top h.run1.1 ?_
    have K43 : ∀ S' : rs_St, rs_IM ts (some (g, n)) S' → ¬ pp_ov g → rs_J (rs_GM l D dI a) E 43 [] [] S' := by
      intro S' hI hn
      refine rj_iconst (pc := 43) (v := nI 0) F dX1_over_43 (by decide) ?_
      exact Rr 44 _ _ _ dX1_over_44 (by decide) ⟨(rs_bz_f hn).symm, hI⟩
    refine rj_if_eq (pc := 4) (tgt := 43) F dX1_over_4 (by decide) (fun c4 => ?_) (fun c4 => ?_)
    · exact absurd c4 (by decide)
    · refine rj_aload_n (pc := 7) F dX1_over_7 rfl ?_
      refine rj_iconst (pc := 8) (v := nI 0) F dX1_over_8 (by decide) ?_
      refine rj_calli1 (pc := 9) F K rs_rcM (ct_X1_duty l D dI a (nI 0) h) (lw_V q313 q286 q287 q17 q288) (by decide +kernel) ⟨rfl, rfl⟩ ⟨Nat.le_of_ble_eq_true rfl, Nat.le_of_ble_eq_true rfl⟩ (Nat.le_of_ble_eq_true rfl) dX1_over_9 (fun r0 S0 hp => ?_)
      obtain ⟨rfl, h0⟩ := hp
      refine rj_if_ne (pc := 12) (tgt := 43) F dX1_over_12 (by decide) (fun c12 => ?_) (fun c12 => ?_)
      · exact rj_sb (lv' := []) trivial (K43 S0 h0 (fun q => c12 ((rs_aD_0 h (by decide)).mpr q.1)))
      · have b0 := (rs_aD_0 h (by decide)).mp c12
        refine rj_aload_n (pc := 15) F dX1_over_15 rfl ?_
        refine rj_iconst (pc := 16) (v := nI 1) F dX1_over_16 (by decide) ?_
        refine rj_calli1 (pc := 17) F K rs_rcM (ct_X1_duty l D dI a (nI 1) h0) (lw_V q313 q286 q287 q17 q288) (by decide +kernel) ⟨rfl, rfl⟩ ⟨Nat.le_of_ble_eq_true rfl, Nat.le_of_ble_eq_true rfl⟩ (Nat.le_of_ble_eq_true rfl) dX1_over_17 (fun r1 S1 hp => ?_)
        obtain ⟨rfl, h1⟩ := hp
        refine rj_if_ne (pc := 20) (tgt := 43) F dX1_over_20 (by decide) (fun c20 => ?_) (fun c20 => ?_)
        · exact rj_sb (lv' := []) trivial (K43 S1 h1 (fun q => c20 ((rs_aD_0 h (by decide)).mpr q.2.1)))
        · have b1 := (rs_aD_0 h (by decide)).mp c20
          refine rj_aload_n (pc := 23) F dX1_over_23 rfl ?_
          refine rj_iconst (pc := 24) (v := nI 2) F dX1_over_24 (by decide) ?_
          refine rj_calli1 (pc := 25) F K rs_rcM (ct_X1_duty l D dI a (nI 2) h1) (lw_V q313 q286 q287 q17 q288) (by decide +kernel) ⟨rfl, rfl⟩ ⟨Nat.le_of_ble_eq_true rfl, Nat.le_of_ble_eq_true rfl⟩ (Nat.le_of_ble_eq_true rfl) dX1_over_25 (fun r2 S2 hp => ?_)
          obtain ⟨rfl, h2⟩ := hp
          refine rj_if_ne (pc := 28) (tgt := 43) F dX1_over_28 (by decide) (fun c28 => ?_) (fun c28 => ?_)
          · exact rj_sb (lv' := []) trivial (K43 S2 h2 (fun q => c28 ((rs_aD_0 h (by decide)).mpr q.2.2.1)))
          · have b2 := (rs_aD_0 h (by decide)).mp c28
            refine rj_aload_n (pc := 31) F dX1_over_31 rfl ?_
            refine rj_iconst (pc := 32) (v := nI 3) F dX1_over_32 (by decide) ?_
            refine rj_calli1 (pc := 33) F K rs_rcM (ct_X1_duty l D dI a (nI 3) h2) (lw_V q313 q286 q287 q17 q288) (by decide +kernel) ⟨rfl, rfl⟩ ⟨Nat.le_of_ble_eq_true rfl, Nat.le_of_ble_eq_true rfl⟩ (Nat.le_of_ble_eq_true rfl) dX1_over_33 (fun r3 S3 hp => ?_)
            obtain ⟨rfl, h3⟩ := hp
            refine rj_if_ne (pc := 36) (tgt := 43) F dX1_over_36 (by decide) (fun c36 => ?_) (fun c36 => ?_)
            · exact rj_sb (lv' := []) trivial (K43 S3 h3 (fun q => c36 ((rs_aD_0 h (by decide)).mpr q.2.2.2)))
            · have b3 := (rs_aD_0 h (by decide)).mp c36
              refine rj_iconst (pc := 39) (v := nI 1) F dX1_over_39 (by decide) ?_
              refine rj_goto (pc := 40) (tgt := 44) F dX1_over_40 (by decide) ?_
              exact Rr 44 _ _ _ dX1_over_44 (by decide) ⟨(rs_bz_t ⟨b0, b1, b2, b3⟩).symm, h3⟩
end MF
end
section
/-! the two constructors: they make the arrays -/
theorem rs_same {D : va_G} {cl : List vw_C} {tys : List (ClassId × FieldType)} {d cA : ClassId} {U : State} (k : Nat) (hk : tys[k]? = some (d, .byte)) (h : va_K D cl (tys ++ [(cA, .byte)]) U) : cA = d := by
  have hl : k < tys.length := (List.getElem?_eq_some_iff.mp hk).1
  have h1 := (h.2 k (d, .byte) (by rw [List.getElem?_append_left hl]; exact hk)).2
  have h2 := (h.2 tys.length (cA, .byte) (by rw [List.getElem?_append_right (Nat.le_refl _), Nat.sub_self]; rfl)).2
  exact Option.some.inj (Eq.trans (Eq.symm h2) h1)
theorem rs_sameI {D : va_G} {cl : List vw_C} {tys : List (ClassId × FieldType)} {d cA : ClassId} {U : State} (k : Nat) (hk : tys[k]? = some (d, .int)) (h : va_K D cl (tys ++ [(cA, .int)]) U) : cA = d := by
  have hl : k < tys.length := (List.getElem?_eq_some_iff.mp hk).1
  have h1 := (h.2 k (d, .int) (by rw [List.getElem?_append_left hl]; exact hk)).2
  have h2 := (h.2 tys.length (cA, .int) (by rw [List.getElem?_append_right (Nat.le_refl _), Nat.sub_self]; rfl)).2
  exact Option.some.inj (Eq.trans (Eq.symm h2) h1)
abbrev rs_S0 : rs_St := fun _ _ => 0
abbrev rm_X0_init : Room := { frames := 1, cells := 8, slots := 370, locals := 12 }
abbrev rs_nX (h0 : Nat) : va_W := [(h0, .inr (0, [.int 0, .null, .int 0, .null, .null, .int 0, .null, .null, .null, .null, .int 0, .null, .int 0]))]
set_option maxHeartbeats 8000000 in
set_option maxRecDepth 100000 in
theorem ct_X0_init (l : Launch) (D : va_G) (dB dI : ClassId) (h0 sz : Nat) : Met l yX0_init (ws_ yX0_init cX0_init 1 none) rm_X0_init (va_Pc [.ref h0] (fun U => U.heap.size = sz ∧ va_P D rs_cl (rs_nX h0) U.heap ∧ va_K D rs_cl [(dB, .byte), (dI, .int)] U ∧ va_D (fun _ => True) (rs_nX h0))) (va_Qv (fun a : Nat → Nat => a 0 = h0) (fun a t => va_P D rs_cl (rs_wX dB dI a rs_S0) t.heap ∧ va_K D rs_cl [(dB, .byte), (dI, .int)] t ∧ va_D (va_A (rs_nX h0) sz) (rs_wX dB dI a rs_S0)) (va_A (rs_nX h0) sz)) 8 370 (va_A (rs_nX h0) sz) := by
  refine Met.ofW (cc := cX0_init) (maxL := 1) (ret := none) (by decide) rfl ?_
  intro p e s m args below meth c s₁ B hml hv
  obtain ⟨rfl, hsz, hP, hK, hD0⟩ := hv
  have hx := B.exec
  have hb := B.bytes
  have hr := B.returns
  have hts := atoms_spec (ws := ws_ yX0_init cX0_init 1 none) B.pre
  have hts : ∀ w ∈ lw_all, w.before _ s = true := fun w h => hts w (List.mem_cons_of_mem _ h)
  have hown : s.vm.findClass RX0 = some m.cls := findClass_of_methodNamed B.named
  have hlocks := B.notSynchronized
  have hin : meth.name = "<init>" := (name_of_methodNamed B.named B.method).1
  subst hsz
  have hD := hD0.self (sz := s.heap.size)
  generalize hAe : va_A (rs_nX h0) s.heap.size = A at hD ⊢
  have hA : ∀ q : Nat, s.heap.size ≤ q → A q := fun q h => by rw [← hAe]; exact Or.inr h
  have hS : va_S A s.heap s.heap [] := va_S.rf
  have hl := lv_entry ([.ref h0]) (n := 1) (Nat.le_of_ble_eq_true rfl)
  rw [lg_entry_eq]
  generalize (lg_sl ([.ref h0]) ++ List.replicate (1 - (lg_sl ([.ref h0])).length) Slot.unset).toArray = ls at hl ⊢
  have hl : lv_has ls 1 [(0, .ref h0)] := hl
  refine lv_aload_n hx hb dX0_init_0 rfl (lv_at hl 0 rfl) ?_
  refine W.objInit hx hb hown (hts _ q23) (hts _ q24) (hts _ q25) rfl (by rw [hml]; exact hl.1) rfl dX0_init_1 (Nat.le_of_ble_eq_true rfl) (Nat.le_of_ble_eq_true rfl) ?_
  refine W.eq (g2 := F0 m 4 ls []) rfl ?_
  refine lv_aload_n hx hb dX0_init_4 rfl (lv_at hl 0 rfl) ?_
  refine lv_bipush (v := nI 21) hx hb dX0_init_5 (by decide) ?_
  refine va_newa (D := D) (atype := .byte) (ty := .byte) (N' := 21) (a0 := (21, .inl (fun _ => 0))) hx hb (hts _ q66) rfl hK hP hD hS hA (fun _ => rfl) (nI_pos (by decide)) (nI_clamp (by decide)) (Nat.le_of_ble_eq_true rfl) (Nat.le_of_ble_eq_true rfl) (Nat.le_of_ble_eq_true rfl) dX0_init_7 (fun q1 cA H hK1 hP hD hS => ?_)
  have ecA : cA = dB := rs_same 0 rfl hK1
  rw [ecA] at hP hD
  clear hK1 ecA
  have hP : va_P D rs_cl [(h0, .inr (0, [.int 0, .null, .int 0, .null, .null, .int 0, .null, .null, .null, .null, .int 0, .null, .int 0])), (q1, .inl (dB, 21, .inl (fun _ => 0)))] H := hP
  have hD : va_D A [(h0, .inr (0, [.int 0, .null, .int 0, .null, .null, .int 0, .null, .null, .null, .null, .int 0, .null, .int 0])), (q1, .inl (dB, 21, .inl (fun _ => 0)))] := hD
  refine W.widen (k := 1) (n := 21) (Nat.le_of_ble_eq_true rfl) (Nat.le_of_ble_eq_true rfl) ?_
  refine va_putF (D := D) (ci := 0) (v := .ref q1) (ty := .array .byte) (C := RX0) (T := TX0) (N := 13) hx hb hts in_X0 tyX0 tyX0_ok nmX0 hown hK hP hD hS 0 rfl rfl 1 (by decide) (hts _ q27) (fun _ h9 => h9) rfl hin rfl (by decide +kernel) rfl rfl (Nat.le_of_ble_eq_true rfl) dX0_init_9 (fun H locs hP hD hS => ?_)
  have hP : va_P D rs_cl [(h0, .inr (0, [.int 0, .ref q1, .int 0, .null, .null, .int 0, .null, .null, .null, .null, .int 0, .null, .int 0])), (q1, .inl (dB, 21, .inl (fun _ => 0)))] H := hP
  have hD : va_D A [(h0, .inr (0, [.int 0, .ref q1, .int 0, .null, .null, .int 0, .null, .null, .null, .null, .int 0, .null, .int 0])), (q1, .inl (dB, 21, .inl (fun _ => 0)))] := hD
  refine lv_aload_n hx hb dX0_init_12 rfl (lv_at hl 0 rfl) ?_
  refine lv_bipush (v := nI 21) hx hb dX0_init_13 (by decide) ?_
  refine va_newa (D := D) (atype := .byte) (ty := .byte) (N' := 21) (a0 := (21, .inl (fun _ => 0))) hx hb (hts _ q66) rfl hK hP hD hS hA (fun _ => rfl) (nI_pos (by decide)) (nI_clamp (by decide)) (Nat.le_of_ble_eq_true rfl) (Nat.le_of_ble_eq_true rfl) (Nat.le_of_ble_eq_true rfl) dX0_init_15 (fun q3 cA H hK1 hP hD hS => ?_)
  have ecA : cA = dB := rs_same 0 rfl hK1
  rw [ecA] at hP hD
  clear hK1 ecA
  have hP : va_P D rs_cl [(h0, .inr (0, [.int 0, .ref q1, .int 0, .null, .null, .int 0, .null, .null, .null, .null, .int 0, .null, .int 0])), (q1, .inl (dB, 21, .inl (fun _ => 0))), (q3, .inl (dB, 21, .inl (fun _ => 0)))] H := hP
  have hD : va_D A [(h0, .inr (0, [.int 0, .ref q1, .int 0, .null, .null, .int 0, .null, .null, .null, .null, .int 0, .null, .int 0])), (q1, .inl (dB, 21, .inl (fun _ => 0))), (q3, .inl (dB, 21, .inl (fun _ => 0)))] := hD
  refine W.widen (k := 2) (n := 42) (Nat.le_of_ble_eq_true rfl) (Nat.le_of_ble_eq_true rfl) ?_
  refine va_putF (D := D) (ci := 0) (v := .ref q3) (ty := .array .byte) (C := RX0) (T := TX0) (N := 13) hx hb hts in_X0 tyX0 tyX0_ok nmX0 hown hK hP hD hS 0 rfl rfl 3 (by decide) (hts _ q29) (fun _ h9 => h9) rfl hin rfl (by decide +kernel) rfl rfl (Nat.le_of_ble_eq_true rfl) dX0_init_17 (fun H locs hP hD hS => ?_)
  have hP : va_P D rs_cl [(h0, .inr (0, [.int 0, .ref q1, .int 0, .ref q3, .null, .int 0, .null, .null, .null, .null, .int 0, .null, .int 0])), (q1, .inl (dB, 21, .inl (fun _ => 0))), (q3, .inl (dB, 21, .inl (fun _ => 0)))] H := hP
  have hD : va_D A [(h0, .inr (0, [.int 0, .ref q1, .int 0, .ref q3, .null, .int 0, .null, .null, .null, .null, .int 0, .null, .int 0])), (q1, .inl (dB, 21, .inl (fun _ => 0))), (q3, .inl (dB, 21, .inl (fun _ => 0)))] := hD
  refine lv_aload_n hx hb dX0_init_20 rfl (lv_at hl 0 rfl) ?_
  refine lv_bipush (v := nI 84) hx hb dX0_init_21 (by decide) ?_
  refine va_newa (D := D) (atype := .byte) (ty := .byte) (N' := 84) (a0 := (84, .inl (fun _ => 0))) hx hb (hts _ q66) rfl hK hP hD hS hA (fun _ => rfl) (nI_pos (by decide)) (nI_clamp (by decide)) (Nat.le_of_ble_eq_true rfl) (Nat.le_of_ble_eq_true rfl) (Nat.le_of_ble_eq_true rfl) dX0_init_23 (fun q4 cA H hK1 hP hD hS => ?_)
  have ecA : cA = dB := rs_same 0 rfl hK1
  rw [ecA] at hP hD
  clear hK1 ecA
  have hP : va_P D rs_cl [(h0, .inr (0, [.int 0, .ref q1, .int 0, .ref q3, .null, .int 0, .null, .null, .null, .null, .int 0, .null, .int 0])), (q1, .inl (dB, 21, .inl (fun _ => 0))), (q3, .inl (dB, 21, .inl (fun _ => 0))), (q4, .inl (dB, 84, .inl (fun _ => 0)))] H := hP
  have hD : va_D A [(h0, .inr (0, [.int 0, .ref q1, .int 0, .ref q3, .null, .int 0, .null, .null, .null, .null, .int 0, .null, .int 0])), (q1, .inl (dB, 21, .inl (fun _ => 0))), (q3, .inl (dB, 21, .inl (fun _ => 0))), (q4, .inl (dB, 84, .inl (fun _ => 0)))] := hD
  refine W.widen (k := 3) (n := 126) (Nat.le_of_ble_eq_true rfl) (Nat.le_of_ble_eq_true rfl) ?_
  refine va_putF (D := D) (ci := 0) (v := .ref q4) (ty := .array .byte) (C := RX0) (T := TX0) (N := 13) hx hb hts in_X0 tyX0 tyX0_ok nmX0 hown hK hP hD hS 0 rfl rfl 4 (by decide) (hts _ q30) (fun _ h9 => h9) rfl hin rfl (by decide +kernel) rfl rfl (Nat.le_of_ble_eq_true rfl) dX0_init_25 (fun H locs hP hD hS => ?_)
  have hP : va_P D rs_cl [(h0, .inr (0, [.int 0, .ref q1, .int 0, .ref q3, .ref q4, .int 0, .null, .null, .null, .null, .int 0, .null, .int 0])), (q1, .inl (dB, 21, .inl (fun _ => 0))), (q3, .inl (dB, 21, .inl (fun _ => 0))), (q4, .inl (dB, 84, .inl (fun _ => 0)))] H := hP
  have hD : va_D A [(h0, .inr (0, [.int 0, .ref q1, .int 0, .ref q3, .ref q4, .int 0, .null, .null, .null, .null, .int 0, .null, .int 0])), (q1, .inl (dB, 21, .inl (fun _ => 0))), (q3, .inl (dB, 21, .inl (fun _ => 0))), (q4, .inl (dB, 84, .inl (fun _ => 0)))] := hD
  refine lv_aload_n hx hb dX0_init_28 rfl (lv_at hl 0 rfl) ?_
  refine lv_bipush (v := nI 48) hx hb dX0_init_29 (by decide) ?_
  refine va_newa (D := D) (atype := .byte) (ty := .byte) (N' := 48) (a0 := (48, .inl (fun _ => 0))) hx hb (hts _ q66) rfl hK hP hD hS hA (fun _ => rfl) (nI_pos (by decide)) (nI_clamp (by decide)) (Nat.le_of_ble_eq_true rfl) (Nat.le_of_ble_eq_true rfl) (Nat.le_of_ble_eq_true rfl) dX0_init_31 (fun q6 cA H hK1 hP hD hS => ?_)
  have ecA : cA = dB := rs_same 0 rfl hK1
  rw [ecA] at hP hD
  clear hK1 ecA
  have hP : va_P D rs_cl [(h0, .inr (0, [.int 0, .ref q1, .int 0, .ref q3, .ref q4, .int 0, .null, .null, .null, .null, .int 0, .null, .int 0])), (q1, .inl (dB, 21, .inl (fun _ => 0))), (q3, .inl (dB, 21, .inl (fun _ => 0))), (q4, .inl (dB, 84, .inl (fun _ => 0))), (q6, .inl (dB, 48, .inl (fun _ => 0)))] H := hP
  have hD : va_D A [(h0, .inr (0, [.int 0, .ref q1, .int 0, .ref q3, .ref q4, .int 0, .null, .null, .null, .null, .int 0, .null, .int 0])), (q1, .inl (dB, 21, .inl (fun _ => 0))), (q3, .inl (dB, 21, .inl (fun _ => 0))), (q4, .inl (dB, 84, .inl (fun _ => 0))), (q6, .inl (dB, 48, .inl (fun _ => 0)))] := hD
  refine W.widen (k := 4) (n := 174) (Nat.le_of_ble_eq_true rfl) (Nat.le_of_ble_eq_true rfl) ?_
  refine va_putF (D := D) (ci := 0) (v := .ref q6) (ty := .array .byte) (C := RX0) (T := TX0) (N := 13) hx hb hts in_X0 tyX0 tyX0_ok nmX0 hown hK hP hD hS 0 rfl rfl 6 (by decide) (hts _ q32) (fun _ h9 => h9) rfl hin rfl (by decide +kernel) rfl rfl (Nat.le_of_ble_eq_true rfl) dX0_init_33 (fun H locs hP hD hS => ?_)
  have hP : va_P D rs_cl [(h0, .inr (0, [.int 0, .ref q1, .int 0, .ref q3, .ref q4, .int 0, .ref q6, .null, .null, .null, .int 0, .null, .int 0])), (q1, .inl (dB, 21, .inl (fun _ => 0))), (q3, .inl (dB, 21, .inl (fun _ => 0))), (q4, .inl (dB, 84, .inl (fun _ => 0))), (q6, .inl (dB, 48, .inl (fun _ => 0)))] H := hP
  have hD : va_D A [(h0, .inr (0, [.int 0, .ref q1, .int 0, .ref q3, .ref q4, .int 0, .ref q6, .null, .null, .null, .int 0, .null, .int 0])), (q1, .inl (dB, 21, .inl (fun _ => 0))), (q3, .inl (dB, 21, .inl (fun _ => 0))), (q4, .inl (dB, 84, .inl (fun _ => 0))), (q6, .inl (dB, 48, .inl (fun _ => 0)))] := hD
  refine lv_aload_n hx hb dX0_init_36 rfl (lv_at hl 0 rfl) ?_
  refine lv_bipush (v := nI 48) hx hb dX0_init_37 (by decide) ?_
  refine va_newa (D := D) (atype := .byte) (ty := .byte) (N' := 48) (a0 := (48, .inl (fun _ => 0))) hx hb (hts _ q66) rfl hK hP hD hS hA (fun _ => rfl) (nI_pos (by decide)) (nI_clamp (by decide)) (Nat.le_of_ble_eq_true rfl) (Nat.le_of_ble_eq_true rfl) (Nat.le_of_ble_eq_true rfl) dX0_init_39 (fun q7 cA H hK1 hP hD hS => ?_)
  have ecA : cA = dB := rs_same 0 rfl hK1
  rw [ecA] at hP hD
  clear hK1 ecA
  have hP : va_P D rs_cl [(h0, .inr (0, [.int 0, .ref q1, .int 0, .ref q3, .ref q4, .int 0, .ref q6, .null, .null, .null, .int 0, .null, .int 0])), (q1, .inl (dB, 21, .inl (fun _ => 0))), (q3, .inl (dB, 21, .inl (fun _ => 0))), (q4, .inl (dB, 84, .inl (fun _ => 0))), (q6, .inl (dB, 48, .inl (fun _ => 0))), (q7, .inl (dB, 48, .inl (fun _ => 0)))] H := hP
  have hD : va_D A [(h0, .inr (0, [.int 0, .ref q1, .int 0, .ref q3, .ref q4, .int 0, .ref q6, .null, .null, .null, .int 0, .null, .int 0])), (q1, .inl (dB, 21, .inl (fun _ => 0))), (q3, .inl (dB, 21, .inl (fun _ => 0))), (q4, .inl (dB, 84, .inl (fun _ => 0))), (q6, .inl (dB, 48, .inl (fun _ => 0))), (q7, .inl (dB, 48, .inl (fun _ => 0)))] := hD
  refine W.widen (k := 5) (n := 222) (Nat.le_of_ble_eq_true rfl) (Nat.le_of_ble_eq_true rfl) ?_
  refine va_putF (D := D) (ci := 0) (v := .ref q7) (ty := .array .byte) (C := RX0) (T := TX0) (N := 13) hx hb hts in_X0 tyX0 tyX0_ok nmX0 hown hK hP hD hS 0 rfl rfl 7 (by decide) (hts _ q33) (fun _ h9 => h9) rfl hin rfl (by decide +kernel) rfl rfl (Nat.le_of_ble_eq_true rfl) dX0_init_41 (fun H locs hP hD hS => ?_)
  have hP : va_P D rs_cl [(h0, .inr (0, [.int 0, .ref q1, .int 0, .ref q3, .ref q4, .int 0, .ref q6, .ref q7, .null, .null, .int 0, .null, .int 0])), (q1, .inl (dB, 21, .inl (fun _ => 0))), (q3, .inl (dB, 21, .inl (fun _ => 0))), (q4, .inl (dB, 84, .inl (fun _ => 0))), (q6, .inl (dB, 48, .inl (fun _ => 0))), (q7, .inl (dB, 48, .inl (fun _ => 0)))] H := hP
  have hD : va_D A [(h0, .inr (0, [.int 0, .ref q1, .int 0, .ref q3, .ref q4, .int 0, .ref q6, .ref q7, .null, .null, .int 0, .null, .int 0])), (q1, .inl (dB, 21, .inl (fun _ => 0))), (q3, .inl (dB, 21, .inl (fun _ => 0))), (q4, .inl (dB, 84, .inl (fun _ => 0))), (q6, .inl (dB, 48, .inl (fun _ => 0))), (q7, .inl (dB, 48, .inl (fun _ => 0)))] := hD
  refine lv_aload_n hx hb dX0_init_44 rfl (lv_at hl 0 rfl) ?_
  refine lv_bipush (v := nI 96) hx hb dX0_init_45 (by decide) ?_
  refine va_newa (D := D) (atype := .byte) (ty := .byte) (N' := 96) (a0 := (96, .inl (fun _ => 0))) hx hb (hts _ q66) rfl hK hP hD hS hA (fun _ => rfl) (nI_pos (by decide)) (nI_clamp (by decide)) (Nat.le_of_ble_eq_true rfl) (Nat.le_of_ble_eq_true rfl) (Nat.le_of_ble_eq_true rfl) dX0_init_47 (fun q8 cA H hK1 hP hD hS => ?_)
  have ecA : cA = dB := rs_same 0 rfl hK1
  rw [ecA] at hP hD
  clear hK1 ecA
  have hP : va_P D rs_cl [(h0, .inr (0, [.int 0, .ref q1, .int 0, .ref q3, .ref q4, .int 0, .ref q6, .ref q7, .null, .null, .int 0, .null, .int 0])), (q1, .inl (dB, 21, .inl (fun _ => 0))), (q3, .inl (dB, 21, .inl (fun _ => 0))), (q4, .inl (dB, 84, .inl (fun _ => 0))), (q6, .inl (dB, 48, .inl (fun _ => 0))), (q7, .inl (dB, 48, .inl (fun _ => 0))), (q8, .inl (dB, 96, .inl (fun _ => 0)))] H := hP
  have hD : va_D A [(h0, .inr (0, [.int 0, .ref q1, .int 0, .ref q3, .ref q4, .int 0, .ref q6, .ref q7, .null, .null, .int 0, .null, .int 0])), (q1, .inl (dB, 21, .inl (fun _ => 0))), (q3, .inl (dB, 21, .inl (fun _ => 0))), (q4, .inl (dB, 84, .inl (fun _ => 0))), (q6, .inl (dB, 48, .inl (fun _ => 0))), (q7, .inl (dB, 48, .inl (fun _ => 0))), (q8, .inl (dB, 96, .inl (fun _ => 0)))] := hD
  refine W.widen (k := 6) (n := 318) (Nat.le_of_ble_eq_true rfl) (Nat.le_of_ble_eq_true rfl) ?_
  refine va_putF (D := D) (ci := 0) (v := .ref q8) (ty := .array .byte) (C := RX0) (T := TX0) (N := 13) hx hb hts in_X0 tyX0 tyX0_ok nmX0 hown hK hP hD hS 0 rfl rfl 8 (by decide) (hts _ q34) (fun _ h9 => h9) rfl hin rfl (by decide +kernel) rfl rfl (Nat.le_of_ble_eq_true rfl) dX0_init_49 (fun H locs hP hD hS => ?_)
  have hP : va_P D rs_cl [(h0, .inr (0, [.int 0, .ref q1, .int 0, .ref q3, .ref q4, .int 0, .ref q6, .ref q7, .ref q8, .null, .int 0, .null, .int 0])), (q1, .inl (dB, 21, .inl (fun _ => 0))), (q3, .inl (dB, 21, .inl (fun _ => 0))), (q4, .inl (dB, 84, .inl (fun _ => 0))), (q6, .inl (dB, 48, .inl (fun _ => 0))), (q7, .inl (dB, 48, .inl (fun _ => 0))), (q8, .inl (dB, 96, .inl (fun _ => 0)))] H := hP
  have hD : va_D A [(h0, .inr (0, [.int 0, .ref q1, .int 0, .ref q3, .ref q4, .int 0, .ref q6, .ref q7, .ref q8, .null, .int 0, .null, .int 0])), (q1, .inl (dB, 21, .inl (fun _ => 0))), (q3, .inl (dB, 21, .inl (fun _ => 0))), (q4, .inl (dB, 84, .inl (fun _ => 0))), (q6, .inl (dB, 48, .inl (fun _ => 0))), (q7, .inl (dB, 48, .inl (fun _ => 0))), (q8, .inl (dB, 96, .inl (fun _ => 0)))] := hD
  refine lv_aload_n hx hb dX0_init_52 rfl (lv_at hl 0 rfl) ?_
  refine lv_bipush (v := nI 48) hx hb dX0_init_53 (by decide) ?_
  refine va_newa (D := D) (atype := .int) (ty := .int) (N' := 48) (a0 := (48, .inl (fun _ => 0))) hx hb (hts _ q67) rfl hK hP hD hS hA (fun _ => rfl) (nI_pos (by decide)) (nI_clamp (by decide)) (Nat.le_of_ble_eq_true rfl) (Nat.le_of_ble_eq_true rfl) (Nat.le_of_ble_eq_true rfl) dX0_init_55 (fun q9 cA H hK1 hP hD hS => ?_)
  have ecA : cA = dI := rs_sameI 1 rfl hK1
  rw [ecA] at hP hD
  clear hK1 ecA
  have hP : va_P D rs_cl [(h0, .inr (0, [.int 0, .ref q1, .int 0, .ref q3, .ref q4, .int 0, .ref q6, .ref q7, .ref q8, .null, .int 0, .null, .int 0])), (q1, .inl (dB, 21, .inl (fun _ => 0))), (q3, .inl (dB, 21, .inl (fun _ => 0))), (q4, .inl (dB, 84, .inl (fun _ => 0))), (q6, .inl (dB, 48, .inl (fun _ => 0))), (q7, .inl (dB, 48, .inl (fun _ => 0))), (q8, .inl (dB, 96, .inl (fun _ => 0))), (q9, .inl (dI, 48, .inl (fun _ => 0)))] H := hP
  have hD : va_D A [(h0, .inr (0, [.int 0, .ref q1, .int 0, .ref q3, .ref q4, .int 0, .ref q6, .ref q7, .ref q8, .null, .int 0, .null, .int 0])), (q1, .inl (dB, 21, .inl (fun _ => 0))), (q3, .inl (dB, 21, .inl (fun _ => 0))), (q4, .inl (dB, 84, .inl (fun _ => 0))), (q6, .inl (dB, 48, .inl (fun _ => 0))), (q7, .inl (dB, 48, .inl (fun _ => 0))), (q8, .inl (dB, 96, .inl (fun _ => 0))), (q9, .inl (dI, 48, .inl (fun _ => 0)))] := hD
  refine W.widen (k := 7) (n := 366) (Nat.le_of_ble_eq_true rfl) (Nat.le_of_ble_eq_true rfl) ?_
  refine va_putF (D := D) (ci := 0) (v := .ref q9) (ty := .array .int) (C := RX0) (T := TX0) (N := 13) hx hb hts in_X0 tyX0 tyX0_ok nmX0 hown hK hP hD hS 0 rfl rfl 9 (by decide) (hts _ q35) (fun _ h9 => h9) rfl hin rfl (by decide +kernel) rfl rfl (Nat.le_of_ble_eq_true rfl) dX0_init_57 (fun H locs hP hD hS => ?_)
  have hP : va_P D rs_cl [(h0, .inr (0, [.int 0, .ref q1, .int 0, .ref q3, .ref q4, .int 0, .ref q6, .ref q7, .ref q8, .ref q9, .int 0, .null, .int 0])), (q1, .inl (dB, 21, .inl (fun _ => 0))), (q3, .inl (dB, 21, .inl (fun _ => 0))), (q4, .inl (dB, 84, .inl (fun _ => 0))), (q6, .inl (dB, 48, .inl (fun _ => 0))), (q7, .inl (dB, 48, .inl (fun _ => 0))), (q8, .inl (dB, 96, .inl (fun _ => 0))), (q9, .inl (dI, 48, .inl (fun _ => 0)))] H := hP
  have hD : va_D A [(h0, .inr (0, [.int 0, .ref q1, .int 0, .ref q3, .ref q4, .int 0, .ref q6, .ref q7, .ref q8, .ref q9, .int 0, .null, .int 0])), (q1, .inl (dB, 21, .inl (fun _ => 0))), (q3, .inl (dB, 21, .inl (fun _ => 0))), (q4, .inl (dB, 84, .inl (fun _ => 0))), (q6, .inl (dB, 48, .inl (fun _ => 0))), (q7, .inl (dB, 48, .inl (fun _ => 0))), (q8, .inl (dB, 96, .inl (fun _ => 0))), (q9, .inl (dI, 48, .inl (fun _ => 0)))] := hD
  refine lv_aload_n hx hb dX0_init_60 rfl (lv_at hl 0 rfl) ?_
  refine lv_iconst (v := nI 4) hx hb dX0_init_61 (by decide) ?_
  refine va_newa (D := D) (atype := .byte) (ty := .byte) (N' := 4) (a0 := (4, .inl (fun _ => 0))) hx hb (hts _ q66) rfl hK hP hD hS hA (fun _ => rfl) (nI_pos (by decide)) (nI_clamp (by decide)) (Nat.le_of_ble_eq_true rfl) (Nat.le_of_ble_eq_true rfl) (Nat.le_of_ble_eq_true rfl) dX0_init_62 (fun q11 cA H hK1 hP hD hS => ?_)
  have ecA : cA = dB := rs_same 0 rfl hK1
  rw [ecA] at hP hD
  clear hK1 ecA
  have hP : va_P D rs_cl [(h0, .inr (0, [.int 0, .ref q1, .int 0, .ref q3, .ref q4, .int 0, .ref q6, .ref q7, .ref q8, .ref q9, .int 0, .null, .int 0])), (q1, .inl (dB, 21, .inl (fun _ => 0))), (q3, .inl (dB, 21, .inl (fun _ => 0))), (q4, .inl (dB, 84, .inl (fun _ => 0))), (q6, .inl (dB, 48, .inl (fun _ => 0))), (q7, .inl (dB, 48, .inl (fun _ => 0))), (q8, .inl (dB, 96, .inl (fun _ => 0))), (q9, .inl (dI, 48, .inl (fun _ => 0))), (q11, .inl (dB, 4, .inl (fun _ => 0)))] H := hP
  have hD : va_D A [(h0, .inr (0, [.int 0, .ref q1, .int 0, .ref q3, .ref q4, .int 0, .ref q6, .ref q7, .ref q8, .ref q9, .int 0, .null, .int 0])), (q1, .inl (dB, 21, .inl (fun _ => 0))), (q3, .inl (dB, 21, .inl (fun _ => 0))), (q4, .inl (dB, 84, .inl (fun _ => 0))), (q6, .inl (dB, 48, .inl (fun _ => 0))), (q7, .inl (dB, 48, .inl (fun _ => 0))), (q8, .inl (dB, 96, .inl (fun _ => 0))), (q9, .inl (dI, 48, .inl (fun _ => 0))), (q11, .inl (dB, 4, .inl (fun _ => 0)))] := hD
  refine W.widen (k := 8) (n := 370) (Nat.le_of_ble_eq_true rfl) (Nat.le_of_ble_eq_true rfl) ?_
  refine va_putF (D := D) (ci := 0) (v := .ref q11) (ty := .array .byte) (C := RX0) (T := TX0) (N := 13) hx hb hts in_X0 tyX0 tyX0_ok nmX0 hown hK hP hD hS 0 rfl rfl 11 (by decide) (hts _ q37) (fun _ h9 => h9) rfl hin rfl (by decide +kernel) rfl rfl (Nat.le_of_ble_eq_true rfl) dX0_init_64 (fun H locs hP hD hS => ?_)
  have hP : va_P D rs_cl [(h0, .inr (0, [.int 0, .ref q1, .int 0, .ref q3, .ref q4, .int 0, .ref q6, .ref q7, .ref q8, .ref q9, .int 0, .ref q11, .int 0])), (q1, .inl (dB, 21, .inl (fun _ => 0))), (q3, .inl (dB, 21, .inl (fun _ => 0))), (q4, .inl (dB, 84, .inl (fun _ => 0))), (q6, .inl (dB, 48, .inl (fun _ => 0))), (q7, .inl (dB, 48, .inl (fun _ => 0))), (q8, .inl (dB, 96, .inl (fun _ => 0))), (q9, .inl (dI, 48, .inl (fun _ => 0))), (q11, .inl (dB, 4, .inl (fun _ => 0)))] H := hP
  have hD : va_D A [(h0, .inr (0, [.int 0, .ref q1, .int 0, .ref q3, .ref q4, .int 0, .ref q6, .ref q7, .ref q8, .ref q9, .int 0, .ref q11, .int 0])), (q1, .inl (dB, 21, .inl (fun _ => 0))), (q3, .inl (dB, 21, .inl (fun _ => 0))), (q4, .inl (dB, 84, .inl (fun _ => 0))), (q6, .inl (dB, 48, .inl (fun _ => 0))), (q7, .inl (dB, 48, .inl (fun _ => 0))), (q8, .inl (dB, 96, .inl (fun _ => 0))), (q9, .inl (dI, 48, .inl (fun _ => 0))), (q11, .inl (dB, 4, .inl (fun _ => 0)))] := hD
  exact W.vret hx hb hr (fun t ht hW => ⟨⟨(fun k => [h0, 0, q1, 0, q3, q4, 0, q6, q7, q8, q9, 0, q11, 0].getD k 0), rfl, rfl, by rw [ht]; exact hP, va_K.moved hW.alike hK, hD⟩, hS.F ht⟩) hS.2.2 dX0_init_67
abbrev rm_X1_init : Room := { frames := 1, cells := 5, slots := 107, locals := 12 }
abbrev rs_nM (h0 : Nat) : va_W := [(h0, .inr (1, [.null, .null, .int 0, .int 0, .int 0, .null, .int 0, .null, .null]))]
set_option maxHeartbeats 8000000 in
set_option maxRecDepth 100000 in
theorem ct_X1_init (l : Launch) (D : va_G) (dI : ClassId) (h0 sz : Nat) : Met l yX1_init (ws_ yX1_init cX1_init 1 none) rm_X1_init (va_Pc [.ref h0] (fun U => U.heap.size = sz ∧ va_P D rs_cl (rs_nM h0) U.heap ∧ va_K D rs_cl [(dI, .int)] U ∧ va_D (fun _ => True) (rs_nM h0))) (va_Qv (fun a : Nat → Nat => a 0 = h0) (fun a t => va_P D rs_cl (rs_wM dI a rs_S0) t.heap ∧ va_K D rs_cl [(dI, .int)] t ∧ va_D (va_A (rs_nM h0) sz) (rs_wM dI a rs_S0)) (va_A (rs_nM h0) sz)) 5 107 (va_A (rs_nM h0) sz) := by
  refine Met.ofW (cc := cX1_init) (maxL := 1) (ret := none) (by decide) rfl ?_
  intro p e s m args below meth c s₁ B hml hv
  obtain ⟨rfl, hsz, hP, hK, hD0⟩ := hv
  have hx := B.exec
  have hb := B.bytes
  have hr := B.returns
  have hts := atoms_spec (ws := ws_ yX1_init cX1_init 1 none) B.pre
  have hts : ∀ w ∈ lw_all, w.before _ s = true := fun w h => hts w (List.mem_cons_of_mem _ h)
  have hown : s.vm.findClass RX1 = some m.cls := findClass_of_methodNamed B.named
  have hlocks := B.notSynchronized
  have hin : meth.name = "<init>" := (name_of_methodNamed B.named B.method).1
  subst hsz
  have hD := hD0.self (sz := s.heap.size)
  generalize hAe : va_A (rs_nM h0) s.heap.size = A at hD ⊢
  have hA : ∀ q : Nat, s.heap.size ≤ q → A q := fun q h => by rw [← hAe]; exact Or.inr h
  have hS : va_S A s.heap s.heap [] := va_S.rf
  have hl := lv_entry ([.ref h0]) (n := 1) (Nat.le_of_ble_eq_true rfl)
  rw [lg_entry_eq]
  generalize (lg_sl ([.ref h0]) ++ List.replicate (1 - (lg_sl ([.ref h0])).length) Slot.unset).toArray = ls at hl ⊢
  have hl : lv_has ls 1 [(0, .ref h0)] := hl
  refine lv_aload_n hx hb dX1_init_0 rfl (lv_at hl 0 rfl) ?_
  refine W.objInit hx hb hown (hts _ q176) (hts _ q24) (hts _ q25) rfl (by rw [hml]; exact hl.1) rfl dX1_init_1 (Nat.le_of_ble_eq_true rfl) (Nat.le_of_ble_eq_true rfl) ?_
  refine W.eq (g2 := F0 m 4 ls []) rfl ?_
  refine lv_aload_n hx hb dX1_init_4 rfl (lv_at hl 0 rfl) ?_
  refine lv_bipush (v := nI 42) hx hb dX1_init_5 (by decide) ?_
  refine va_newa (D := D) (atype := .int) (ty := .int) (N' := 42) (a0 := (42, .inl (fun _ => 0))) hx hb (hts _ q67) rfl hK hP hD hS hA (fun _ => rfl) (nI_pos (by decide)) (nI_clamp (by decide)) (Nat.le_of_ble_eq_true rfl) (Nat.le_of_ble_eq_true rfl) (Nat.le_of_ble_eq_true rfl) dX1_init_7 (fun q0 cA H hK1 hP hD hS => ?_)
  have ecA : cA = dI := rs_sameI 0 rfl hK1
  rw [ecA] at hP hD
  clear hK1 ecA
  have hP : va_P D rs_cl [(h0, .inr (1, [.null, .null, .int 0, .int 0, .int 0, .null, .int 0, .null, .null])), (q0, .inl (dI, 42, .inl (fun _ => 0)))] H := hP
  have hD : va_D A [(h0, .inr (1, [.null, .null, .int 0, .int 0, .int 0, .null, .int 0, .null, .null])), (q0, .inl (dI, 42, .inl (fun _ => 0)))] := hD
  refine W.widen (k := 1) (n := 42) (Nat.le_of_ble_eq_true rfl) (Nat.le_of_ble_eq_true rfl) ?_
  refine va_put (D := D) (ci := 1) (v := .ref q0) (ty := .array .int) (C := RX1) (T := TX1) (N := 9) hx hb hts in_X1 tyX1 tyX1_ok nmX1 hown hK hP hD hS 0 rfl rfl 0 (by decide) (hts _ q177) (fun _ h9 => h9) rfl (by decide +kernel) rfl rfl (Nat.le_of_ble_eq_true rfl) dX1_init_9 (fun H locs hP hD hS => ?_)
  have hP : va_P D rs_cl [(h0, .inr (1, [.ref q0, .null, .int 0, .int 0, .int 0, .null, .int 0, .null, .null])), (q0, .inl (dI, 42, .inl (fun _ => 0)))] H := hP
  have hD : va_D A [(h0, .inr (1, [.ref q0, .null, .int 0, .int 0, .int 0, .null, .int 0, .null, .null])), (q0, .inl (dI, 42, .inl (fun _ => 0)))] := hD
  refine lv_aload_n hx hb dX1_init_12 rfl (lv_at hl 0 rfl) ?_
  refine lv_iconst (v := nI 2) hx hb dX1_init_13 (by decide) ?_
  refine va_newa (D := D) (atype := .int) (ty := .int) (N' := 2) (a0 := (2, .inl (fun _ => 0))) hx hb (hts _ q67) rfl hK hP hD hS hA (fun _ => rfl) (nI_pos (by decide)) (nI_clamp (by decide)) (Nat.le_of_ble_eq_true rfl) (Nat.le_of_ble_eq_true rfl) (Nat.le_of_ble_eq_true rfl) dX1_init_14 (fun q1 cA H hK1 hP hD hS => ?_)
  have ecA : cA = dI := rs_sameI 0 rfl hK1
  rw [ecA] at hP hD
  clear hK1 ecA
  have hP : va_P D rs_cl [(h0, .inr (1, [.ref q0, .null, .int 0, .int 0, .int 0, .null, .int 0, .null, .null])), (q0, .inl (dI, 42, .inl (fun _ => 0))), (q1, .inl (dI, 2, .inl (fun _ => 0)))] H := hP
  have hD : va_D A [(h0, .inr (1, [.ref q0, .null, .int 0, .int 0, .int 0, .null, .int 0, .null, .null])), (q0, .inl (dI, 42, .inl (fun _ => 0))), (q1, .inl (dI, 2, .inl (fun _ => 0)))] := hD
  refine W.widen (k := 2) (n := 44) (Nat.le_of_ble_eq_true rfl) (Nat.le_of_ble_eq_true rfl) ?_
  refine va_put (D := D) (ci := 1) (v := .ref q1) (ty := .array .int) (C := RX1) (T := TX1) (N := 9) hx hb hts in_X1 tyX1 tyX1_ok nmX1 hown hK hP hD hS 0 rfl rfl 1 (by decide) (hts _ q178) (fun _ h9 => h9) rfl (by decide +kernel) rfl rfl (Nat.le_of_ble_eq_true rfl) dX1_init_16 (fun H locs hP hD hS => ?_)
  have hP : va_P D rs_cl [(h0, .inr (1, [.ref q0, .ref q1, .int 0, .int 0, .int 0, .null, .int 0, .null, .null])), (q0, .inl (dI, 42, .inl (fun _ => 0))), (q1, .inl (dI, 2, .inl (fun _ => 0)))] H := hP
  have hD : va_D A [(h0, .inr (1, [.ref q0, .ref q1, .int 0, .int 0, .int 0, .null, .int 0, .null, .null])), (q0, .inl (dI, 42, .inl (fun _ => 0))), (q1, .inl (dI, 2, .inl (fun _ => 0)))] := hD
  refine lv_aload_n hx hb dX1_init_19 rfl (lv_at hl 0 rfl) ?_
  refine lv_bipush (v := nI 21) hx hb dX1_init_20 (by decide) ?_
  refine va_newa (D := D) (atype := .int) (ty := .int) (N' := 21) (a0 := (21, .inl (fun _ => 0))) hx hb (hts _ q67) rfl hK hP hD hS hA (fun _ => rfl) (nI_pos (by decide)) (nI_clamp (by decide)) (Nat.le_of_ble_eq_true rfl) (Nat.le_of_ble_eq_true rfl) (Nat.le_of_ble_eq_true rfl) dX1_init_22 (fun q5 cA H hK1 hP hD hS => ?_)
  have ecA : cA = dI := rs_sameI 0 rfl hK1
  rw [ecA] at hP hD
  clear hK1 ecA
  have hP : va_P D rs_cl [(h0, .inr (1, [.ref q0, .ref q1, .int 0, .int 0, .int 0, .null, .int 0, .null, .null])), (q0, .inl (dI, 42, .inl (fun _ => 0))), (q1, .inl (dI, 2, .inl (fun _ => 0))), (q5, .inl (dI, 21, .inl (fun _ => 0)))] H := hP
  have hD : va_D A [(h0, .inr (1, [.ref q0, .ref q1, .int 0, .int 0, .int 0, .null, .int 0, .null, .null])), (q0, .inl (dI, 42, .inl (fun _ => 0))), (q1, .inl (dI, 2, .inl (fun _ => 0))), (q5, .inl (dI, 21, .inl (fun _ => 0)))] := hD
  refine W.widen (k := 3) (n := 65) (Nat.le_of_ble_eq_true rfl) (Nat.le_of_ble_eq_true rfl) ?_
  refine va_put (D := D) (ci := 1) (v := .ref q5) (ty := .array .int) (C := RX1) (T := TX1) (N := 9) hx hb hts in_X1 tyX1 tyX1_ok nmX1 hown hK hP hD hS 0 rfl rfl 5 (by decide) (hts _ q182) (fun _ h9 => h9) rfl (by decide +kernel) rfl rfl (Nat.le_of_ble_eq_true rfl) dX1_init_24 (fun H locs hP hD hS => ?_)
  have hP : va_P D rs_cl [(h0, .inr (1, [.ref q0, .ref q1, .int 0, .int 0, .int 0, .ref q5, .int 0, .null, .null])), (q0, .inl (dI, 42, .inl (fun _ => 0))), (q1, .inl (dI, 2, .inl (fun _ => 0))), (q5, .inl (dI, 21, .inl (fun _ => 0)))] H := hP
  have hD : va_D A [(h0, .inr (1, [.ref q0, .ref q1, .int 0, .int 0, .int 0, .ref q5, .int 0, .null, .null])), (q0, .inl (dI, 42, .inl (fun _ => 0))), (q1, .inl (dI, 2, .inl (fun _ => 0))), (q5, .inl (dI, 21, .inl (fun _ => 0)))] := hD
  refine lv_aload_n hx hb dX1_init_27 rfl (lv_at hl 0 rfl) ?_
  refine lv_bipush (v := nI 21) hx hb dX1_init_28 (by decide) ?_
  refine va_newa (D := D) (atype := .int) (ty := .int) (N' := 21) (a0 := (21, .inl (fun _ => 0))) hx hb (hts _ q67) rfl hK hP hD hS hA (fun _ => rfl) (nI_pos (by decide)) (nI_clamp (by decide)) (Nat.le_of_ble_eq_true rfl) (Nat.le_of_ble_eq_true rfl) (Nat.le_of_ble_eq_true rfl) dX1_init_30 (fun q7 cA H hK1 hP hD hS => ?_)
  have ecA : cA = dI := rs_sameI 0 rfl hK1
  rw [ecA] at hP hD
  clear hK1 ecA
  have hP : va_P D rs_cl [(h0, .inr (1, [.ref q0, .ref q1, .int 0, .int 0, .int 0, .ref q5, .int 0, .null, .null])), (q0, .inl (dI, 42, .inl (fun _ => 0))), (q1, .inl (dI, 2, .inl (fun _ => 0))), (q5, .inl (dI, 21, .inl (fun _ => 0))), (q7, .inl (dI, 21, .inl (fun _ => 0)))] H := hP
  have hD : va_D A [(h0, .inr (1, [.ref q0, .ref q1, .int 0, .int 0, .int 0, .ref q5, .int 0, .null, .null])), (q0, .inl (dI, 42, .inl (fun _ => 0))), (q1, .inl (dI, 2, .inl (fun _ => 0))), (q5, .inl (dI, 21, .inl (fun _ => 0))), (q7, .inl (dI, 21, .inl (fun _ => 0)))] := hD
  refine W.widen (k := 4) (n := 86) (Nat.le_of_ble_eq_true rfl) (Nat.le_of_ble_eq_true rfl) ?_
  refine va_put (D := D) (ci := 1) (v := .ref q7) (ty := .array .int) (C := RX1) (T := TX1) (N := 9) hx hb hts in_X1 tyX1 tyX1_ok nmX1 hown hK hP hD hS 0 rfl rfl 7 (by decide) (hts _ q184) (fun _ h9 => h9) rfl (by decide +kernel) rfl rfl (Nat.le_of_ble_eq_true rfl) dX1_init_32 (fun H locs hP hD hS => ?_)
  have hP : va_P D rs_cl [(h0, .inr (1, [.ref q0, .ref q1, .int 0, .int 0, .int 0, .ref q5, .int 0, .ref q7, .null])), (q0, .inl (dI, 42, .inl (fun _ => 0))), (q1, .inl (dI, 2, .inl (fun _ => 0))), (q5, .inl (dI, 21, .inl (fun _ => 0))), (q7, .inl (dI, 21, .inl (fun _ => 0)))] H := hP
  have hD : va_D A [(h0, .inr (1, [.ref q0, .ref q1, .int 0, .int 0, .int 0, .ref q5, .int 0, .ref q7, .null])), (q0, .inl (dI, 42, .inl (fun _ => 0))), (q1, .inl (dI, 2, .inl (fun _ => 0))), (q5, .inl (dI, 21, .inl (fun _ => 0))), (q7, .inl (dI, 21, .inl (fun _ => 0)))] := hD
  refine lv_aload_n hx hb dX1_init_35 rfl (lv_at hl 0 rfl) ?_
  refine lv_bipush (v := nI 21) hx hb dX1_init_36 (by decide) ?_
  refine va_newa (D := D) (atype := .int) (ty := .int) (N' := 21) (a0 := (21, .inl (fun _ => 0))) hx hb (hts _ q67) rfl hK hP hD hS hA (fun _ => rfl) (nI_pos (by decide)) (nI_clamp (by decide)) (Nat.le_of_ble_eq_true rfl) (Nat.le_of_ble_eq_true rfl) (Nat.le_of_ble_eq_true rfl) dX1_init_38 (fun q8 cA H hK1 hP hD hS => ?_)
  have ecA : cA = dI := rs_sameI 0 rfl hK1
  rw [ecA] at hP hD
  clear hK1 ecA
  have hP : va_P D rs_cl [(h0, .inr (1, [.ref q0, .ref q1, .int 0, .int 0, .int 0, .ref q5, .int 0, .ref q7, .null])), (q0, .inl (dI, 42, .inl (fun _ => 0))), (q1, .inl (dI, 2, .inl (fun _ => 0))), (q5, .inl (dI, 21, .inl (fun _ => 0))), (q7, .inl (dI, 21, .inl (fun _ => 0))), (q8, .inl (dI, 21, .inl (fun _ => 0)))] H := hP
  have hD : va_D A [(h0, .inr (1, [.ref q0, .ref q1, .int 0, .int 0, .int 0, .ref q5, .int 0, .ref q7, .null])), (q0, .inl (dI, 42, .inl (fun _ => 0))), (q1, .inl (dI, 2, .inl (fun _ => 0))), (q5, .inl (dI, 21, .inl (fun _ => 0))), (q7, .inl (dI, 21, .inl (fun _ => 0))), (q8, .inl (dI, 21, .inl (fun _ => 0)))] := hD
  refine W.widen (k := 5) (n := 107) (Nat.le_of_ble_eq_true rfl) (Nat.le_of_ble_eq_true rfl) ?_
  refine va_put (D := D) (ci := 1) (v := .ref q8) (ty := .array .int) (C := RX1) (T := TX1) (N := 9) hx hb hts in_X1 tyX1 tyX1_ok nmX1 hown hK hP hD hS 0 rfl rfl 8 (by decide) (hts _ q185) (fun _ h9 => h9) rfl (by decide +kernel) rfl rfl (Nat.le_of_ble_eq_true rfl) dX1_init_40 (fun H locs hP hD hS => ?_)
  have hP : va_P D rs_cl [(h0, .inr (1, [.ref q0, .ref q1, .int 0, .int 0, .int 0, .ref q5, .int 0, .ref q7, .ref q8])), (q0, .inl (dI, 42, .inl (fun _ => 0))), (q1, .inl (dI, 2, .inl (fun _ => 0))), (q5, .inl (dI, 21, .inl (fun _ => 0))), (q7, .inl (dI, 21, .inl (fun _ => 0))), (q8, .inl (dI, 21, .inl (fun _ => 0)))] H := hP
  have hD : va_D A [(h0, .inr (1, [.ref q0, .ref q1, .int 0, .int 0, .int 0, .ref q5, .int 0, .ref q7, .ref q8])), (q0, .inl (dI, 42, .inl (fun _ => 0))), (q1, .inl (dI, 2, .inl (fun _ => 0))), (q5, .inl (dI, 21, .inl (fun _ => 0))), (q7, .inl (dI, 21, .inl (fun _ => 0))), (q8, .inl (dI, 21, .inl (fun _ => 0)))] := hD
  exact W.vret hx hb hr (fun t ht hW => ⟨⟨(fun k => [h0, q0, q1, 0, 0, 0, q5, 0, q7, q8].getD k 0), rfl, rfl, by rw [ht]; exact hP, va_K.moved hW.alike hK, hD⟩, hS.F ht⟩) hS.2.2 dX1_init_43
end
section
/-! THE CLAIM OUT OF ONE WALK OF THE LAW'S BODY. Your part is whole_start (and what it stands on); all else here is the same for every law, but numbers. -/
def R_law : String := "RoleSessionsLaw"
def lw_P (b : Addr) (xs : List Int32) (args : Array Value) (s : State) : Prop := args = #[.ref b] ∧ s.IntsAt b xs ∧ xs.length ≤ 256 ∧ (Jvm.Cond.and given_1 narrow_1).before args s = true
def lw_Q (_ : Array Value) (s : State) (o : Outcome) (t : State) : Prop := o = .returned (some (.int 1)) ∧ Framed s o t [] 600000 7290000
def lw_Z (below : List Frame) (a : Array Value) (s : State) : State → Prop := fun t => ∃ o, t.status = .running ∧ Ended t below o ∧ lw_Q a s o t
/-- the law's own end, with 1 on the stack, nothing written that was there before, its room as the claim has it -/
theorem lw_ret {p : Program} {l : Launch} {e : Env} {s : State} {m : MethodId} {below : List Frame} {meth : Method} {c : Code} {b : Nat} (hx : p.tables.exec = Jvm.exec) (hb : c.code = code) (hr : meth.sig.returnType = ret) (hlocks : meth.locks = false) {pc : Nat} {H : Heap} {ls : Array Slot} (hdg : decode code pc = .ok (.ireturn, 1)) : W p l e room_1 s m #[Value.ref b] below meth c H [] 600000 7290000 (lw_Z below #[Value.ref b] s) (F0 m pc ls [.int 1]) := by
  intro T hT X
  obtain ⟨fs, hret, hrun, hended, hW, hframe⟩ := X.leave (v := some (.int 1)) (hlocks := hlocks) (fun h => by rw [hr] at h; cases h)
  have hmeth' : T.vm.method? m = some meth := X.method'
  refine ⟨T.setFrames fs, ?_, .returned (some (.int 1)), hrun, hended, rfl, ⟨_, rfl⟩, hW, hframe⟩
  jvm_step X.here [X.here.top, hx, hb, hdg, hmeth', hr, ret, narrow_b1]
  (try refine ⟨rfl, ?_⟩); (try refine ⟨rfl, ?_⟩)
  first | (intro acts; rw [hret _ acts rfl rfl rfl]) | rw [hret _ _ rfl rfl rfl]
  exact Steps.refl _
/-- what holds at the law's entry: the machine, the code, the tables' words (any of lw_tbl by 'hts w (by decide +kernel)'), the script of L ints xs at the cell b, what the Statement gives of the start (any of its parts by flat_of_before) -/
def lw_At (p : Program) (s : State) (m : MethodId) (meth : Method) (c : Code) (b L : Nat) (xs : Nat → Int32) : Prop :=
  p.tables.exec = Jvm.exec ∧ c.code = code ∧ meth.sig.returnType = ret ∧ c.maxLocals = 4 ∧ s.vm.findClass R_law = some m.cls ∧ (∀ w ∈ lw_tbl, w.before #[Value.ref b] s = true) ∧ va_X b L xs s s.heap ∧ b < s.heap.size ∧ meth.locks = false ∧ (Jvm.Cond.and given_1 narrow_1).before #[Value.ref b] s = true
end
section
/-! THE LAW: its rows over the two objects (a: the class's addresses, b: the reference's), its sixteen cases, its loop -/
abbrev rs_wL (dB dI : ClassId) (a b : Nat → Nat) (S : rs_St × rs_St) : va_W := rs_wX dB dI a S.1 ++ rs_wM dI b S.2
abbrev rs_GL (l : Launch) (D : va_G) (dB dI : ClassId) (a b : Nat → Nat) : rs_Gt (rs_St × rs_St) := (l, D, [(dB, .byte), (dI, .int)], rs_wL dB dI a b)
/-- the script of L ints xs at the cell z -/
def rs_Xx (E : rs_Ev) (z L : Nat) (xs : Nat → Int32) : Prop := match E with
  | (_, _, _, s, _, _, _, _, _, _, A, _, _, _) => va_X z L xs s s.heap ∧ z < s.heap.size ∧ ¬ A z
section RL
variable {σ : Type} {G : rs_Gt σ} {E : rs_Ev} {cc : ByteArray} {own : String} {n : Nat} {rm : Room} {pc : Nat} {lv : List (Nat × Value)} {st : List Value} {S : σ} {z L : Nat} {xs : Nat → Int32}
theorem rl_len (F : rs_Fx E cc own n rm) (X : rs_Xx E z L xs) (hd : decode cc pc = .ok (.arraylength, 1)) (k : rs_J G E (pc + 1) lv (.int (nI L) :: st) S) : rs_J G E pc lv (.ref z :: st) S := by
  obtain ⟨l, D, tys, w⟩ := G
  obtain ⟨p, e, R, s, m, args, below, meth, c, Q, A, nL, cells, slots⟩ := E
  obtain ⟨hx, hb, hml, rfl, hown, hts, rfl, hf⟩ := F
  obtain ⟨hX, hbl, hbA⟩ := X
  intro H locs ls hP hD hS hl
  exact va_slen hx hb hX hbl hbA hS hd (k H locs ls hP hD hS hl)
theorem rl_ld (F : rs_Fx E cc own n rm) (X : rs_Xx E z L xs) {i : Int32} {j : Nat} (hd : decode cc pc = .ok (.iaload, 1)) (hi : i = nI j) (hj : j < L) (hL : L < 2 ^ 31) (k : rs_J G E (pc + 1) lv (.int (xs j) :: st) S) : rs_J G E pc lv (.int i :: .ref z :: st) S := by
  obtain ⟨l, D, tys, w⟩ := G
  obtain ⟨p, e, R, s, m, args, below, meth, c, Q, A, nL, cells, slots⟩ := E
  obtain ⟨hx, hb, hml, rfl, hown, hts, rfl, hf⟩ := F
  obtain ⟨hX, hbl, hbA⟩ := X
  intro H locs ls hP hD hS hl
  subst hi
  have hc : (nI j).toNatClampNeg = j := nI_clamp (by omega)
  have h1 := k H locs ls hP hD hS hl
  rw [← hc] at h1
  exact va_sld hx hb hX hbl hbA hS (vp_in_nI hj hL) hd h1
theorem rl_tab (F : rs_Fx E cc own n rm) {dflt : Int} {offs : Array Int} {len k : Nat} {off : Int} {tgt : Nat} (hd : decode cc pc = .ok (.tableswitch dflt 0 15 offs, len)) (hk : k < 16) (ho : offs[k]? = some off) (ht : (pc : Int) + off = (tgt : Int)) (kk : rs_J G E tgt lv st S) : rs_J G E pc lv (.int (nI k) :: st) S := by
  obtain ⟨l, D, tys, w⟩ := G
  obtain ⟨p, e, R, s, m, args, below, meth, c, Q, A, nL, cells, slots⟩ := E
  obtain ⟨hx, hb, hml, rfl, hown, hts, rfl, hf⟩ := F
  intro H locs ls hP hD hS hl
  have e1 : (nI k).toInt = (k : Int) := nI_toInt (by omega)
  exact lv_tableIn hx hb hd (by rw [e1]; omega) (by rw [e1]; omega) (by rw [e1]; simpa using ho) ht (kk H locs ls hP hD hS hl)
end RL
section RLC
variable {l : Launch} {D : va_G} {dB dI : ClassId} {a b : Nat → Nat} {E : rs_Ev} {cc : ByteArray} {own : String} {n : Nat} {rm : Room} {pc : Nat} {lv : List (Nat × Value)} {st : List Value} {S : rs_St × rs_St}
variable {y : MethodName} {cy : ByteArray} {mL : Nat} {ret : Option FieldType} {rm' : Room} {As : List Value} {idx na : Nat} {rest : List Value} {v1 v2 v3 : Value}
set_option maxHeartbeats 2000000 in
theorem rl_cX (F : rs_Fx E cc own n rm) (K : rs_Kx (rs_GL l D dB dI a b) E) {post : Int32 → rs_St → Prop} (hM : rs_CT (rs_GX l D dB dI a) y cy mL ret rm' (.ref (a 0) :: As) S.1 post) (hw : GoodIn lw_all (wsV own idx RX0 y (ws_ y cy mL ret))) (hy : y.cls = RX0 ∧ y.cls ≠ "java/lang/invoke/MethodHandle" ∧ y.cls ≠ "java/lang/invoke/VarHandle" ∧ (parseMethodDescriptor y.desc).map (fun d => d.parameters.length) = some na) (hr0 : rm'.cells = 0 ∧ rm'.slots = 0) (hR : rm'.frames + 1 ≤ rm.frames ∧ 8 + (mL + 11) + rm'.locals ≤ rm.locals) (hna : As.length = na) (hst : st = As.reverse ++ .ref (a 0) :: rest) (hcat : (rest.map fun v => v.category).sum ≤ 8) (hd : decode cc pc = .ok (.invokevirtual idx, 3))
    (k : ∀ (r : Int32) (S' : rs_St), post r S' → rs_J (rs_GL l D dB dI a b) E (pc + 3) lv (.int r :: rest) (S', S.2)) : rs_J (rs_GL l D dB dI a b) E pc lv st S := by
  obtain ⟨p, e, R, s, m, args, below, meth, c, Q, A, nL, cells, slots⟩ := E
  obtain ⟨hx, hb, hml, rfl, hown, hts, rfl, hf⟩ := F
  obtain ⟨hK, hA⟩ := K
  obtain ⟨SX, SM⟩ := S
  intro H locs ls hP hD hS hl
  have hPc := hP.sub (ws' := rs_wX dB dI a SX) [0, 1, 2, 3, 4, 5, 6, 7, 8] rfl
  have hDc := hD.sub (ws' := rs_wX dB dI a SX) [0, 1, 2, 3, 4, 5, 6, 7, 8] (by decide) rfl
  have hKc := hK.sub (tys' := [(dB, .byte), (dI, .int)]) [0, 1] rfl
  have hFc := va_free (wc := rs_wX dB dI a SX) hD hS hA [0, 1, 2, 3, 4, 5, 6, 7, 8] rfl
  refine va_calli (va_runV (As := As) (rest := rest) ⟨hx, hb, hml, hown, hts⟩ (hM H.size) (cwV na hts hw rfl hr0.1 hr0.2 hy hR) ⟨fun a U g mk q => by obtain ⟨q0, q1, qP, qK, qD⟩ := q; exact ⟨q0, q1, qP, va_K.moved (u := U) (U := U.calling g mk a) (Vm.Alike.refl U.vm) qK, qD⟩, va_recv hKc hPc (ci := 0) (q0 := 0) rfl rfl, fun U hU hW => ⟨rfl, by rw [hU], by rw [hU]; exact hPc, va_K.moved hW.alike hKc, hDc.weaken (fun _ _ _ _ => trivial)⟩⟩ rfl hna hl.1 hst (lv_room hcat) hd hf) hS (fun q _ h => hFc q h) hFc (fun r u t H1 locs1 ht hvm hp hB hz1 hk1 hS1 => ?_)
  obtain ⟨hP1, hK1, hD1⟩ := hB
  rw [ht] at hP1
  obtain ⟨hP2, hD2⟩ := va_join (wr := rs_wM dI b SM) (w1 := rs_wX dB dI a u) hP hD [0, 1, 2, 3, 4, 5, 6, 7, 8] [9, 10, 11, 12, 13, 14] rfl rfl (by decide) (by decide) hk1 hFc hP1 hD1
  exact k r u hp H1 locs1 ls (hP2.sub [6, 7, 8, 9, 10, 11, 12, 13, 14, 0, 1, 2, 3, 4, 5] rfl) (hD2.sub [6, 7, 8, 9, 10, 11, 12, 13, 14, 0, 1, 2, 3, 4, 5] (by decide) rfl) hS1 hl
theorem rl_cX0 (F : rs_Fx E cc own n rm) (K : rs_Kx (rs_GL l D dB dI a b) E) {post : Int32 → rs_St → Prop} (hM : rs_CT (rs_GX l D dB dI a) y cy mL ret rm' [.ref (a 0)] S.1 post) (hw : GoodIn lw_all (wsV own idx RX0 y (ws_ y cy mL ret))) (hy : y.cls = RX0 ∧ y.cls ≠ "java/lang/invoke/MethodHandle" ∧ y.cls ≠ "java/lang/invoke/VarHandle" ∧ (parseMethodDescriptor y.desc).map (fun d => d.parameters.length) = some 0) (hr0 : rm'.cells = 0 ∧ rm'.slots = 0) (hR : rm'.frames + 1 ≤ rm.frames ∧ 8 + (mL + 11) + rm'.locals ≤ rm.locals) (hcat : (rest.map fun v => v.category).sum ≤ 8) (hd : decode cc pc = .ok (.invokevirtual idx, 3)) (k : ∀ (r : Int32) (S' : rs_St), post r S' → rs_J (rs_GL l D dB dI a b) E (pc + 3) lv (.int r :: rest) (S', S.2)) : rs_J (rs_GL l D dB dI a b) E pc lv (.ref (a 0) :: rest) S := rl_cX (As := []) (rest := rest) F K hM hw hy hr0 hR rfl rfl hcat hd k
theorem rl_cX1 (F : rs_Fx E cc own n rm) (K : rs_Kx (rs_GL l D dB dI a b) E) {post : Int32 → rs_St → Prop} (hM : rs_CT (rs_GX l D dB dI a) y cy mL ret rm' [.ref (a 0), v1] S.1 post) (hw : GoodIn lw_all (wsV own idx RX0 y (ws_ y cy mL ret))) (hy : y.cls = RX0 ∧ y.cls ≠ "java/lang/invoke/MethodHandle" ∧ y.cls ≠ "java/lang/invoke/VarHandle" ∧ (parseMethodDescriptor y.desc).map (fun d => d.parameters.length) = some 1) (hr0 : rm'.cells = 0 ∧ rm'.slots = 0) (hR : rm'.frames + 1 ≤ rm.frames ∧ 8 + (mL + 11) + rm'.locals ≤ rm.locals) (hcat : (rest.map fun v => v.category).sum ≤ 8) (hd : decode cc pc = .ok (.invokevirtual idx, 3)) (k : ∀ (r : Int32) (S' : rs_St), post r S' → rs_J (rs_GL l D dB dI a b) E (pc + 3) lv (.int r :: rest) (S', S.2)) : rs_J (rs_GL l D dB dI a b) E pc lv (v1 :: .ref (a 0) :: rest) S := rl_cX (As := [v1]) (rest := rest) F K hM hw hy hr0 hR rfl rfl hcat hd k
theorem rl_cX3 (F : rs_Fx E cc own n rm) (K : rs_Kx (rs_GL l D dB dI a b) E) {post : Int32 → rs_St → Prop} (hM : rs_CT (rs_GX l D dB dI a) y cy mL ret rm' [.ref (a 0), v1, v2, v3] S.1 post) (hw : GoodIn lw_all (wsV own idx RX0 y (ws_ y cy mL ret))) (hy : y.cls = RX0 ∧ y.cls ≠ "java/lang/invoke/MethodHandle" ∧ y.cls ≠ "java/lang/invoke/VarHandle" ∧ (parseMethodDescriptor y.desc).map (fun d => d.parameters.length) = some 3) (hr0 : rm'.cells = 0 ∧ rm'.slots = 0) (hR : rm'.frames + 1 ≤ rm.frames ∧ 8 + (mL + 11) + rm'.locals ≤ rm.locals) (hcat : (rest.map fun v => v.category).sum ≤ 8) (hd : decode cc pc = .ok (.invokevirtual idx, 3)) (k : ∀ (r : Int32) (S' : rs_St), post r S' → rs_J (rs_GL l D dB dI a b) E (pc + 3) lv (.int r :: rest) (S', S.2)) : rs_J (rs_GL l D dB dI a b) E pc lv (v3 :: v2 :: v1 :: .ref (a 0) :: rest) S := rl_cX (As := [v1, v2, v3]) (rest := rest) F K hM hw hy hr0 hR rfl rfl hcat hd k
set_option maxHeartbeats 2000000 in
theorem rl_cM (F : rs_Fx E cc own n rm) (K : rs_Kx (rs_GL l D dB dI a b) E) {post : Int32 → rs_St → Prop} (hM : rs_CT (rs_GM l D dI b) y cy mL ret rm' (.ref (b 0) :: As) S.2 post) (hw : GoodIn lw_all (wsV own idx RX1 y (ws_ y cy mL ret))) (hy : y.cls = RX1 ∧ y.cls ≠ "java/lang/invoke/MethodHandle" ∧ y.cls ≠ "java/lang/invoke/VarHandle" ∧ (parseMethodDescriptor y.desc).map (fun d => d.parameters.length) = some na) (hr0 : rm'.cells = 0 ∧ rm'.slots = 0) (hR : rm'.frames + 1 ≤ rm.frames ∧ 8 + (mL + 11) + rm'.locals ≤ rm.locals) (hna : As.length = na) (hst : st = As.reverse ++ .ref (b 0) :: rest) (hcat : (rest.map fun v => v.category).sum ≤ 8) (hd : decode cc pc = .ok (.invokevirtual idx, 3))
    (k : ∀ (r : Int32) (S' : rs_St), post r S' → rs_J (rs_GL l D dB dI a b) E (pc + 3) lv (.int r :: rest) (S.1, S')) : rs_J (rs_GL l D dB dI a b) E pc lv st S := by
  obtain ⟨p, e, R, s, m, args, below, meth, c, Q, A, nL, cells, slots⟩ := E
  obtain ⟨hx, hb, hml, rfl, hown, hts, rfl, hf⟩ := F
  obtain ⟨hK, hA⟩ := K
  obtain ⟨SX, SM⟩ := S
  intro H locs ls hP hD hS hl
  have hPc := hP.sub (ws' := rs_wM dI b SM) [9, 10, 11, 12, 13, 14] rfl
  have hDc := hD.sub (ws' := rs_wM dI b SM) [9, 10, 11, 12, 13, 14] (by decide) rfl
  have hKc := hK.sub (tys' := [(dI, .int)]) [1] rfl
  have hFc := va_free (wc := rs_wM dI b SM) hD hS hA [9, 10, 11, 12, 13, 14] rfl
  refine va_calli (va_runV (As := As) (rest := rest) ⟨hx, hb, hml, hown, hts⟩ (hM H.size) (cwV na hts hw rfl hr0.1 hr0.2 hy hR) ⟨fun a U g mk q => by obtain ⟨q0, q1, qP, qK, qD⟩ := q; exact ⟨q0, q1, qP, va_K.moved (u := U) (U := U.calling g mk a) (Vm.Alike.refl U.vm) qK, qD⟩, va_recv hKc hPc (ci := 1) (q0 := 0) rfl rfl, fun U hU hW => ⟨rfl, by rw [hU], by rw [hU]; exact hPc, va_K.moved hW.alike hKc, hDc.weaken (fun _ _ _ _ => trivial)⟩⟩ rfl hna hl.1 hst (lv_room hcat) hd hf) hS (fun q _ h => hFc q h) hFc (fun r u t H1 locs1 ht hvm hp hB hz1 hk1 hS1 => ?_)
  obtain ⟨hP1, hK1, hD1⟩ := hB
  rw [ht] at hP1
  obtain ⟨hP2, hD2⟩ := va_join (wr := rs_wX dB dI a SX) (w1 := rs_wM dI b u) hP hD [9, 10, 11, 12, 13, 14] [0, 1, 2, 3, 4, 5, 6, 7, 8] rfl rfl (by decide) (by decide) hk1 hFc hP1 hD1
  exact k r u hp H1 locs1 ls (hP2.sub [0, 1, 2, 3, 4, 5, 6, 7, 8, 9, 10, 11, 12, 13, 14] rfl) (hD2.sub [0, 1, 2, 3, 4, 5, 6, 7, 8, 9, 10, 11, 12, 13, 14] (by decide) rfl) hS1 hl
theorem rl_cM0 (F : rs_Fx E cc own n rm) (K : rs_Kx (rs_GL l D dB dI a b) E) {post : Int32 → rs_St → Prop} (hM : rs_CT (rs_GM l D dI b) y cy mL ret rm' [.ref (b 0)] S.2 post) (hw : GoodIn lw_all (wsV own idx RX1 y (ws_ y cy mL ret))) (hy : y.cls = RX1 ∧ y.cls ≠ "java/lang/invoke/MethodHandle" ∧ y.cls ≠ "java/lang/invoke/VarHandle" ∧ (parseMethodDescriptor y.desc).map (fun d => d.parameters.length) = some 0) (hr0 : rm'.cells = 0 ∧ rm'.slots = 0) (hR : rm'.frames + 1 ≤ rm.frames ∧ 8 + (mL + 11) + rm'.locals ≤ rm.locals) (hcat : (rest.map fun v => v.category).sum ≤ 8) (hd : decode cc pc = .ok (.invokevirtual idx, 3)) (k : ∀ (r : Int32) (S' : rs_St), post r S' → rs_J (rs_GL l D dB dI a b) E (pc + 3) lv (.int r :: rest) (S.1, S')) : rs_J (rs_GL l D dB dI a b) E pc lv (.ref (b 0) :: rest) S := rl_cM (As := []) (rest := rest) F K hM hw hy hr0 hR rfl rfl hcat hd k
theorem rl_cM1 (F : rs_Fx E cc own n rm) (K : rs_Kx (rs_GL l D dB dI a b) E) {post : Int32 → rs_St → Prop} (hM : rs_CT (rs_GM l D dI b) y cy mL ret rm' [.ref (b 0), v1] S.2 post) (hw : GoodIn lw_all (wsV own idx RX1 y (ws_ y cy mL ret))) (hy : y.cls = RX1 ∧ y.cls ≠ "java/lang/invoke/MethodHandle" ∧ y.cls ≠ "java/lang/invoke/VarHandle" ∧ (parseMethodDescriptor y.desc).map (fun d => d.parameters.length) = some 1) (hr0 : rm'.cells = 0 ∧ rm'.slots = 0) (hR : rm'.frames + 1 ≤ rm.frames ∧ 8 + (mL + 11) + rm'.locals ≤ rm.locals) (hcat : (rest.map fun v => v.category).sum ≤ 8) (hd : decode cc pc = .ok (.invokevirtual idx, 3)) (k : ∀ (r : Int32) (S' : rs_St), post r S' → rs_J (rs_GL l D dB dI a b) E (pc + 3) lv (.int r :: rest) (S.1, S')) : rs_J (rs_GL l D dB dI a b) E pc lv (v1 :: .ref (b 0) :: rest) S := rl_cM (As := [v1]) (rest := rest) F K hM hw hy hr0 hR rfl rfl hcat hd k
theorem rl_cM3 (F : rs_Fx E cc own n rm) (K : rs_Kx (rs_GL l D dB dI a b) E) {post : Int32 → rs_St → Prop} (hM : rs_CT (rs_GM l D dI b) y cy mL ret rm' [.ref (b 0), v1, v2, v3] S.2 post) (hw : GoodIn lw_all (wsV own idx RX1 y (ws_ y cy mL ret))) (hy : y.cls = RX1 ∧ y.cls ≠ "java/lang/invoke/MethodHandle" ∧ y.cls ≠ "java/lang/invoke/VarHandle" ∧ (parseMethodDescriptor y.desc).map (fun d => d.parameters.length) = some 3) (hr0 : rm'.cells = 0 ∧ rm'.slots = 0) (hR : rm'.frames + 1 ≤ rm.frames ∧ 8 + (mL + 11) + rm'.locals ≤ rm.locals) (hcat : (rest.map fun v => v.category).sum ≤ 8) (hd : decode cc pc = .ok (.invokevirtual idx, 3)) (k : ∀ (r : Int32) (S' : rs_St), post r S' → rs_J (rs_GL l D dB dI a b) E (pc + 3) lv (.int r :: rest) (S.1, S')) : rs_J (rs_GL l D dB dI a b) E pc lv (v3 :: v2 :: v1 :: .ref (b 0) :: rest) S := rl_cM (As := [v1, v2, v3]) (rest := rest) F K hM hw hy hr0 hR rfl rfl hcat hd k
end RLC
section LC
variable {l : Launch} {D : va_G} {dB dI : ClassId} {a b : Nat → Nat} {E : rs_Ev} {z L : Nat} {xs : Nat → Int32}
/-- how a case ends: both objects hold one picture again -/
def rs_K (l : Launch) (D : va_G) (dB dI : ClassId) (a b : Nat → Nat) (E : rs_Ev) (z i : Nat) : Prop := ∀ (ts : List Nat) (run : rs_Rn) (S : rs_St × rs_St), rs_IX ts run S.1 → rs_IM ts run S.2 → rs_J (rs_GL l D dB dI a b) E 440 [(3, .int (nI i)), (2, .ref (b 0)), (1, .ref (a 0)), (0, .ref z)] [] S
set_option maxHeartbeats 4000000 in
theorem rs_l_write (hL : L ≤ 256) (F : rs_Fx E cL_law R_law 4 room_1) (K : rs_Kx (rs_GL l D dB dI a b) E) (X : rs_Xx E z L xs) {i : Nat} (hi : i + 4 ≤ L) {ts : List Nat} {run : rs_Rn} {S : rs_St × rs_St} (hX : rs_IX ts run S.1) (hM : rs_IM ts run S.2) (k440 : rs_K l D dB dI a b E z i) : rs_J (rs_GL l D dB dI a b) E 112 [(3, .int (nI i)), (2, .ref (b 0)), (1, .ref (a 0)), (0, .ref z)] [] S := by
  refine rj_aload_n (pc := 112) F dL_law_112 rfl ?_
  refine rj_aload_n (pc := 113) F dL_law_113 rfl ?_
  refine rj_iload_n (pc := 114) F dL_law_114 rfl ?_
  refine rj_iconst (pc := 115) (v := nI 1) F dL_law_115 (by decide) ?_
  refine rj_iaddE (pc := 116) F dL_law_116 (nI_add _ _) ?_
  refine rl_ld (pc := 117) F X dL_law_117 rfl (by omega) (by omega) ?_
  refine rl_cX1 (pc := 118) F K (ct_X0_write l D dB dI a (xs (i + 1)) hX) (lw_V q68 q69 q70 q16 q71) (by decide +kernel) ⟨rfl, rfl⟩ ⟨Nat.le_of_ble_eq_true rfl, Nat.le_of_ble_eq_true rfl⟩ (Nat.le_of_ble_eq_true rfl) dL_law_118 (fun rX SX hp => ?_)
  obtain ⟨rfl, hX⟩ := hp
  refine rj_aload_n (pc := 121) F dL_law_121 rfl ?_
  refine rj_aload_n (pc := 122) F dL_law_122 rfl ?_
  refine rj_iload_n (pc := 123) F dL_law_123 rfl ?_
  refine rj_iconst (pc := 124) (v := nI 1) F dL_law_124 (by decide) ?_
  refine rj_iaddE (pc := 125) F dL_law_125 (nI_add _ _) ?_
  refine rl_ld (pc := 126) F X dL_law_126 rfl (by omega) (by omega) ?_
  refine rl_cM1 (pc := 127) F K (ct_X1_write l D dI b (xs (i + 1)) hM) (lw_V q205 q206 q207 q17 q208) (by decide +kernel) ⟨rfl, rfl⟩ ⟨Nat.le_of_ble_eq_true rfl, Nat.le_of_ble_eq_true rfl⟩ (Nat.le_of_ble_eq_true rfl) dL_law_127 (fun rM SM hp => ?_)
  obtain ⟨rfl, hM⟩ := hp
  refine rj_icmp_eq (pc := 130) (tgt := 440) F dL_law_130 (by decide) (fun c130 => ?_) (fun c130 => ?_)
  · exact k440 _ _ (SX, SM) hX hM
  · exact absurd rfl c130
set_option maxHeartbeats 4000000 in
theorem rs_l_rub (hL : L ≤ 256) (F : rs_Fx E cL_law R_law 4 room_1) (K : rs_Kx (rs_GL l D dB dI a b) E) (X : rs_Xx E z L xs) {i : Nat} (hi : i + 4 ≤ L) {ts : List Nat} {run : rs_Rn} {S : rs_St × rs_St} (hX : rs_IX ts run S.1) (hM : rs_IM ts run S.2) (k440 : rs_K l D dB dI a b E z i) : rs_J (rs_GL l D dB dI a b) E 135 [(3, .int (nI i)), (2, .ref (b 0)), (1, .ref (a 0)), (0, .ref z)] [] S := by
  refine rj_aload_n (pc := 135) F dL_law_135 rfl ?_
  refine rl_cX0 (pc := 136) F K (ct_X0_rub l D dB dI a hX) (lw_V q90 q91 q92 q16 q93) (by decide +kernel) ⟨rfl, rfl⟩ ⟨Nat.le_of_ble_eq_true rfl, Nat.le_of_ble_eq_true rfl⟩ (Nat.le_of_ble_eq_true rfl) dL_law_136 (fun rX SX hp => ?_)
  obtain ⟨rfl, hX⟩ := hp
  refine rj_aload_n (pc := 139) F dL_law_139 rfl ?_
  refine rl_cM0 (pc := 140) F K (ct_X1_rub l D dI b hM) (lw_V q225 q226 q227 q17 q228) (by decide +kernel) ⟨rfl, rfl⟩ ⟨Nat.le_of_ble_eq_true rfl, Nat.le_of_ble_eq_true rfl⟩ (Nat.le_of_ble_eq_true rfl) dL_law_140 (fun rM SM hp => ?_)
  obtain ⟨rfl, hM⟩ := hp
  refine rj_icmp_eq (pc := 143) (tgt := 440) F dL_law_143 (by decide) (fun c143 => ?_) (fun c143 => ?_)
  · exact k440 _ _ (SX, SM) hX hM
  · exact absurd rfl c143
set_option maxHeartbeats 4000000 in
theorem rs_l_complete (hL : L ≤ 256) (F : rs_Fx E cL_law R_law 4 room_1) (K : rs_Kx (rs_GL l D dB dI a b) E) (X : rs_Xx E z L xs) {i : Nat} (hi : i + 4 ≤ L) {ts : List Nat} {run : rs_Rn} {S : rs_St × rs_St} (hX : rs_IX ts run S.1) (hM : rs_IM ts run S.2) (k440 : rs_K l D dB dI a b E z i) : rs_J (rs_GL l D dB dI a b) E 148 [(3, .int (nI i)), (2, .ref (b 0)), (1, .ref (a 0)), (0, .ref z)] [] S := by
  refine rj_aload_n (pc := 148) F dL_law_148 rfl ?_
  refine rl_cX0 (pc := 149) F K (ct_X0_complete l D dB dI a hX.tX) (lw_V q94 q76 q77 q16 q78) (by decide +kernel) ⟨rfl, rfl⟩ ⟨Nat.le_of_ble_eq_true rfl, Nat.le_of_ble_eq_true rfl⟩ (Nat.le_of_ble_eq_true rfl) dL_law_149 (fun rX SX hp => ?_)
  obtain ⟨rfl, rfl⟩ := hp
  refine rj_aload_n (pc := 152) F dL_law_152 rfl ?_
  refine rl_cM0 (pc := 153) F K (ct_X1_complete l D dI b hM.tM) (lw_V q229 q218 q219 q17 q220) (by decide +kernel) ⟨rfl, rfl⟩ ⟨Nat.le_of_ble_eq_true rfl, Nat.le_of_ble_eq_true rfl⟩ (Nat.le_of_ble_eq_true rfl) dL_law_153 (fun rM SM hp => ?_)
  obtain ⟨rfl, rfl⟩ := hp
  refine rj_icmp_eq (pc := 156) (tgt := 440) F dL_law_156 (by decide) (fun c156 => ?_) (fun c156 => ?_)
  · exact k440 _ _ (S.1, S.2) hX hM
  · exact absurd rfl c156
set_option maxHeartbeats 4000000 in
theorem rs_l_fixed (hL : L ≤ 256) (F : rs_Fx E cL_law R_law 4 room_1) (K : rs_Kx (rs_GL l D dB dI a b) E) (X : rs_Xx E z L xs) {i : Nat} (hi : i + 4 ≤ L) {ts : List Nat} {run : rs_Rn} {S : rs_St × rs_St} (hX : rs_IX ts run S.1) (hM : rs_IM ts run S.2) (k440 : rs_K l D dB dI a b E z i) : rs_J (rs_GL l D dB dI a b) E 161 [(3, .int (nI i)), (2, .ref (b 0)), (1, .ref (a 0)), (0, .ref z)] [] S := by
  refine rj_aload_n (pc := 161) F dL_law_161 rfl ?_
  refine rj_aload_n (pc := 162) F dL_law_162 rfl ?_
  refine rj_iload_n (pc := 163) F dL_law_163 rfl ?_
  refine rj_iconst (pc := 164) (v := nI 1) F dL_law_164 (by decide) ?_
  refine rj_iaddE (pc := 165) F dL_law_165 (nI_add _ _) ?_
  refine rl_ld (pc := 166) F X dL_law_166 rfl (by omega) (by omega) ?_
  refine rl_cX1 (pc := 167) F K (ct_X0_fixed l D dB dI a (xs (i + 1)) hX) (lw_V q95 q96 q97 q16 q98) (by decide +kernel) ⟨rfl, rfl⟩ ⟨Nat.le_of_ble_eq_true rfl, Nat.le_of_ble_eq_true rfl⟩ (Nat.le_of_ble_eq_true rfl) dL_law_167 (fun rX SX hp => ?_)
  obtain ⟨rfl, hX, -⟩ := hp
  refine rj_aload_n (pc := 170) F dL_law_170 rfl ?_
  refine rj_aload_n (pc := 171) F dL_law_171 rfl ?_
  refine rj_iload_n (pc := 172) F dL_law_172 rfl ?_
  refine rj_iconst (pc := 173) (v := nI 1) F dL_law_173 (by decide) ?_
  refine rj_iaddE (pc := 174) F dL_law_174 (nI_add _ _) ?_
  refine rl_ld (pc := 175) F X dL_law_175 rfl (by omega) (by omega) ?_
  refine rl_cM1 (pc := 176) F K (ct_X1_fixed l D dI b (xs (i + 1)) hM) (lw_V q230 q231 q232 q17 q233) (by decide +kernel) ⟨rfl, rfl⟩ ⟨Nat.le_of_ble_eq_true rfl, Nat.le_of_ble_eq_true rfl⟩ (Nat.le_of_ble_eq_true rfl) dL_law_176 (fun rM SM hp => ?_)
  obtain ⟨rfl, hM, -⟩ := hp
  refine rj_icmp_eq (pc := 179) (tgt := 440) F dL_law_179 (by decide) (fun c179 => ?_) (fun c179 => ?_)
  · exact k440 _ _ (SX, SM) hX hM
  · exact absurd rfl c179
set_option maxHeartbeats 4000000 in
theorem rs_l_fit (hL : L ≤ 256) (F : rs_Fx E cL_law R_law 4 room_1) (K : rs_Kx (rs_GL l D dB dI a b) E) (X : rs_Xx E z L xs) {i : Nat} (hi : i + 4 ≤ L) {ts : List Nat} {run : rs_Rn} {S : rs_St × rs_St} (hX : rs_IX ts run S.1) (hM : rs_IM ts run S.2) (k440 : rs_K l D dB dI a b E z i) : rs_J (rs_GL l D dB dI a b) E 184 [(3, .int (nI i)), (2, .ref (b 0)), (1, .ref (a 0)), (0, .ref z)] [] S := by
  refine rj_aload_n (pc := 184) F dL_law_184 rfl ?_
  refine rl_cX0 (pc := 185) F K (ct_X0_fit l D dB dI a hX) (lw_V q120 q121 q122 q16 q123) (by decide +kernel) ⟨rfl, rfl⟩ ⟨Nat.le_of_ble_eq_true rfl, Nat.le_of_ble_eq_true rfl⟩ (Nat.le_of_ble_eq_true rfl) dL_law_185 (fun rX SX hp => ?_)
  obtain ⟨rfl, hX, -⟩ := hp
  refine rj_aload_n (pc := 188) F dL_law_188 rfl ?_
  refine rl_cM0 (pc := 189) F K (ct_X1_fit l D dI b hM) (lw_V q250 q251 q252 q17 q253) (by decide +kernel) ⟨rfl, rfl⟩ ⟨Nat.le_of_ble_eq_true rfl, Nat.le_of_ble_eq_true rfl⟩ (Nat.le_of_ble_eq_true rfl) dL_law_189 (fun rM SM hp => ?_)
  obtain ⟨rfl, hM⟩ := hp
  refine rj_icmp_eq (pc := 192) (tgt := 440) F dL_law_192 (by decide) (fun c192 => ?_) (fun c192 => ?_)
  · exact k440 _ _ (SX, SM) hX hM
  · exact absurd rfl c192
set_option maxHeartbeats 4000000 in
theorem rs_l_size (hL : L ≤ 256) (F : rs_Fx E cL_law R_law 4 room_1) (K : rs_Kx (rs_GL l D dB dI a b) E) (X : rs_Xx E z L xs) {i : Nat} (hi : i + 4 ≤ L) {ts : List Nat} {run : rs_Rn} {S : rs_St × rs_St} (hX : rs_IX ts run S.1) (hM : rs_IM ts run S.2) (k440 : rs_K l D dB dI a b E z i) : rs_J (rs_GL l D dB dI a b) E 197 [(3, .int (nI i)), (2, .ref (b 0)), (1, .ref (a 0)), (0, .ref z)] [] S := by
  refine rj_aload_n (pc := 197) F dL_law_197 rfl ?_
  refine rj_aload_n (pc := 198) F dL_law_198 rfl ?_
  refine rj_iload_n (pc := 199) F dL_law_199 rfl ?_
  refine rj_iconst (pc := 200) (v := nI 1) F dL_law_200 (by decide) ?_
  refine rj_iaddE (pc := 201) F dL_law_201 (nI_add _ _) ?_
  refine rl_ld (pc := 202) F X dL_law_202 rfl (by omega) (by omega) ?_
  refine rl_cX1 (pc := 203) F K (ct_X0_size l D dB dI a (xs (i + 1)) hX) (lw_V q125 q126 q127 q16 q128) (by decide +kernel) ⟨rfl, rfl⟩ ⟨Nat.le_of_ble_eq_true rfl, Nat.le_of_ble_eq_true rfl⟩ (Nat.le_of_ble_eq_true rfl) dL_law_203 (fun rX SX hp => ?_)
  obtain ⟨rfl, hX⟩ := hp
  refine rj_aload_n (pc := 206) F dL_law_206 rfl ?_
  refine rj_aload_n (pc := 207) F dL_law_207 rfl ?_
  refine rj_iload_n (pc := 208) F dL_law_208 rfl ?_
  refine rj_iconst (pc := 209) (v := nI 1) F dL_law_209 (by decide) ?_
  refine rj_iaddE (pc := 210) F dL_law_210 (nI_add _ _) ?_
  refine rl_ld (pc := 211) F X dL_law_211 rfl (by omega) (by omega) ?_
  refine rl_cM1 (pc := 212) F K (ct_X1_size l D dI b (xs (i + 1)) hM) (lw_V q255 q256 q257 q17 q258) (by decide +kernel) ⟨rfl, rfl⟩ ⟨Nat.le_of_ble_eq_true rfl, Nat.le_of_ble_eq_true rfl⟩ (Nat.le_of_ble_eq_true rfl) dL_law_212 (fun rM SM hp => ?_)
  obtain ⟨rfl, hM⟩ := hp
  refine rj_icmp_eq (pc := 215) (tgt := 440) F dL_law_215 (by decide) (fun c215 => ?_) (fun c215 => ?_)
  · exact k440 _ _ (SX, SM) hX hM
  · exact absurd rfl c215
set_option maxHeartbeats 4000000 in
theorem rs_l_start (hL : L ≤ 256) (F : rs_Fx E cL_law R_law 4 room_1) (K : rs_Kx (rs_GL l D dB dI a b) E) (X : rs_Xx E z L xs) {i : Nat} (hi : i + 4 ≤ L) {ts : List Nat} {run : rs_Rn} {S : rs_St × rs_St} (hX : rs_IX ts run S.1) (hM : rs_IM ts run S.2) (k440 : rs_K l D dB dI a b E z i) : rs_J (rs_GL l D dB dI a b) E 220 [(3, .int (nI i)), (2, .ref (b 0)), (1, .ref (a 0)), (0, .ref z)] [] S := by
  refine rj_aload_n (pc := 220) F dL_law_220 rfl ?_
  refine rl_cX0 (pc := 221) F K (ct_X0_start l D dB dI a hX) (lw_V q129 q130 q131 q16 q132) (by decide +kernel) ⟨rfl, rfl⟩ ⟨Nat.le_of_ble_eq_true rfl, Nat.le_of_ble_eq_true rfl⟩ (Nat.le_of_ble_eq_true rfl) dL_law_221 (fun rX SX hp => ?_)
  obtain ⟨rfl, hX⟩ := hp
  refine rj_aload_n (pc := 224) F dL_law_224 rfl ?_
  refine rl_cM0 (pc := 225) F K (ct_X1_start l D dI b hM) (lw_V q263 q264 q265 q17 q266) (by decide +kernel) ⟨rfl, rfl⟩ ⟨Nat.le_of_ble_eq_true rfl, Nat.le_of_ble_eq_true rfl⟩ (Nat.le_of_ble_eq_true rfl) dL_law_225 (fun rM SM hp => ?_)
  obtain ⟨rfl, hM⟩ := hp
  refine rj_icmp_eq (pc := 228) (tgt := 440) F dL_law_228 (by decide) (fun c228 => ?_) (fun c228 => ?_)
  · exact k440 _ _ (SX, SM) hX hM
  · exact absurd rfl c228
set_option maxHeartbeats 4000000 in
theorem rs_l_runs (hL : L ≤ 256) (F : rs_Fx E cL_law R_law 4 room_1) (K : rs_Kx (rs_GL l D dB dI a b) E) (X : rs_Xx E z L xs) {i : Nat} (hi : i + 4 ≤ L) {ts : List Nat} {run : rs_Rn} {S : rs_St × rs_St} (hX : rs_IX ts run S.1) (hM : rs_IM ts run S.2) (k440 : rs_K l D dB dI a b E z i) : rs_J (rs_GL l D dB dI a b) E 233 [(3, .int (nI i)), (2, .ref (b 0)), (1, .ref (a 0)), (0, .ref z)] [] S := by
  refine rj_aload_n (pc := 233) F dL_law_233 rfl ?_
  refine rl_cX0 (pc := 234) F K (ct_X0_runs l D dB dI a hX) (lw_V q134 q135 q136 q16 q137) (by decide +kernel) ⟨rfl, rfl⟩ ⟨Nat.le_of_ble_eq_true rfl, Nat.le_of_ble_eq_true rfl⟩ (Nat.le_of_ble_eq_true rfl) dL_law_234 (fun rX SX hp => ?_)
  obtain ⟨rfl, hX⟩ := hp
  refine rj_aload_n (pc := 237) F dL_law_237 rfl ?_
  refine rl_cM0 (pc := 238) F K (ct_X1_runs l D dI b hM) (lw_V q268 q269 q270 q17 q271) (by decide +kernel) ⟨rfl, rfl⟩ ⟨Nat.le_of_ble_eq_true rfl, Nat.le_of_ble_eq_true rfl⟩ (Nat.le_of_ble_eq_true rfl) dL_law_238 (fun rM SM hp => ?_)
  obtain ⟨rfl, hM⟩ := hp
  refine rj_icmp_eq (pc := 241) (tgt := 440) F dL_law_241 (by decide) (fun c241 => ?_) (fun c241 => ?_)
  · exact k440 _ _ (SX, SM) hX hM
  · exact absurd rfl c241
set_option maxHeartbeats 4000000 in
theorem rs_l_possible (hL : L ≤ 256) (F : rs_Fx E cL_law R_law 4 room_1) (K : rs_Kx (rs_GL l D dB dI a b) E) (X : rs_Xx E z L xs) {i : Nat} (hi : i + 4 ≤ L) {ts : List Nat} {run : rs_Rn} {S : rs_St × rs_St} (hX : rs_IX ts run S.1) (hM : rs_IM ts run S.2) (k440 : rs_K l D dB dI a b E z i) : rs_J (rs_GL l D dB dI a b) E 246 [(3, .int (nI i)), (2, .ref (b 0)), (1, .ref (a 0)), (0, .ref z)] [] S := by
  refine rj_aload_n (pc := 246) F dL_law_246 rfl ?_
  refine rj_aload_n (pc := 247) F dL_law_247 rfl ?_
  refine rj_iload_n (pc := 248) F dL_law_248 rfl ?_
  refine rj_iconst (pc := 249) (v := nI 1) F dL_law_249 (by decide) ?_
  refine rj_iaddE (pc := 250) F dL_law_250 (nI_add _ _) ?_
  refine rl_ld (pc := 251) F X dL_law_251 rfl (by omega) (by omega) ?_
  refine rj_aload_n (pc := 252) F dL_law_252 rfl ?_
  refine rj_iload_n (pc := 253) F dL_law_253 rfl ?_
  refine rj_iconst (pc := 254) (v := nI 2) F dL_law_254 (by decide) ?_
  refine rj_iaddE (pc := 255) F dL_law_255 (nI_add _ _) ?_
  refine rl_ld (pc := 256) F X dL_law_256 rfl (by omega) (by omega) ?_
  refine rj_aload_n (pc := 257) F dL_law_257 rfl ?_
  refine rj_iload_n (pc := 258) F dL_law_258 rfl ?_
  refine rj_iconst (pc := 259) (v := nI 3) F dL_law_259 (by decide) ?_
  refine rj_iaddE (pc := 260) F dL_law_260 (nI_add _ _) ?_
  refine rl_ld (pc := 261) F X dL_law_261 rfl (by omega) (by omega) ?_
  refine rl_cX3 (pc := 262) F K (ct_X0_possible l D dB dI a (xs (i + 1)) (xs (i + 2)) (xs (i + 3)) hX) (lw_V q138 q139 q140 q16 q141) (by decide +kernel) ⟨rfl, rfl⟩ ⟨Nat.le_of_ble_eq_true rfl, Nat.le_of_ble_eq_true rfl⟩ (Nat.le_of_ble_eq_true rfl) dL_law_262 (fun rX SX hp => ?_)
  obtain ⟨rfl, rfl⟩ := hp
  refine rj_aload_n (pc := 265) F dL_law_265 rfl ?_
  refine rj_aload_n (pc := 266) F dL_law_266 rfl ?_
  refine rj_iload_n (pc := 267) F dL_law_267 rfl ?_
  refine rj_iconst (pc := 268) (v := nI 1) F dL_law_268 (by decide) ?_
  refine rj_iaddE (pc := 269) F dL_law_269 (nI_add _ _) ?_
  refine rl_ld (pc := 270) F X dL_law_270 rfl (by omega) (by omega) ?_
  refine rj_aload_n (pc := 271) F dL_law_271 rfl ?_
  refine rj_iload_n (pc := 272) F dL_law_272 rfl ?_
  refine rj_iconst (pc := 273) (v := nI 2) F dL_law_273 (by decide) ?_
  refine rj_iaddE (pc := 274) F dL_law_274 (nI_add _ _) ?_
  refine rl_ld (pc := 275) F X dL_law_275 rfl (by omega) (by omega) ?_
  refine rj_aload_n (pc := 276) F dL_law_276 rfl ?_
  refine rj_iload_n (pc := 277) F dL_law_277 rfl ?_
  refine rj_iconst (pc := 278) (v := nI 3) F dL_law_278 (by decide) ?_
  refine rj_iaddE (pc := 279) F dL_law_279 (nI_add _ _) ?_
  refine rl_ld (pc := 280) F X dL_law_280 rfl (by omega) (by omega) ?_
  refine rl_cM3 (pc := 281) F K (ct_X1_possible l D dI b (xs (i + 1)) (xs (i + 2)) (xs (i + 3)) hM) (lw_V q272 q273 q274 q17 q275) (by decide +kernel) ⟨rfl, rfl⟩ ⟨Nat.le_of_ble_eq_true rfl, Nat.le_of_ble_eq_true rfl⟩ (Nat.le_of_ble_eq_true rfl) dL_law_281 (fun rM SM hp => ?_)
  obtain ⟨rfl, rfl⟩ := hp
  refine rj_icmp_eq (pc := 284) (tgt := 440) F dL_law_284 (by decide) (fun c284 => ?_) (fun c284 => ?_)
  · exact k440 _ _ (S.1, S.2) hX hM
  · exact absurd rfl c284
set_option maxHeartbeats 4000000 in
theorem rs_l_send (hL : L ≤ 256) (F : rs_Fx E cL_law R_law 4 room_1) (K : rs_Kx (rs_GL l D dB dI a b) E) (X : rs_Xx E z L xs) {i : Nat} (hi : i + 4 ≤ L) {ts : List Nat} {run : rs_Rn} {S : rs_St × rs_St} (hX : rs_IX ts run S.1) (hM : rs_IM ts run S.2) (k440 : rs_K l D dB dI a b E z i) : rs_J (rs_GL l D dB dI a b) E 289 [(3, .int (nI i)), (2, .ref (b 0)), (1, .ref (a 0)), (0, .ref z)] [] S := by
  refine rj_aload_n (pc := 289) F dL_law_289 rfl ?_
  refine rj_aload_n (pc := 290) F dL_law_290 rfl ?_
  refine rj_iload_n (pc := 291) F dL_law_291 rfl ?_
  refine rj_iconst (pc := 292) (v := nI 1) F dL_law_292 (by decide) ?_
  refine rj_iaddE (pc := 293) F dL_law_293 (nI_add _ _) ?_
  refine rl_ld (pc := 294) F X dL_law_294 rfl (by omega) (by omega) ?_
  refine rj_aload_n (pc := 295) F dL_law_295 rfl ?_
  refine rj_iload_n (pc := 296) F dL_law_296 rfl ?_
  refine rj_iconst (pc := 297) (v := nI 2) F dL_law_297 (by decide) ?_
  refine rj_iaddE (pc := 298) F dL_law_298 (nI_add _ _) ?_
  refine rl_ld (pc := 299) F X dL_law_299 rfl (by omega) (by omega) ?_
  refine rj_aload_n (pc := 300) F dL_law_300 rfl ?_
  refine rj_iload_n (pc := 301) F dL_law_301 rfl ?_
  refine rj_iconst (pc := 302) (v := nI 3) F dL_law_302 (by decide) ?_
  refine rj_iaddE (pc := 303) F dL_law_303 (nI_add _ _) ?_
  refine rl_ld (pc := 304) F X dL_law_304 rfl (by omega) (by omega) ?_
  refine rl_cX3 (pc := 305) F K (ct_X0_send l D dB dI a (xs (i + 1)) (xs (i + 2)) (xs (i + 3)) hX) (lw_V q142 q143 q144 q16 q145) (by decide +kernel) ⟨rfl, rfl⟩ ⟨Nat.le_of_ble_eq_true rfl, Nat.le_of_ble_eq_true rfl⟩ (Nat.le_of_ble_eq_true rfl) dL_law_305 (fun rX SX hp => ?_)
  obtain ⟨rfl, hX⟩ := hp
  refine rj_aload_n (pc := 308) F dL_law_308 rfl ?_
  refine rj_aload_n (pc := 309) F dL_law_309 rfl ?_
  refine rj_iload_n (pc := 310) F dL_law_310 rfl ?_
  refine rj_iconst (pc := 311) (v := nI 1) F dL_law_311 (by decide) ?_
  refine rj_iaddE (pc := 312) F dL_law_312 (nI_add _ _) ?_
  refine rl_ld (pc := 313) F X dL_law_313 rfl (by omega) (by omega) ?_
  refine rj_aload_n (pc := 314) F dL_law_314 rfl ?_
  refine rj_iload_n (pc := 315) F dL_law_315 rfl ?_
  refine rj_iconst (pc := 316) (v := nI 2) F dL_law_316 (by decide) ?_
  refine rj_iaddE (pc := 317) F dL_law_317 (nI_add _ _) ?_
  refine rl_ld (pc := 318) F X dL_law_318 rfl (by omega) (by omega) ?_
  refine rj_aload_n (pc := 319) F dL_law_319 rfl ?_
  refine rj_iload_n (pc := 320) F dL_law_320 rfl ?_
  refine rj_iconst (pc := 321) (v := nI 3) F dL_law_321 (by decide) ?_
  refine rj_iaddE (pc := 322) F dL_law_322 (nI_add _ _) ?_
  refine rl_ld (pc := 323) F X dL_law_323 rfl (by omega) (by omega) ?_
  refine rl_cM3 (pc := 324) F K (ct_X1_send l D dI b (xs (i + 1)) (xs (i + 2)) (xs (i + 3)) hM) (lw_V q280 q281 q282 q17 q283) (by decide +kernel) ⟨rfl, rfl⟩ ⟨Nat.le_of_ble_eq_true rfl, Nat.le_of_ble_eq_true rfl⟩ (Nat.le_of_ble_eq_true rfl) dL_law_324 (fun rM SM hp => ?_)
  obtain ⟨rfl, hM⟩ := hp
  refine rj_icmp_eq (pc := 327) (tgt := 440) F dL_law_327 (by decide) (fun c327 => ?_) (fun c327 => ?_)
  · exact k440 _ _ (SX, SM) hX hM
  · exact absurd rfl c327
set_option maxHeartbeats 4000000 in
theorem rs_l_duty (hL : L ≤ 256) (F : rs_Fx E cL_law R_law 4 room_1) (K : rs_Kx (rs_GL l D dB dI a b) E) (X : rs_Xx E z L xs) {i : Nat} (hi : i + 4 ≤ L) {ts : List Nat} {run : rs_Rn} {S : rs_St × rs_St} (hX : rs_IX ts run S.1) (hM : rs_IM ts run S.2) (k440 : rs_K l D dB dI a b E z i) : rs_J (rs_GL l D dB dI a b) E 332 [(3, .int (nI i)), (2, .ref (b 0)), (1, .ref (a 0)), (0, .ref z)] [] S := by
  refine rj_aload_n (pc := 332) F dL_law_332 rfl ?_
  refine rj_aload_n (pc := 333) F dL_law_333 rfl ?_
  refine rj_iload_n (pc := 334) F dL_law_334 rfl ?_
  refine rj_iconst (pc := 335) (v := nI 1) F dL_law_335 (by decide) ?_
  refine rj_iaddE (pc := 336) F dL_law_336 (nI_add _ _) ?_
  refine rl_ld (pc := 337) F X dL_law_337 rfl (by omega) (by omega) ?_
  refine rl_cX1 (pc := 338) F K (ct_X0_duty l D dB dI a (xs (i + 1)) hX) (lw_V q147 q148 q149 q16 q150) (by decide +kernel) ⟨rfl, rfl⟩ ⟨Nat.le_of_ble_eq_true rfl, Nat.le_of_ble_eq_true rfl⟩ (Nat.le_of_ble_eq_true rfl) dL_law_338 (fun rX SX hp => ?_)
  obtain ⟨rfl, rfl⟩ := hp
  refine rj_aload_n (pc := 341) F dL_law_341 rfl ?_
  refine rj_aload_n (pc := 342) F dL_law_342 rfl ?_
  refine rj_iload_n (pc := 343) F dL_law_343 rfl ?_
  refine rj_iconst (pc := 344) (v := nI 1) F dL_law_344 (by decide) ?_
  refine rj_iaddE (pc := 345) F dL_law_345 (nI_add _ _) ?_
  refine rl_ld (pc := 346) F X dL_law_346 rfl (by omega) (by omega) ?_
  refine rl_cM1 (pc := 347) F K (ct_X1_duty l D dI b (xs (i + 1)) hM) (lw_V q285 q286 q287 q17 q288) (by decide +kernel) ⟨rfl, rfl⟩ ⟨Nat.le_of_ble_eq_true rfl, Nat.le_of_ble_eq_true rfl⟩ (Nat.le_of_ble_eq_true rfl) dL_law_347 (fun rM SM hp => ?_)
  obtain ⟨rfl, hM⟩ := hp
  refine rj_icmp_eq (pc := 350) (tgt := 440) F dL_law_350 (by decide) (fun c350 => ?_) (fun c350 => ?_)
  · exact k440 _ _ (S.1, SM) hX hM
  · exact absurd rfl c350
set_option maxHeartbeats 4000000 in
theorem rs_l_labels (hL : L ≤ 256) (F : rs_Fx E cL_law R_law 4 room_1) (K : rs_Kx (rs_GL l D dB dI a b) E) (X : rs_Xx E z L xs) {i : Nat} (hi : i + 4 ≤ L) {ts : List Nat} {run : rs_Rn} {S : rs_St × rs_St} (hX : rs_IX ts run S.1) (hM : rs_IM ts run S.2) (k440 : rs_K l D dB dI a b E z i) : rs_J (rs_GL l D dB dI a b) E 355 [(3, .int (nI i)), (2, .ref (b 0)), (1, .ref (a 0)), (0, .ref z)] [] S := by
  refine rj_aload_n (pc := 355) F dL_law_355 rfl ?_
  refine rj_aload_n (pc := 356) F dL_law_356 rfl ?_
  refine rj_iload_n (pc := 357) F dL_law_357 rfl ?_
  refine rj_iconst (pc := 358) (v := nI 1) F dL_law_358 (by decide) ?_
  refine rj_iaddE (pc := 359) F dL_law_359 (nI_add _ _) ?_
  refine rl_ld (pc := 360) F X dL_law_360 rfl (by omega) (by omega) ?_
  refine rl_cX1 (pc := 361) F K (ct_X0_labels l D dB dI a (xs (i + 1)) hX) (lw_V q151 q152 q153 q16 q154) (by decide +kernel) ⟨rfl, rfl⟩ ⟨Nat.le_of_ble_eq_true rfl, Nat.le_of_ble_eq_true rfl⟩ (Nat.le_of_ble_eq_true rfl) dL_law_361 (fun rX SX hp => ?_)
  obtain ⟨rfl, rfl⟩ := hp
  refine rj_aload_n (pc := 364) F dL_law_364 rfl ?_
  refine rj_aload_n (pc := 365) F dL_law_365 rfl ?_
  refine rj_iload_n (pc := 366) F dL_law_366 rfl ?_
  refine rj_iconst (pc := 367) (v := nI 1) F dL_law_367 (by decide) ?_
  refine rj_iaddE (pc := 368) F dL_law_368 (nI_add _ _) ?_
  refine rl_ld (pc := 369) F X dL_law_369 rfl (by omega) (by omega) ?_
  refine rl_cM1 (pc := 370) F K (ct_X1_labels l D dI b (xs (i + 1)) hM) (lw_V q293 q294 q295 q17 q296) (by decide +kernel) ⟨rfl, rfl⟩ ⟨Nat.le_of_ble_eq_true rfl, Nat.le_of_ble_eq_true rfl⟩ (Nat.le_of_ble_eq_true rfl) dL_law_370 (fun rM SM hp => ?_)
  obtain ⟨rfl, hM⟩ := hp
  refine rj_icmp_eq (pc := 373) (tgt := 440) F dL_law_373 (by decide) (fun c373 => ?_) (fun c373 => ?_)
  · exact k440 _ _ (S.1, SM) hX hM
  · exact absurd rfl c373
set_option maxHeartbeats 4000000 in
theorem rs_l_rest (hL : L ≤ 256) (F : rs_Fx E cL_law R_law 4 room_1) (K : rs_Kx (rs_GL l D dB dI a b) E) (X : rs_Xx E z L xs) {i : Nat} (hi : i + 4 ≤ L) {ts : List Nat} {run : rs_Rn} {S : rs_St × rs_St} (hX : rs_IX ts run S.1) (hM : rs_IM ts run S.2) (k440 : rs_K l D dB dI a b E z i) : rs_J (rs_GL l D dB dI a b) E 378 [(3, .int (nI i)), (2, .ref (b 0)), (1, .ref (a 0)), (0, .ref z)] [] S := by
  refine rj_aload_n (pc := 378) F dL_law_378 rfl ?_
  refine rj_aload_n (pc := 379) F dL_law_379 rfl ?_
  refine rj_iload_n (pc := 380) F dL_law_380 rfl ?_
  refine rj_iconst (pc := 381) (v := nI 1) F dL_law_381 (by decide) ?_
  refine rj_iaddE (pc := 382) F dL_law_382 (nI_add _ _) ?_
  refine rl_ld (pc := 383) F X dL_law_383 rfl (by omega) (by omega) ?_
  refine rl_cX1 (pc := 384) F K (ct_X0_rest l D dB dI a (xs (i + 1)) hX) (lw_V q155 q156 q157 q16 q158) (by decide +kernel) ⟨rfl, rfl⟩ ⟨Nat.le_of_ble_eq_true rfl, Nat.le_of_ble_eq_true rfl⟩ (Nat.le_of_ble_eq_true rfl) dL_law_384 (fun rX SX hp => ?_)
  obtain ⟨rfl, rfl⟩ := hp
  refine rj_aload_n (pc := 387) F dL_law_387 rfl ?_
  refine rj_aload_n (pc := 388) F dL_law_388 rfl ?_
  refine rj_iload_n (pc := 389) F dL_law_389 rfl ?_
  refine rj_iconst (pc := 390) (v := nI 1) F dL_law_390 (by decide) ?_
  refine rj_iaddE (pc := 391) F dL_law_391 (nI_add _ _) ?_
  refine rl_ld (pc := 392) F X dL_law_392 rfl (by omega) (by omega) ?_
  refine rl_cM1 (pc := 393) F K (ct_X1_rest l D dI b (xs (i + 1)) hM) (lw_V q297 q298 q299 q17 q300) (by decide +kernel) ⟨rfl, rfl⟩ ⟨Nat.le_of_ble_eq_true rfl, Nat.le_of_ble_eq_true rfl⟩ (Nat.le_of_ble_eq_true rfl) dL_law_393 (fun rM SM hp => ?_)
  obtain ⟨rfl, hM⟩ := hp
  refine rj_icmp_eq (pc := 396) (tgt := 440) F dL_law_396 (by decide) (fun c396 => ?_) (fun c396 => ?_)
  · exact k440 _ _ (S.1, SM) hX hM
  · exact absurd rfl c396
set_option maxHeartbeats 4000000 in
theorem rs_l_choices (hL : L ≤ 256) (F : rs_Fx E cL_law R_law 4 room_1) (K : rs_Kx (rs_GL l D dB dI a b) E) (X : rs_Xx E z L xs) {i : Nat} (hi : i + 4 ≤ L) {ts : List Nat} {run : rs_Rn} {S : rs_St × rs_St} (hX : rs_IX ts run S.1) (hM : rs_IM ts run S.2) (k440 : rs_K l D dB dI a b E z i) : rs_J (rs_GL l D dB dI a b) E 401 [(3, .int (nI i)), (2, .ref (b 0)), (1, .ref (a 0)), (0, .ref z)] [] S := by
  refine rj_aload_n (pc := 401) F dL_law_401 rfl ?_
  refine rl_cX0 (pc := 402) F K (ct_X0_choices l D dB dI a hX) (lw_V q159 q160 q161 q16 q162) (by decide +kernel) ⟨rfl, rfl⟩ ⟨Nat.le_of_ble_eq_true rfl, Nat.le_of_ble_eq_true rfl⟩ (Nat.le_of_ble_eq_true rfl) dL_law_402 (fun rX SX hp => ?_)
  obtain ⟨rfl, rfl⟩ := hp
  refine rj_aload_n (pc := 405) F dL_law_405 rfl ?_
  refine rl_cM0 (pc := 406) F K (ct_X1_choices l D dI b hM) (lw_V q301 q302 q303 q17 q304) (by decide +kernel) ⟨rfl, rfl⟩ ⟨Nat.le_of_ble_eq_true rfl, Nat.le_of_ble_eq_true rfl⟩ (Nat.le_of_ble_eq_true rfl) dL_law_406 (fun rM SM hp => ?_)
  obtain ⟨rfl, rfl⟩ := hp
  refine rj_icmp_eq (pc := 409) (tgt := 440) F dL_law_409 (by decide) (fun c409 => ?_) (fun c409 => ?_)
  · exact k440 _ _ (S.1, S.2) hX hM
  · exact absurd rfl c409
set_option maxHeartbeats 4000000 in
theorem rs_l_sent (hL : L ≤ 256) (F : rs_Fx E cL_law R_law 4 room_1) (K : rs_Kx (rs_GL l D dB dI a b) E) (X : rs_Xx E z L xs) {i : Nat} (hi : i + 4 ≤ L) {ts : List Nat} {run : rs_Rn} {S : rs_St × rs_St} (hX : rs_IX ts run S.1) (hM : rs_IM ts run S.2) (k440 : rs_K l D dB dI a b E z i) : rs_J (rs_GL l D dB dI a b) E 414 [(3, .int (nI i)), (2, .ref (b 0)), (1, .ref (a 0)), (0, .ref z)] [] S := by
  refine rj_aload_n (pc := 414) F dL_law_414 rfl ?_
  refine rl_cX0 (pc := 415) F K (ct_X0_sent l D dB dI a hX) (lw_V q163 q164 q165 q16 q166) (by decide +kernel) ⟨rfl, rfl⟩ ⟨Nat.le_of_ble_eq_true rfl, Nat.le_of_ble_eq_true rfl⟩ (Nat.le_of_ble_eq_true rfl) dL_law_415 (fun rX SX hp => ?_)
  obtain ⟨rfl, hX⟩ := hp
  refine rj_aload_n (pc := 418) F dL_law_418 rfl ?_
  refine rl_cM0 (pc := 419) F K (ct_X1_sent l D dI b hM) (lw_V q305 q306 q307 q17 q308) (by decide +kernel) ⟨rfl, rfl⟩ ⟨Nat.le_of_ble_eq_true rfl, Nat.le_of_ble_eq_true rfl⟩ (Nat.le_of_ble_eq_true rfl) dL_law_419 (fun rM SM hp => ?_)
  obtain ⟨rfl, hM⟩ := hp
  refine rj_icmp_eq (pc := 422) (tgt := 440) F dL_law_422 (by decide) (fun c422 => ?_) (fun c422 => ?_)
  · exact k440 _ _ (SX, SM) hX hM
  · exact absurd rfl c422
set_option maxHeartbeats 4000000 in
theorem rs_l_over (hL : L ≤ 256) (F : rs_Fx E cL_law R_law 4 room_1) (K : rs_Kx (rs_GL l D dB dI a b) E) (X : rs_Xx E z L xs) {i : Nat} (hi : i + 4 ≤ L) {ts : List Nat} {run : rs_Rn} {S : rs_St × rs_St} (hX : rs_IX ts run S.1) (hM : rs_IM ts run S.2) (k440 : rs_K l D dB dI a b E z i) : rs_J (rs_GL l D dB dI a b) E 427 [(3, .int (nI i)), (2, .ref (b 0)), (1, .ref (a 0)), (0, .ref z)] [] S := by
  refine rj_aload_n (pc := 427) F dL_law_427 rfl ?_
  refine rl_cX0 (pc := 428) F K (ct_X0_over l D dB dI a hX) (lw_V q167 q168 q169 q16 q170) (by decide +kernel) ⟨rfl, rfl⟩ ⟨Nat.le_of_ble_eq_true rfl, Nat.le_of_ble_eq_true rfl⟩ (Nat.le_of_ble_eq_true rfl) dL_law_428 (fun rX SX hp => ?_)
  obtain ⟨rfl, rfl⟩ := hp
  refine rj_aload_n (pc := 431) F dL_law_431 rfl ?_
  refine rl_cM0 (pc := 432) F K (ct_X1_over l D dI b hM) (lw_V q309 q310 q311 q17 q312) (by decide +kernel) ⟨rfl, rfl⟩ ⟨Nat.le_of_ble_eq_true rfl, Nat.le_of_ble_eq_true rfl⟩ (Nat.le_of_ble_eq_true rfl) dL_law_432 (fun rM SM hp => ?_)
  obtain ⟨rfl, hM⟩ := hp
  refine rj_icmp_eq (pc := 435) (tgt := 440) F dL_law_435 (by decide) (fun c435 => ?_) (fun c435 => ?_)
  · exact k440 _ _ (S.1, SM) hX hM
  · exact absurd rfl c435
theorem rs_i4 (i : Nat) : nI i + Int32.ofInt 4 = nI (i + 4) := nI_add i 4
set_option maxHeartbeats 4000000 in
theorem rs_loop (hL : L ≤ 256) (F : rs_Fx E cL_law R_law 4 room_1) (K : rs_Kx (rs_GL l D dB dI a b) E) (X : rs_Xx E z L xs) (Rr : ∀ (lv : List (Nat × Value)) (S : rs_St × rs_St), rs_J (rs_GL l D dB dI a b) E 447 lv [.int (nI 1)] S) : ∀ (n i : Nat) (ts : List Nat) (run : rs_Rn) (S : rs_St × rs_St), i ≤ L → L + 1 ≤ i + n → rs_IX ts run S.1 → rs_IM ts run S.2 → rs_J (rs_GL l D dB dI a b) E 18 [(3, .int (nI i)), (2, .ref (b 0)), (1, .ref (a 0)), (0, .ref z)] [] S := by
  intro n
  induction n with
  | zero => intro i ts run S h1 h2; omega
  | succ n ih =>
    intro i ts run S h1 h2 hX hM
    refine rj_iload_n (pc := 18) F dL_law_18 rfl ?_
    refine rj_aload_n (pc := 19) F dL_law_19 rfl ?_
    refine rl_len (pc := 20) F X dL_law_20 ?_
    refine rj_iconst (pc := 21) (v := nI 4) F dL_law_21 (by decide) ?_
    refine rj_isub (pc := 22) F dL_law_22 ?_
    refine rj_icmp_gt (pc := 23) (tgt := 446) F dL_law_23 (by decide) (fun c23 => ?_) (fun c23 => ?_)
    · refine rj_iconst (pc := 446) (v := nI 1) F dL_law_446 (by decide) ?_
      exact Rr _ _
    · have hi : i + 4 ≤ L := by
        rw [Int32.lt_iff_toInt_lt, pk_sub_toInt (by omega) (by omega), nI_toInt (by omega)] at c23
        omega
      have k440 : rs_K l D dB dI a b E z i := by
        intro ts' run' S' hX' hM'
        refine rj_iinc (pc := 440) F dL_law_440 rfl (by decide) (rs_i4 i) ?_
        refine rj_goto (pc := 443) (tgt := 18) F dL_law_443 (by decide) ?_
        exact rj_to4 (ih (i + 4) ts' run' S' (by omega) (by omega) hX' hM') rfl rfl rfl rfl
      refine rj_aload_n (pc := 26) F dL_law_26 rfl ?_
      refine rj_iload_n (pc := 27) F dL_law_27 rfl ?_
      refine rl_ld (pc := 28) F X dL_law_28 rfl (by omega) (by omega) ?_
      refine rj_bipush (pc := 29) (v := nI 15) F dL_law_29 (by decide) ?_
      obtain ⟨k, hk, ek⟩ := pk_andE (xs i) (m := nI 15) 4 (by decide)
      refine rj_iandE (pc := 31) F dL_law_31 ek ?_
      have hk16 : k = 0 ∨ k = 1 ∨ k = 2 ∨ k = 3 ∨ k = 4 ∨ k = 5 ∨ k = 6 ∨ k = 7 ∨ k = 8 ∨ k = 9 ∨ k = 10 ∨ k = 11 ∨ k = 12 ∨ k = 13 ∨ k = 14 ∨ k = 15 := by omega
      rcases hk16 with rfl | rfl | rfl | rfl | rfl | rfl | rfl | rfl | rfl | rfl | rfl | rfl | rfl | rfl | rfl | rfl
      · exact rl_tab (pc := 32) (tgt := 112) F dL_law_32 (by decide) rfl (by decide) (rs_l_write hL F K X hi hX hM k440)
      · exact rl_tab (pc := 32) (tgt := 135) F dL_law_32 (by decide) rfl (by decide) (rs_l_rub hL F K X hi hX hM k440)
      · exact rl_tab (pc := 32) (tgt := 148) F dL_law_32 (by decide) rfl (by decide) (rs_l_complete hL F K X hi hX hM k440)
      · exact rl_tab (pc := 32) (tgt := 161) F dL_law_32 (by decide) rfl (by decide) (rs_l_fixed hL F K X hi hX hM k440)
      · exact rl_tab (pc := 32) (tgt := 184) F dL_law_32 (by decide) rfl (by decide) (rs_l_fit hL F K X hi hX hM k440)
      · exact rl_tab (pc := 32) (tgt := 197) F dL_law_32 (by decide) rfl (by decide) (rs_l_size hL F K X hi hX hM k440)
      · exact rl_tab (pc := 32) (tgt := 220) F dL_law_32 (by decide) rfl (by decide) (rs_l_start hL F K X hi hX hM k440)
      · exact rl_tab (pc := 32) (tgt := 233) F dL_law_32 (by decide) rfl (by decide) (rs_l_runs hL F K X hi hX hM k440)
      · exact rl_tab (pc := 32) (tgt := 246) F dL_law_32 (by decide) rfl (by decide) (rs_l_possible hL F K X hi hX hM k440)
      · exact rl_tab (pc := 32) (tgt := 289) F dL_law_32 (by decide) rfl (by decide) (rs_l_send hL F K X hi hX hM k440)
      · exact rl_tab (pc := 32) (tgt := 332) F dL_law_32 (by decide) rfl (by decide) (rs_l_duty hL F K X hi hX hM k440)
      · exact rl_tab (pc := 32) (tgt := 355) F dL_law_32 (by decide) rfl (by decide) (rs_l_labels hL F K X hi hX hM k440)
      · exact rl_tab (pc := 32) (tgt := 378) F dL_law_32 (by decide) rfl (by decide) (rs_l_rest hL F K X hi hX hM k440)
      · exact rl_tab (pc := 32) (tgt := 401) F dL_law_32 (by decide) rfl (by decide) (rs_l_choices hL F K X hi hX hM k440)
      · exact rl_tab (pc := 32) (tgt := 414) F dL_law_32 (by decide) rfl (by decide) (rs_l_sent hL F K X hi hX hM k440)
      · exact rl_tab (pc := 32) (tgt := 427) F dL_law_32 (by decide) rfl (by decide) (rs_l_over hL F K X hi hX hM k440)
end LC
end
section
/-! the start: the two objects are made, then the loop -/
theorem rs_arr {args : Array Value} {s : State} {ty : FieldType} (h : (Cond.arrayClass ty).before args s = true) : ∃ cA : ClassId, ArrOfT s cA ty ∧ s.vm.findClass ("[" ++ ty.toString) = some cA := by
  obtain ⟨cA, kA, comp, h1, h2, h3⟩ := Cond.arrayClass_spec h
  exact ⟨cA, fun n z => ⟨fun k h => (by cases h), kA, h2, comp, h3⟩, h1⟩
theorem rs_IX0 : rs_IX [] none rs_S0 := ⟨⟨by decide, fun t h => (by cases h), trivial⟩, fun g n e => (by cases e), nI_0.symm, fun j hj => absurd hj (Nat.not_lt_zero _), nI_0.symm, nI_0.symm, Or.inl ⟨nI_0.symm, rfl⟩⟩
theorem rs_IM0 : rs_IM [] none rs_S0 := ⟨⟨by decide, fun t h => (by cases h), trivial⟩, fun g n e => (by cases e), nI_0.symm, fun j hj => absurd hj (Nat.not_lt_zero _), nI_0.symm⟩
set_option maxHeartbeats 8000000 in
set_option maxRecDepth 100000 in
theorem whole_start {p : Program} {e : Env} {s : State} {m : MethodId} {below : List Frame} {meth : Method} {c : Code} (l : Launch) {b L : Nat} {xs : Nat → Int32} (hL : L ≤ 256) (C0 : lw_At p s m meth c b L xs) : W p l e room_1 s m #[Value.ref b] below meth c s.heap [] 0 0 (lw_Z below #[Value.ref b] s) (entryFrame m ([Value.ref b] : List Value).toArray 4) := by
  obtain ⟨hx, hb, hr, hml, hown, hts0, hX, hbl, hlocks, hgv⟩ := id C0
  have hts : ∀ w ∈ lw_all, w.before #[Value.ref b] s = true := fun w h => hts0 w (lw_all_tbl h)
  have hA : ∀ q : Nat, s.heap.size ≤ q → (fun q : Nat => s.heap.size ≤ q) q := fun _ h => h
  have hbA : ¬ (fun q : Nat => s.heap.size ≤ q) b := Nat.not_le.mpr hbl
  obtain ⟨c0, iS0, hKn0⟩ := u_known (C := RX0) (T := TX0) (N := 13) (n := 13) hts in_X0 (hts _ q19)
  obtain ⟨c1, iS1, hKn1⟩ := u_known (C := RX1) (T := TX1) (N := 9) (n := 9) hts in_X1 (hts _ q172)
  obtain ⟨dB, hB1, hB2⟩ := rs_arr (hts _ q66)
  obtain ⟨dI, hI1, hI2⟩ := rs_arr (hts _ q67)
  obtain ⟨D, hKc⟩ : ∃ D : va_G, ∀ (k : Nat) (q : vw_C), rs_cl[k]? = some q → u_Kn s q.1 q.2.1 q.2.2 (D.1 k) (D.2 k) := by
    refine ⟨(fun k => if k = 0 then c0 else c1, fun k => if k = 0 then iS0 else iS1), ?_⟩
    intro k q hq
    match k, hq with
    | 0, hq => cases hq; exact hKn0
    | 1, hq => cases hq; exact hKn1
    | k + 2, hq => simp [rs_cl] at hq
  have hS : va_S (fun q : Nat => s.heap.size ≤ q) s.heap s.heap [] := va_S.rf
  have hK : va_K D rs_cl [(dB, .byte), (dI, .int)] s := ⟨hKc, fun k q h => by
    match k, h with
    | 0, h => cases h; exact ⟨hB1, hB2⟩
    | 1, h => cases h; exact ⟨hI1, hI2⟩
    | k + 2, h => simp at h⟩
  have hP : va_P D rs_cl [] s.heap := fun k q h => by simp at h
  have hD : va_D (fun q : Nat => s.heap.size ≤ q) [] := ⟨fun i j p q h => by simp at h, fun k q h => by simp at h⟩
  have hl := lv_entry ([.ref b]) (n := 4) (Nat.le_of_ble_eq_true rfl)
  rw [lg_entry_eq]
  generalize (lg_sl ([.ref b]) ++ List.replicate (4 - (lg_sl ([.ref b])).length) Slot.unset).toArray = ls at hl ⊢
  have hl : lv_has ls 4 [(0, .ref b)] := hl
  refine va_new (D := D) (ci := 0) (fs := [.int 0, .null, .int 0, .null, .null, .int 0, .null, .null, .null, .null, .int 0, .null, .int 0]) (C := RX0) (T := TX0) (N := 13) hx hb hts in_X0 tyX0 tyX0_ok hown (hts _ q18) (hts _ q19) (hts _ q16) hK hP hD hS hA rfl (fun j hj => by rcases (show j = 0 ∨ j = 1 ∨ j = 2 ∨ j = 3 ∨ j = 4 ∨ j = 5 ∨ j = 6 ∨ j = 7 ∨ j = 8 ∨ j = 9 ∨ j = 10 ∨ j = 11 ∨ j = 12 by omega) with rfl | rfl | rfl | rfl | rfl | rfl | rfl | rfl | rfl | rfl | rfl | rfl | rfl <;> rfl) (Nat.le_of_ble_eq_true rfl) (Nat.le_of_ble_eq_true rfl) dL_law_0 (fun qX H hP hD hS => ?_)
  have hP : va_P D rs_cl (rs_nX qX) H := hP
  have hD : va_D (fun q : Nat => s.heap.size ≤ q) (rs_nX qX) := hD
  refine W.widen (k := 1) (n := 13) (by omega) (by omega) ?_
  refine lv_dup hx hb dL_law_3 rfl ?_
  have hPc := hP
  have hDc := hD
  have hKc := hK
  have hFc := va_free (wc := rs_nX qX) hD hS hA [0] rfl
  refine va_callv (va_runI (As := []) (rest := [.ref qX]) ⟨hx, hb, hml, hown, hts⟩ (ct_X0_init l D dB dI qX H.size) (cwI 0 hts (lw_meth q22) rfl rfl rfl (hts _ q16) (hts _ q20) (hts _ q21) rfl (by decide +kernel) ⟨Nat.le_of_ble_eq_true rfl, Nat.le_of_ble_eq_true rfl⟩) ⟨fun a U g mk q => by obtain ⟨q0, q1, qP, qK, qD⟩ := q; exact ⟨q0, q1, qP, va_K.moved (u := U) (U := U.calling g mk a) (Vm.Alike.refl U.vm) qK, qD⟩, fun U hU hW => ⟨rfl, by rw [hU], by rw [hU]; exact hPc, va_K.moved hW.alike hKc, hDc.weaken (fun _ _ _ _ => trivial)⟩⟩ rfl rfl hl.1 rfl (lv_room (Nat.le_of_ble_eq_true rfl)) dL_law_4 ⟨Nat.le_of_ble_eq_true rfl, Nat.le_of_ble_eq_true rfl⟩) hS (fun q _ h => hFc q h) hFc (fun a t H1 locs ht hvm ha hB hz1 hk1 hS => ?_)
  obtain ⟨hP1, hK1, hD1⟩ := hB
  rw [ht] at hP1
  obtain ⟨hPn, hDn⟩ := va_join (wr := []) (w1 := rs_wX dB dI a rs_S0) hP hD [0] [] rfl rfl (by decide) (by decide) hk1 hFc hP1 hD1
  clear hPc hDc hKc hFc hP1 hK1 hD1 hk1 hz1 ht hP hD
  have ha : a 0 = qX := ha
  subst ha
  have hP : va_P D rs_cl (rs_wX dB dI a rs_S0) H1 := hPn
  have hD : va_D (fun q : Nat => s.heap.size ≤ q) (rs_wX dB dI a rs_S0) := hDn
  refine lv_astore_n (lv' := [(1, .ref (a 0)), (0, .ref b)]) hx hb dL_law_7 rfl hl (by decide) rfl (fun ls hl => ?_)
  refine va_new (D := D) (ci := 1) (fs := [.null, .null, .int 0, .int 0, .int 0, .null, .int 0, .null, .null]) (C := RX1) (T := TX1) (N := 9) hx hb hts in_X1 tyX1 tyX1_ok hown (hts _ q171) (hts _ q172) (hts _ q17) hK hP hD hS hA rfl (fun j hj => by rcases (show j = 0 ∨ j = 1 ∨ j = 2 ∨ j = 3 ∨ j = 4 ∨ j = 5 ∨ j = 6 ∨ j = 7 ∨ j = 8 by omega) with rfl | rfl | rfl | rfl | rfl | rfl | rfl | rfl | rfl <;> rfl) (Nat.le_of_ble_eq_true rfl) (Nat.le_of_ble_eq_true rfl) dL_law_8 (fun qM H hP hD hS => ?_)
  have hP : va_P D rs_cl (rs_wX dB dI a rs_S0 ++ rs_nM qM) H := hP
  have hD : va_D (fun q : Nat => s.heap.size ≤ q) (rs_wX dB dI a rs_S0 ++ rs_nM qM) := hD
  refine lv_dup hx hb dL_law_11 rfl ?_
  have hPc := hP.sub (ws' := rs_nM qM) [9] rfl
  have hDc := hD.sub (ws' := rs_nM qM) [9] (by decide) rfl
  have hKc := hK.sub (tys' := [(dI, .int)]) [1] rfl
  have hFc := va_free (wc := rs_nM qM) hD hS hA [9] rfl
  refine va_callv (va_runI (As := []) (rest := [.ref qM]) ⟨hx, hb, hml, hown, hts⟩ (ct_X1_init l D dI qM H.size) (cwI 0 hts (lw_meth q175) rfl rfl rfl (hts _ q17) (hts _ q173) (hts _ q174) rfl (by decide +kernel) ⟨Nat.le_of_ble_eq_true rfl, Nat.le_of_ble_eq_true rfl⟩) ⟨fun a U g mk q => by obtain ⟨q0, q1, qP, qK, qD⟩ := q; exact ⟨q0, q1, qP, va_K.moved (u := U) (U := U.calling g mk a) (Vm.Alike.refl U.vm) qK, qD⟩, fun U hU hW => ⟨rfl, by rw [hU], by rw [hU]; exact hPc, va_K.moved hW.alike hKc, hDc.weaken (fun _ _ _ _ => trivial)⟩⟩ rfl rfl hl.1 rfl (lv_room (Nat.le_of_ble_eq_true rfl)) dL_law_12 ⟨Nat.le_of_ble_eq_true rfl, Nat.le_of_ble_eq_true rfl⟩) hS (fun q _ h => hFc q h) hFc (fun g t H1 locs ht hvm hg hB hz1 hk1 hS => ?_)
  obtain ⟨hP1, hK1, hD1⟩ := hB
  rw [ht] at hP1
  obtain ⟨hPn, hDn⟩ := va_join (wr := rs_wX dB dI a rs_S0) (w1 := rs_wM dI g rs_S0) hP hD [9] [0, 1, 2, 3, 4, 5, 6, 7, 8] rfl rfl (by decide) (by decide) hk1 hFc hP1 hD1
  clear hPc hDc hKc hFc hP1 hK1 hD1 hk1 hz1 ht hP hD
  have hg : g 0 = qM := hg
  subst hg
  refine lv_astore_n (lv' := [(2, .ref (g 0)), (1, .ref (a 0)), (0, .ref b)]) hx hb dL_law_15 rfl hl (by decide) rfl (fun ls hl => ?_)
  refine W.widen (k := 600000) (n := 7290000) (Nat.le_of_ble_eq_true rfl) (Nat.le_of_ble_eq_true rfl) ?_
  have F : rs_Fx (p, e, room_1, s, m, #[Value.ref b], below, meth, c, lw_Z below #[Value.ref b] s, (fun q : Nat => s.heap.size ≤ q), 4, 600000, 7290000) cL_law R_law 4 room_1 := ⟨hx, hb, hml, rfl, hown, hts, rfl, Nat.le_of_ble_eq_true rfl, Nat.le_of_ble_eq_true rfl⟩
  have K : rs_Kx (rs_GL l D dB dI a g) (p, e, room_1, s, m, #[Value.ref b], below, meth, c, lw_Z below #[Value.ref b] s, (fun q : Nat => s.heap.size ≤ q), 4, 600000, 7290000) := ⟨hK, hA⟩
  have X : rs_Xx (p, e, room_1, s, m, #[Value.ref b], below, meth, c, lw_Z below #[Value.ref b] s, (fun q : Nat => s.heap.size ≤ q), 4, 600000, 7290000) b L xs := ⟨hX, hbl, hbA⟩
  have Rr : ∀ (lv : List (Nat × Value)) (S : rs_St × rs_St), rs_J (rs_GL l D dB dI a g) (p, e, room_1, s, m, #[Value.ref b], below, meth, c, lw_Z below #[Value.ref b] s, (fun q : Nat => s.heap.size ≤ q), 4, 600000, 7290000) 447 lv [.int (nI 1)] S := by
    intro lv S H locs ls hP hD hS hl
    refine va_forget (fun q hq => hS.2.2 q hq) ?_
    exact lw_ret hx hb hr hlocks dL_law_447
  have J : rs_J (rs_GL l D dB dI a g) (p, e, room_1, s, m, #[Value.ref b], below, meth, c, lw_Z below #[Value.ref b] s, (fun q : Nat => s.heap.size ≤ q), 4, 600000, 7290000) 16 [(2, .ref (g 0)), (1, .ref (a 0)), (0, .ref b)] [] (rs_S0, rs_S0) := by
    refine rj_iconst (pc := 16) (v := nI 0) F dL_law_16 (by decide) ?_
    refine rj_istore_n (pc := 17) F dL_law_17 (by decide) ?_
    exact rs_loop hL F K X Rr (L + 1) 0 [] none (rs_S0, rs_S0) (Nat.zero_le _) (by omega) rs_IX0 rs_IM0
  exact J H1 locs ls hPn hDn hS (rs_lh_of hl rfl)
set_option maxHeartbeats 4000000 in
theorem lw_walk (l : Launch) (b : Addr) (xs : List Int32) : MetFree l x (headSpec (Jvm.Cond.code x code maxLocals ret :: tables_1) room_1) (lw_P b xs) (fun _ _ _ _ _ => True) lw_Q := by
  refine MetFree.of_bodyS (code := code) (maxLocals := maxLocals) (ret := ret) (by decide) ?_ ?_
  · intro args s m h hn
    obtain ⟨meth, c, h1, h2, h3, h4, h5, h6, -, -⟩ := Cond.code_spec hn (atoms_spec (ws := Jvm.Cond.code x code maxLocals ret :: tables_1) h _ List.mem_cons_self)
    exact ⟨meth, c, h1, h2, h3, h4, h5, h6⟩
  · intro p e s m args below meth c s₁ B hml0 hP _
    obtain ⟨rfl, hx, hbd, hgv⟩ := hP
    obtain ⟨scr, harrAt, hlist, hof, hsmall⟩ := hx
    obtain ⟨hcb, hkn, -, -⟩ := State.arrayAt?_spec harrAt
    have hown : s.vm.findClass R_law = some m.cls := findClass_of_methodNamed B.named
    have hts0 : ∀ c ∈ (Jvm.Cond.code x code maxLocals ret :: tables_1), c.before #[Value.ref b] s = true := atoms_spec (ws := Jvm.Cond.code x code maxLocals ret :: tables_1) B.pre
    have hts : ∀ w ∈ lw_tbl, w.before #[Value.ref b] s = true := k2_hts_sels lw_privs (fun w hw => hts0 w (List.mem_cons_of_mem _ hw)) lw_privs_ok
    have hml : c.maxLocals = 4 := B.maxLocals_eq (hts0 _ List.mem_cons_self)
    have X₀ : Stand p l e room_1 s m #[Value.ref b] below meth c s₁ [] 0 0 := Stand.of_body B
    have hh0 : s₁.heap = s.heap := by rw [B.state]; rfl
    have hsz : scr.slots.size = xs.length := by rw [← Array.length_toList, hlist, List.length_map]
    have hval : ∀ j : Nat, j < xs.length → scr.slots[j]? = some (.int (xs.getD j 0)) := fun j hj => by
      rw [← Array.getElem?_toList, hlist]
      simp [hj]
    have hbl : b < s.heap.size := (Array.getElem?_eq_some_iff.mp hcb).1
    have hX : va_X b xs.length (fun j => xs.getD j 0) s s.heap := ⟨scr, hcb, hof, hkn, hsz, hval⟩
    have K : W p l e room_1 s m #[Value.ref b] below meth c s₁.heap [] 0 0 (lw_Z below #[Value.ref b] s) (entryFrame m ([Value.ref b] : List Value).toArray 4) := by
      rw [hh0]
      exact whole_start l hbd ⟨B.exec, B.bytes, B.returns, hml, hown, hts, hX, hbl, B.notSynchronized, hgv⟩
    obtain ⟨t, a1, o, b1, b2, b3⟩ := K s₁ rfl X₀
    exact ⟨t, o, a1, b1, b2, b3⟩
theorem lw_pre_spec {args : Array Value} {s : State} (h : (Jvm.Cond.and given_1 narrow_1).before args s = true) (hr : rest_1_c.before args s = true) : ∃ (b : Addr) (xs : List Int32), lw_P b xs args s := by
  have hs := flat_of_before _ h
  have hq := flat_of_before _ hr
  have hc : (Cond.count 1).before args s = true := hs _ (by decide +kernel)
  have harr : (Cond.arrayOf (.arg 0) .int).before args s = true := hs _ (by decide +kernel)
  have hle : (Cond.le (.length (.arg 0)) (.int 256)).before args s = true := hs _ (by decide +kernel)
  have hlen : (Cond.isInt (.length (.arg 0))).before args s = true := hq _ (by decide +kernel)
  have hall : (Cond.all (.arg 0) (.isInt (.elem (.arg 0) (.index 0)))).before args s = true := hq _ (by decide +kernel)
  obtain ⟨b, xs, hb, hx⟩ := State.ints_of_pre rfl harr hlen hall
  have hsm : xs.length < 2 ^ 31 := hx.choose_spec.2.2.2
  have hev : (Term.length (.arg 0)).eval args s none [] s = some (.int xs.length.toInt32) := hx.length_eval hb
  have hv := Cond.le_ints hev (show (Term.int 256).eval args s none [] s = some (.int 256) from rfl)
  have hd : xs.length.toInt32 ≤ 256 := by
    simpa [Cond.before, Cond.holds, hv] using hle
  have hN : xs.length ≤ 256 := (Int32.ofNat_le_ofNat hsm (by decide)).mp (show Int32.ofNat xs.length ≤ Int32.ofNat 256 from hd)
  exact ⟨b, xs, Cond.one_arg hc (show args[0]? = some (.ref b) from hb), hx, hN, h⟩
theorem lw_comes (l : Launch) : Comes l x (Jvm.Cond.code x code maxLocals ret :: tables_1) room_1 (fun tb e args s => Calls_1 tb e args s ∧ rest_1 tb e args s ∧ Pre_1 tb e args s)
    (fun _ _ args s o t => lw_Q args s o t) := by
  intro p e ha hc hk s m args below hf hfit hheap happ hpre
  obtain ⟨b, xs, hP⟩ := lw_pre_spec hpre.2.2 hpre.2.1
  obtain ⟨k, o, h1, h2, h3, hQ⟩ := lw_walk l b xs p e ha hc hk s m args below hf ((Spec.applies_iff_loose hf).mp happ).1 hP trivial
  exact ⟨k, o, h1, h2, h3, hQ⟩
theorem lw_frame {s t : State} {o : Outcome} {args : Array Value} (h : Framed s o t [] 600000 7290000) :
    Framed s o t (fieldLocs frame_1_writes args s ++ arrayLocs frame_1_arrays args s ++ staticLocs frame_1_statics s) 600000 7290000 := h
theorem lw_limb (L : Cond) (hL : ∀ (args : Array Value) (s t : State), L.after args s (.returned (some (.int 1))) t = true) :
    ArmFor flags0 classFile x code maxLocals ret World_1 tables_1 room_1 Calls_1 rest_1 Pre_1
      (fun tb e a s o t => postC L tb e a s o t ∧ Framed s o t (fieldLocs frame_1_writes a s ++ arrayLocs frame_1_arrays a s ++ staticLocs frame_1_statics s) 600000 7290000) := by
  intro l _ _ _ p e ha hc hk s m args below hf hfit hheap happ hpre
  obtain ⟨k, o, h1, h2, h3, rfl, hF⟩ := lw_comes l p e ha hc hk s m args below hf hfit hheap happ hpre
  exact ⟨k, _, h1, h2, h3, hL args s _, lw_frame hF⟩
theorem i_vc : Claimed_1_1 ∧ Claimed_1_2 := ⟨lw_limb limb_1_1 (fun args s t => by simp [limb_1_1, Cond.after, Cond.holds, Cond.value]), lw_limb limb_1_2 (fun args s t => Cond.after_iff.mpr (by
  first | (rw [show limb_1_2 = Cond.eq .result (.int 1) from rfl, Cond.eq_ints (x := 1) (y := 1) rfl rfl]; simp; done) | (simp [limb_1_2, Cond.value, Term.eval]; done)))⟩
end
