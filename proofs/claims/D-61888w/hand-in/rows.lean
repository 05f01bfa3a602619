section
-- ===== PART A: goes FIRST, ahead of the names: the tables' words, and 'selects' of the private methods out of them =====
/-- a private method of a class that the tables say can be made, by its rows of tables_1 -/
def lw_okq (q : MethodName × Nat) : Prop := (q.1.cls ≠ "java/lang/invoke/MethodHandle" ∧ q.1.cls ≠ "java/lang/invoke/VarHandle") ∧ Cond.instantiable q.1.cls q.2 ∈ tables_1 ∧ Cond.privateMethod q.1 ∈ tables_1 ∧ Cond.instanceMethod q.1 ∈ tables_1
set_option maxRecDepth 100000
theorem lw_p0 : lw_okq (⟨"PeerRoutes", "find", "(II)I"⟩, 14) := ⟨⟨by decide +kernel, by decide +kernel⟩, List.mem_of_getElem? (i := 4) rfl, List.mem_of_getElem? (i := 65) rfl, List.mem_of_getElem? (i := 66) rfl⟩
theorem lw_p1 : lw_okq (⟨"PeerRoutes", "covers", "(II)Z"⟩, 14) := ⟨⟨by decide +kernel, by decide +kernel⟩, List.mem_of_getElem? (i := 4) rfl, List.mem_of_getElem? (i := 69) rfl, List.mem_of_getElem? (i := 70) rfl⟩
theorem lw_p2 : lw_okq (⟨"PeerRoutes", "insert", "(III)V"⟩, 14) := ⟨⟨by decide +kernel, by decide +kernel⟩, List.mem_of_getElem? (i := 4) rfl, List.mem_of_getElem? (i := 76) rfl, List.mem_of_getElem? (i := 77) rfl⟩
theorem lw_p3 : lw_okq (⟨"PeerRoutes", "newNode", "(III)I"⟩, 14) := ⟨⟨by decide +kernel, by decide +kernel⟩, List.mem_of_getElem? (i := 4) rfl, List.mem_of_getElem? (i := 80) rfl, List.mem_of_getElem? (i := 81) rfl⟩
theorem lw_p4 : lw_okq (⟨"PeerRoutes", "lead", "(III)V"⟩, 14) := ⟨⟨by decide +kernel, by decide +kernel⟩, List.mem_of_getElem? (i := 4) rfl, List.mem_of_getElem? (i := 84) rfl, List.mem_of_getElem? (i := 85) rfl⟩
theorem lw_p5 : lw_okq (⟨"PeerRoutes", "takeOut", "(I)V"⟩, 14) := ⟨⟨by decide +kernel, by decide +kernel⟩, List.mem_of_getElem? (i := 4) rfl, List.mem_of_getElem? (i := 95) rfl, List.mem_of_getElem? (i := 96) rfl⟩
theorem lw_p6 : lw_okq (⟨"PeerRoutes", "release", "(I)V"⟩, 14) := ⟨⟨by decide +kernel, by decide +kernel⟩, List.mem_of_getElem? (i := 4) rfl, List.mem_of_getElem? (i := 99) rfl, List.mem_of_getElem? (i := 100) rfl⟩
theorem lw_p7 : lw_okq (⟨"PeerRoutes", "settling", "(I)I"⟩, 14) := ⟨⟨by decide +kernel, by decide +kernel⟩, List.mem_of_getElem? (i := 4) rfl, List.mem_of_getElem? (i := 111) rfl, List.mem_of_getElem? (i := 112) rfl⟩
theorem lw_p8 : lw_okq (⟨"PeerRoutes", "settleAll", "()V"⟩, 14) := ⟨⟨by decide +kernel, by decide +kernel⟩, List.mem_of_getElem? (i := 4) rfl, List.mem_of_getElem? (i := 123) rfl, List.mem_of_getElem? (i := 124) rfl⟩
theorem lw_p9 : lw_okq (⟨"PeerRoutes", "visit", "(II)I"⟩, 14) := ⟨⟨by decide +kernel, by decide +kernel⟩, List.mem_of_getElem? (i := 4) rfl, List.mem_of_getElem? (i := 128) rfl, List.mem_of_getElem? (i := 129) rfl⟩
theorem lw_p10 : lw_okq (⟨"PeerRoutes", "nextEdge", "(I)I"⟩, 14) := ⟨⟨by decide +kernel, by decide +kernel⟩, List.mem_of_getElem? (i := 4) rfl, List.mem_of_getElem? (i := 137) rfl, List.mem_of_getElem? (i := 138) rfl⟩
theorem lw_p11 : lw_okq (⟨"PeerRoutesModel", "find", "(II)I"⟩, 4) := ⟨⟨by decide +kernel, by decide +kernel⟩, List.mem_of_getElem? (i := 149) rfl, List.mem_of_getElem? (i := 175) rfl, List.mem_of_getElem? (i := 176) rfl⟩
theorem lw_p12 : lw_okq (⟨"PeerRoutesModel", "drop", "(I)V"⟩, 4) := ⟨⟨by decide +kernel, by decide +kernel⟩, List.mem_of_getElem? (i := 149) rfl, List.mem_of_getElem? (i := 190) rfl, List.mem_of_getElem? (i := 191) rfl⟩
theorem lw_p13 : lw_okq (⟨"PeerRoutesModel", "longest", "(II)I"⟩, 4) := ⟨⟨by decide +kernel, by decide +kernel⟩, List.mem_of_getElem? (i := 149) rfl, List.mem_of_getElem? (i := 202) rfl, List.mem_of_getElem? (i := 203) rfl⟩
theorem lw_p14 : lw_okq (⟨"PeerRoutesModel", "covers", "(II)Z"⟩, 4) := ⟨⟨by decide +kernel, by decide +kernel⟩, List.mem_of_getElem? (i := 149) rfl, List.mem_of_getElem? (i := 206) rfl, List.mem_of_getElem? (i := 207) rfl⟩
theorem lw_p15 : lw_okq (⟨"PeerRoutesModel", "settled", "(I)I"⟩, 4) := ⟨⟨by decide +kernel, by decide +kernel⟩, List.mem_of_getElem? (i := 149) rfl, List.mem_of_getElem? (i := 218) rfl, List.mem_of_getElem? (i := 219) rfl⟩
def lw_privs_1 : List (MethodName × Nat) := [(⟨"PeerRoutes", "find", "(II)I"⟩, 14), (⟨"PeerRoutes", "covers", "(II)Z"⟩, 14), (⟨"PeerRoutes", "insert", "(III)V"⟩, 14), (⟨"PeerRoutes", "newNode", "(III)I"⟩, 14), (⟨"PeerRoutes", "lead", "(III)V"⟩, 14), (⟨"PeerRoutes", "takeOut", "(I)V"⟩, 14), (⟨"PeerRoutes", "release", "(I)V"⟩, 14), (⟨"PeerRoutes", "settling", "(I)I"⟩, 14), (⟨"PeerRoutes", "settleAll", "()V"⟩, 14), (⟨"PeerRoutes", "visit", "(II)I"⟩, 14), (⟨"PeerRoutes", "nextEdge", "(I)I"⟩, 14), (⟨"PeerRoutesModel", "find", "(II)I"⟩, 4), (⟨"PeerRoutesModel", "drop", "(I)V"⟩, 4), (⟨"PeerRoutesModel", "longest", "(II)I"⟩, 4), (⟨"PeerRoutesModel", "covers", "(II)Z"⟩, 4), (⟨"PeerRoutesModel", "settled", "(I)I"⟩, 4)]
theorem lw_r1 : ∀ q ∈ lw_privs_1, lw_okq q := List.forall_mem_cons.mpr ⟨lw_p0, List.forall_mem_cons.mpr ⟨lw_p1, List.forall_mem_cons.mpr ⟨lw_p2, List.forall_mem_cons.mpr ⟨lw_p3, List.forall_mem_cons.mpr ⟨lw_p4, List.forall_mem_cons.mpr ⟨lw_p5, List.forall_mem_cons.mpr ⟨lw_p6, List.forall_mem_cons.mpr ⟨lw_p7, List.forall_mem_cons.mpr ⟨lw_p8, List.forall_mem_cons.mpr ⟨lw_p9, List.forall_mem_cons.mpr ⟨lw_p10, List.forall_mem_cons.mpr ⟨lw_p11, List.forall_mem_cons.mpr ⟨lw_p12, List.forall_mem_cons.mpr ⟨lw_p13, List.forall_mem_cons.mpr ⟨lw_p14, List.forall_mem_cons.mpr ⟨lw_p15, fun _ h => absurd h List.not_mem_nil⟩⟩⟩⟩⟩⟩⟩⟩⟩⟩⟩⟩⟩⟩⟩⟩
def lw_privs : List (MethodName × Nat) := lw_privs_1
def lw_tbl : List Cond := k2_sels lw_privs ++ tables_1
theorem lw_privs_ok : ∀ q ∈ lw_privs, lw_okq q := lw_r1
-- ===== ONE list of words for every method: the tables' words that hold all through a run =====
def lw_all : List Cond := lw_tbl.filter goodWord
/-- a word of the tables by its place: claim/WORDS.tsv -/
theorem lw_w {w : Cond} (i : Nat) (h : lw_tbl[i]? = some w) (g : goodWord w = true) : w ∈ lw_all := List.mem_filter.mpr ⟨List.mem_of_getElem? h, g⟩
theorem lw_all_tbl {w : Cond} (h : w ∈ lw_all) : w ∈ lw_tbl := (List.mem_filter.mp h).1
theorem lw_self : GoodIn lw_all lw_all := fun w h => ⟨h, good_of_word (List.mem_filter.mp h).2⟩
/-- a class's field words, by their places -/
theorem lw_in (ws : List Cond) (ps : List Nat) (hp : ws = ps.filterMap (fun i => lw_tbl[i]?)) (hg : ws.all goodWord = true) : ∀ w ∈ ws, w ∈ lw_all := by
  intro w h
  have h1 := List.all_eq_true.mp hg w h
  rw [hp] at h
  obtain ⟨i, -, hi⟩ := List.mem_filterMap.mp h
  exact lw_w i hi h1
/-- the words of a contract for the method y with code b, L locals, answer r -/
abbrev ws_ (y : MethodName) (b : ByteArray) (L : Nat) (r : Option FieldType) : List Cond := Cond.code y b L r :: lw_all
theorem lw_meth {y : MethodName} {b : ByteArray} {L : Nat} {r : Option FieldType} (h : Cond.code y b L r ∈ lw_all) : GoodIn lw_all (ws_ y b L r) := by
  intro w hw
  rcases List.mem_cons.mp hw with e | e
  · rw [e]
    exact lw_self _ h
  · exact lw_self _ e
theorem lw_app {a c : List Cond} (ha : ∀ w ∈ a, w ∈ lw_all) (hc : GoodIn lw_all c) : GoodIn lw_all (a ++ c) := by
  intro w hw
  rcases List.mem_append.mp hw with e | e
  · exact lw_self w (ha w e)
  · exact hc w e
/-- what a call through an object asks: cwV n hts (lw_V ..) -/
theorem lw_V {own : String} {idx : Nat} {C : String} {y : MethodName} {b : ByteArray} {L : Nat} {r : Option FieldType} (h1 : Cond.methodLink own idx y ∈ lw_all) (h2 : Cond.instanceMethod y ∈ lw_all) (h3 : Cond.selects C y y ∈ lw_all) (h4 : Cond.initialized C ∈ lw_all) (h5 : Cond.code y b L r ∈ lw_all) : GoodIn lw_all (wsV own idx C y (ws_ y b L r)) := by
  refine lw_app ?_ (lw_meth h5)
  intro w hw
  simp only [List.mem_cons, List.not_mem_nil, or_false] at hw
  rcases hw with e | e | e | e
  · rw [e]; exact h1
  · rw [e]; exact h2
  · rw [e]; exact h3
  · rw [e]; exact h4
/-- what a static call asks: va_cwS n hts (lw_S ..) -/
theorem lw_S {own : String} {idx : Nat} {y : MethodName} {b : ByteArray} {L : Nat} {r : Option FieldType} (h1 : Cond.methodLink own idx y ∈ lw_all) (h2 : Cond.static y ∈ lw_all) (h3 : Cond.initialized y.cls ∈ lw_all) (h4 : Cond.code y b L r ∈ lw_all) : GoodIn lw_all (va_wsS own idx y (ws_ y b L r)) := by
  refine lw_app ?_ (lw_meth h4)
  intro w hw
  simp only [List.mem_cons, List.not_mem_nil, or_false] at hw
  rcases hw with e | e | e
  · rw [e]; exact h1
  · rw [e]; exact h2
  · rw [e]; exact h3
/-- the words of a contract for a method WITH HANDLERS (hh: its table) -/
abbrev wsW_ (y : MethodName) (b : ByteArray) (L : Nat) (r : Option FieldType) (hh : List (Nat × Nat × Nat × Nat)) : List Cond := Cond.codeWith y b L r hh :: lw_all
theorem lw_methW {y : MethodName} {b : ByteArray} {L : Nat} {r : Option FieldType} {hh : List (Nat × Nat × Nat × Nat)} (h : Cond.codeWith y b L r hh ∈ lw_all) : GoodIn lw_all (wsW_ y b L r hh) := by
  intro w hw
  rcases List.mem_cons.mp hw with e | e
  · rw [e]
    exact lw_self _ h
  · exact lw_self _ e
/-- any list of words by their places (lw_in), good -/
theorem lw_good {ws : List Cond} (h : ∀ w ∈ ws, w ∈ lw_all) : GoodIn lw_all ws := fun w hw => lw_self w (h w hw)
/-- what a call of a method with handlers asks: vx_cwVW n hts (lw_VW ..), vx_cwSW n hts (lw_SW ..) -/
theorem lw_VW {own : String} {idx : Nat} {C : String} {y : MethodName} {b : ByteArray} {L : Nat} {r : Option FieldType} {hh : List (Nat × Nat × Nat × Nat)} (h1 : Cond.methodLink own idx y ∈ lw_all) (h2 : Cond.instanceMethod y ∈ lw_all) (h3 : Cond.selects C y y ∈ lw_all) (h4 : Cond.initialized C ∈ lw_all) (h5 : Cond.codeWith y b L r hh ∈ lw_all) : GoodIn lw_all (wsV own idx C y (wsW_ y b L r hh)) := by
  refine lw_app ?_ (lw_methW h5)
  intro w hw
  simp only [List.mem_cons, List.not_mem_nil, or_false] at hw
  rcases hw with e | e | e | e
  · rw [e]; exact h1
  · rw [e]; exact h2
  · rw [e]; exact h3
  · rw [e]; exact h4
theorem lw_SW {own : String} {idx : Nat} {y : MethodName} {b : ByteArray} {L : Nat} {r : Option FieldType} {hh : List (Nat × Nat × Nat × Nat)} (h1 : Cond.methodLink own idx y ∈ lw_all) (h2 : Cond.static y ∈ lw_all) (h3 : Cond.initialized y.cls ∈ lw_all) (h4 : Cond.codeWith y b L r hh ∈ lw_all) : GoodIn lw_all (va_wsS own idx y (wsW_ y b L r hh)) := by
  refine lw_app ?_ (lw_methW h4)
  intro w hw
  simp only [List.mem_cons, List.not_mem_nil, or_false] at hw
  rcases hw with e | e | e
  · rw [e]; exact h1
  · rw [e]; exact h2
  · rw [e]; exact h3
/-- a word by its place in its run of the tables -/
theorem lw_at {r : List Cond} (hr : ∀ w ∈ r, w ∈ lw_tbl) {w : Cond} (i : Nat) (h : r[i]? = some w) : w ∈ lw_tbl := hr w (List.mem_of_getElem? h)
theorem lw_g {w : Cond} (h : w ∈ lw_tbl) (g : goodWord w = true) : w ∈ lw_all := List.mem_filter.mpr ⟨h, g⟩
theorem lw_ms : ∀ w ∈ k2_sels lw_privs, w ∈ lw_tbl := fun w h => show w ∈ k2_sels lw_privs ++ tables_1 from List.mem_append_left _ h
theorem lw_m0 : ∀ w ∈ tables_1, w ∈ lw_tbl := fun w h => show w ∈ k2_sels lw_privs ++ tables_1 from List.mem_append_right (k2_sels lw_privs) h
theorem qs0 : (Cond.selects "PeerRoutes" ⟨"PeerRoutes", "find", "(II)I"⟩ ⟨"PeerRoutes", "find", "(II)I"⟩) ∈ lw_all := lw_g (lw_at lw_ms 0 rfl) rfl
theorem qs1 : (Cond.selects "PeerRoutes" ⟨"PeerRoutes", "covers", "(II)Z"⟩ ⟨"PeerRoutes", "covers", "(II)Z"⟩) ∈ lw_all := lw_g (lw_at lw_ms 1 rfl) rfl
theorem qs2 : (Cond.selects "PeerRoutes" ⟨"PeerRoutes", "insert", "(III)V"⟩ ⟨"PeerRoutes", "insert", "(III)V"⟩) ∈ lw_all := lw_g (lw_at lw_ms 2 rfl) rfl
theorem qs3 : (Cond.selects "PeerRoutes" ⟨"PeerRoutes", "newNode", "(III)I"⟩ ⟨"PeerRoutes", "newNode", "(III)I"⟩) ∈ lw_all := lw_g (lw_at lw_ms 3 rfl) rfl
theorem qs4 : (Cond.selects "PeerRoutes" ⟨"PeerRoutes", "lead", "(III)V"⟩ ⟨"PeerRoutes", "lead", "(III)V"⟩) ∈ lw_all := lw_g (lw_at lw_ms 4 rfl) rfl
theorem qs5 : (Cond.selects "PeerRoutes" ⟨"PeerRoutes", "takeOut", "(I)V"⟩ ⟨"PeerRoutes", "takeOut", "(I)V"⟩) ∈ lw_all := lw_g (lw_at lw_ms 5 rfl) rfl
theorem qs6 : (Cond.selects "PeerRoutes" ⟨"PeerRoutes", "release", "(I)V"⟩ ⟨"PeerRoutes", "release", "(I)V"⟩) ∈ lw_all := lw_g (lw_at lw_ms 6 rfl) rfl
theorem qs7 : (Cond.selects "PeerRoutes" ⟨"PeerRoutes", "settling", "(I)I"⟩ ⟨"PeerRoutes", "settling", "(I)I"⟩) ∈ lw_all := lw_g (lw_at lw_ms 7 rfl) rfl
theorem qs8 : (Cond.selects "PeerRoutes" ⟨"PeerRoutes", "settleAll", "()V"⟩ ⟨"PeerRoutes", "settleAll", "()V"⟩) ∈ lw_all := lw_g (lw_at lw_ms 8 rfl) rfl
theorem qs9 : (Cond.selects "PeerRoutes" ⟨"PeerRoutes", "visit", "(II)I"⟩ ⟨"PeerRoutes", "visit", "(II)I"⟩) ∈ lw_all := lw_g (lw_at lw_ms 9 rfl) rfl
theorem qs10 : (Cond.selects "PeerRoutes" ⟨"PeerRoutes", "nextEdge", "(I)I"⟩ ⟨"PeerRoutes", "nextEdge", "(I)I"⟩) ∈ lw_all := lw_g (lw_at lw_ms 10 rfl) rfl
theorem qs11 : (Cond.selects "PeerRoutesModel" ⟨"PeerRoutesModel", "find", "(II)I"⟩ ⟨"PeerRoutesModel", "find", "(II)I"⟩) ∈ lw_all := lw_g (lw_at lw_ms 11 rfl) rfl
theorem qs12 : (Cond.selects "PeerRoutesModel" ⟨"PeerRoutesModel", "drop", "(I)V"⟩ ⟨"PeerRoutesModel", "drop", "(I)V"⟩) ∈ lw_all := lw_g (lw_at lw_ms 12 rfl) rfl
theorem qs13 : (Cond.selects "PeerRoutesModel" ⟨"PeerRoutesModel", "longest", "(II)I"⟩ ⟨"PeerRoutesModel", "longest", "(II)I"⟩) ∈ lw_all := lw_g (lw_at lw_ms 13 rfl) rfl
theorem qs14 : (Cond.selects "PeerRoutesModel" ⟨"PeerRoutesModel", "covers", "(II)Z"⟩ ⟨"PeerRoutesModel", "covers", "(II)Z"⟩) ∈ lw_all := lw_g (lw_at lw_ms 14 rfl) rfl
theorem qs15 : (Cond.selects "PeerRoutesModel" ⟨"PeerRoutesModel", "settled", "(I)I"⟩ ⟨"PeerRoutesModel", "settled", "(I)I"⟩) ∈ lw_all := lw_g (lw_at lw_ms 15 rfl) rfl
end
section
/-! PeerRoutes -/
set_option maxRecDepth 100000
def RX0 : String := "PeerRoutes"
def TX0 : u_T := fun k => match k with
  | 0 => ("PeerRoutes", "held", "I", false)
  | 1 => ("PeerRoutes", "root", "I", false)
  | 2 => ("PeerRoutes", "freeNode", "I", false)
  | 3 => ("PeerRoutes", "used", "[Z", true)
  | 4 => ("PeerRoutes", "bits", "[I", true)
  | 5 => ("PeerRoutes", "length", "[I", true)
  | 6 => ("PeerRoutes", "peerOf", "[I", true)
  | 7 => ("PeerRoutes", "child", "[I", true)
  | 8 => ("PeerRoutes", "above", "I", false)
  | 9 => ("PeerRoutes", "furtherUp", "I", false)
  | 10 => ("PeerRoutes", "sum", "[I", true)
  | 11 => ("PeerRoutes", "settled", "[I", true)
  | 12 => ("PeerRoutes", "heldAbove", "[I", true)
  | _ => ("PeerRoutes", "stack", "[I", true)
def tyX0 : Nat → FieldType := fun k => match k with
  | 0 => .int
  | 1 => .int
  | 2 => .int
  | 3 => .array .boolean
  | 4 => .array .int
  | 5 => .array .int
  | 6 => .array .int
  | 7 => .array .int
  | 8 => .int
  | 9 => .int
  | 10 => .array .int
  | 11 => .array .int
  | 12 => .array .int
  | _ => .array .int
abbrev wsX00 : List Cond := u_ws RX0 TX0 14
set_option maxRecDepth 100000 in
theorem nmX0 : ∀ a, a < 14 → ∀ b, b < 14 → a ≠ b → (TX0 a).2.1 ≠ (TX0 b).2.1 := by decide +kernel
set_option maxRecDepth 100000 in
theorem tyX0_ok : ∀ k, k < 14 → parseFieldDescriptor (TX0 k).2.2.1 = some (tyX0 k) := by decide +kernel
abbrev cX0_init : ByteArray := prog_1_method_1_code
def yX0_init : MethodName := ⟨RX0, "<init>", "()V"⟩
abbrev cX0_allow : ByteArray := prog_1_method_2_code
def yX0_allow : MethodName := ⟨RX0, "allow", "(III)I"⟩
abbrev cX0_cut : ByteArray := prog_1_method_11_code
def yX0_cut : MethodName := ⟨RX0, "cut", "(II)I"⟩
abbrev cX0_find : ByteArray := prog_1_method_15_code
def yX0_find : MethodName := ⟨RX0, "find", "(II)I"⟩
abbrev cX0_covers : ByteArray := prog_1_method_14_code
def yX0_covers : MethodName := ⟨RX0, "covers", "(II)Z"⟩
abbrev cX0_bitAt : ByteArray := prog_1_method_12_code
def yX0_bitAt : MethodName := ⟨RX0, "bitAt", "(II)I"⟩
abbrev cX0_insert : ByteArray := prog_1_method_20_code
def yX0_insert : MethodName := ⟨RX0, "insert", "(III)V"⟩
abbrev cX0_newNode : ByteArray := prog_1_method_18_code
def yX0_newNode : MethodName := ⟨RX0, "newNode", "(III)I"⟩
abbrev cX0_lead : ByteArray := prog_1_method_19_code
def yX0_lead : MethodName := ⟨RX0, "lead", "(III)V"⟩
abbrev cX0_common : ByteArray := prog_1_method_13_code
def yX0_common : MethodName := ⟨RX0, "common", "(III)I"⟩
abbrev cX0_deny : ByteArray := prog_1_method_3_code
def yX0_deny : MethodName := ⟨RX0, "deny", "(II)I"⟩
abbrev cX0_takeOut : ByteArray := prog_1_method_21_code
def yX0_takeOut : MethodName := ⟨RX0, "takeOut", "(I)V"⟩
abbrev cX0_release : ByteArray := prog_1_method_22_code
def yX0_release : MethodName := ⟨RX0, "release", "(I)V"⟩
abbrev cX0_forget : ByteArray := prog_1_method_4_code
def yX0_forget : MethodName := ⟨RX0, "forget", "(I)I"⟩
abbrev cX0_owner : ByteArray := prog_1_method_5_code
def yX0_owner : MethodName := ⟨RX0, "owner", "(I)I"⟩
abbrev cX0_settling : ByteArray := prog_1_method_16_code
def yX0_settling : MethodName := ⟨RX0, "settling", "(I)I"⟩
abbrev cX0_length : ByteArray := prog_1_method_6_code
def yX0_length : MethodName := ⟨RX0, "length", "(I)I"⟩
abbrev cX0_owned : ByteArray := prog_1_method_7_code
def yX0_owned : MethodName := ⟨RX0, "owned", "(I)I"⟩
abbrev cX0_settleAll : ByteArray := prog_1_method_23_code
def yX0_settleAll : MethodName := ⟨RX0, "settleAll", "()V"⟩
abbrev cX0_visit : ByteArray := prog_1_method_24_code
def yX0_visit : MethodName := ⟨RX0, "visit", "(II)I"⟩
abbrev cX0_next : ByteArray := prog_1_method_8_code
def yX0_next : MethodName := ⟨RX0, "next", "(II)I"⟩
abbrev cX0_nextEdge : ByteArray := prog_1_method_17_code
def yX0_nextEdge : MethodName := ⟨RX0, "nextEdge", "(I)I"⟩
abbrev cX0_useless : ByteArray := prog_1_method_9_code
def yX0_useless : MethodName := ⟨RX0, "useless", "()I"⟩
abbrev cX0_entries : ByteArray := prog_1_method_10_code
def yX0_entries : MethodName := ⟨RX0, "entries", "(I)I"⟩
end
section
set_option maxRecDepth 100000
theorem q17 : (Jvm.Cond.initialized "PeerRoutes") ∈ lw_all := lw_g (lw_at lw_m0 1 rfl) rfl
theorem q20 : (Jvm.Cond.instantiable "PeerRoutes" (14 : Nat)) ∈ lw_all := lw_g (lw_at lw_m0 4 rfl) rfl
theorem q22 : (Jvm.Cond.instanceMethod ({ cls := "PeerRoutes", name := "<init>", desc := "()V" } : Jvm.MethodName)) ∈ lw_all := lw_g (lw_at lw_m0 6 rfl) rfl
theorem q23 : (Jvm.Cond.code ({ cls := "PeerRoutes", name := "<init>", desc := "()V" } : Jvm.MethodName) prog_1_method_1_code (2 : Nat) (Option.none : Option Jvm.ClassFile.FieldType)) ∈ lw_all := lw_g (lw_at lw_m0 7 rfl) rfl
theorem q24 : (Jvm.Cond.methodLink "PeerRoutes" (1 : Nat) ({ cls := "java/lang/Object", name := "<init>", desc := "()V" } : Jvm.MethodName)) ∈ lw_all := lw_g (lw_at lw_m0 8 rfl) rfl
theorem q27 : (Jvm.Cond.fieldLink "PeerRoutes" (50 : Nat) "PeerRoutes" "held" "I") ∈ lw_all := lw_g (lw_at lw_m0 11 rfl) rfl
theorem q28 : (Jvm.Cond.fieldLink "PeerRoutes" (38 : Nat) "PeerRoutes" "root" "I") ∈ lw_all := lw_g (lw_at lw_m0 12 rfl) rfl
theorem q29 : (Jvm.Cond.fieldLink "PeerRoutes" (88 : Nat) "PeerRoutes" "freeNode" "I") ∈ lw_all := lw_g (lw_at lw_m0 13 rfl) rfl
theorem q30 : (Jvm.Cond.fieldLink "PeerRoutes" (7 : Nat) "PeerRoutes" "used" "[Z") ∈ lw_all := lw_g (lw_at lw_m0 14 rfl) rfl
theorem q31 : (Jvm.Cond.fieldLink "PeerRoutes" (13 : Nat) "PeerRoutes" "bits" "[I") ∈ lw_all := lw_g (lw_at lw_m0 15 rfl) rfl
theorem q32 : (Jvm.Cond.fieldLink "PeerRoutes" (17 : Nat) "PeerRoutes" "length" "[I") ∈ lw_all := lw_g (lw_at lw_m0 16 rfl) rfl
theorem q33 : (Jvm.Cond.fieldLink "PeerRoutes" (20 : Nat) "PeerRoutes" "peerOf" "[I") ∈ lw_all := lw_g (lw_at lw_m0 17 rfl) rfl
theorem q34 : (Jvm.Cond.fieldLink "PeerRoutes" (23 : Nat) "PeerRoutes" "child" "[I") ∈ lw_all := lw_g (lw_at lw_m0 18 rfl) rfl
theorem q35 : (Jvm.Cond.fieldLink "PeerRoutes" (78 : Nat) "PeerRoutes" "above" "I") ∈ lw_all := lw_g (lw_at lw_m0 19 rfl) rfl
theorem q36 : (Jvm.Cond.fieldLink "PeerRoutes" (81 : Nat) "PeerRoutes" "furtherUp" "I") ∈ lw_all := lw_g (lw_at lw_m0 20 rfl) rfl
theorem q37 : (Jvm.Cond.fieldLink "PeerRoutes" (26 : Nat) "PeerRoutes" "sum" "[I") ∈ lw_all := lw_g (lw_at lw_m0 21 rfl) rfl
theorem q38 : (Jvm.Cond.fieldLink "PeerRoutes" (29 : Nat) "PeerRoutes" "settled" "[I") ∈ lw_all := lw_g (lw_at lw_m0 22 rfl) rfl
theorem q39 : (Jvm.Cond.fieldLink "PeerRoutes" (32 : Nat) "PeerRoutes" "heldAbove" "[I") ∈ lw_all := lw_g (lw_at lw_m0 23 rfl) rfl
theorem q40 : (Jvm.Cond.fieldLink "PeerRoutes" (35 : Nat) "PeerRoutes" "stack" "[I") ∈ lw_all := lw_g (lw_at lw_m0 24 rfl) rfl
theorem q41 : (Jvm.Cond.lays "PeerRoutes" "PeerRoutes" "held" "I") ∈ lw_all := lw_g (lw_at lw_m0 25 rfl) rfl
theorem q42 : (Jvm.Cond.soleField "PeerRoutes" "held") ∈ lw_all := lw_g (lw_at lw_m0 26 rfl) rfl
theorem q43 : (Jvm.Cond.lays "PeerRoutes" "PeerRoutes" "root" "I") ∈ lw_all := lw_g (lw_at lw_m0 27 rfl) rfl
theorem q44 : (Jvm.Cond.soleField "PeerRoutes" "root") ∈ lw_all := lw_g (lw_at lw_m0 28 rfl) rfl
theorem q45 : (Jvm.Cond.lays "PeerRoutes" "PeerRoutes" "freeNode" "I") ∈ lw_all := lw_g (lw_at lw_m0 29 rfl) rfl
theorem q46 : (Jvm.Cond.soleField "PeerRoutes" "freeNode") ∈ lw_all := lw_g (lw_at lw_m0 30 rfl) rfl
theorem q47 : (Jvm.Cond.laysFinal "PeerRoutes" "PeerRoutes" "used" "[Z") ∈ lw_all := lw_g (lw_at lw_m0 31 rfl) rfl
theorem q48 : (Jvm.Cond.soleField "PeerRoutes" "used") ∈ lw_all := lw_g (lw_at lw_m0 32 rfl) rfl
theorem q49 : (Jvm.Cond.laysFinal "PeerRoutes" "PeerRoutes" "bits" "[I") ∈ lw_all := lw_g (lw_at lw_m0 33 rfl) rfl
theorem q50 : (Jvm.Cond.soleField "PeerRoutes" "bits") ∈ lw_all := lw_g (lw_at lw_m0 34 rfl) rfl
theorem q51 : (Jvm.Cond.laysFinal "PeerRoutes" "PeerRoutes" "length" "[I") ∈ lw_all := lw_g (lw_at lw_m0 35 rfl) rfl
theorem q52 : (Jvm.Cond.soleField "PeerRoutes" "length") ∈ lw_all := lw_g (lw_at lw_m0 36 rfl) rfl
theorem q53 : (Jvm.Cond.laysFinal "PeerRoutes" "PeerRoutes" "peerOf" "[I") ∈ lw_all := lw_g (lw_at lw_m0 37 rfl) rfl
theorem q54 : (Jvm.Cond.soleField "PeerRoutes" "peerOf") ∈ lw_all := lw_g (lw_at lw_m0 38 rfl) rfl
theorem q55 : (Jvm.Cond.laysFinal "PeerRoutes" "PeerRoutes" "child" "[I") ∈ lw_all := lw_g (lw_at lw_m0 39 rfl) rfl
theorem q56 : (Jvm.Cond.soleField "PeerRoutes" "child") ∈ lw_all := lw_g (lw_at lw_m0 40 rfl) rfl
theorem q57 : (Jvm.Cond.lays "PeerRoutes" "PeerRoutes" "above" "I") ∈ lw_all := lw_g (lw_at lw_m0 41 rfl) rfl
theorem q58 : (Jvm.Cond.soleField "PeerRoutes" "above") ∈ lw_all := lw_g (lw_at lw_m0 42 rfl) rfl
theorem q59 : (Jvm.Cond.lays "PeerRoutes" "PeerRoutes" "furtherUp" "I") ∈ lw_all := lw_g (lw_at lw_m0 43 rfl) rfl
theorem q60 : (Jvm.Cond.soleField "PeerRoutes" "furtherUp") ∈ lw_all := lw_g (lw_at lw_m0 44 rfl) rfl
theorem q61 : (Jvm.Cond.laysFinal "PeerRoutes" "PeerRoutes" "sum" "[I") ∈ lw_all := lw_g (lw_at lw_m0 45 rfl) rfl
theorem q62 : (Jvm.Cond.soleField "PeerRoutes" "sum") ∈ lw_all := lw_g (lw_at lw_m0 46 rfl) rfl
theorem q63 : (Jvm.Cond.laysFinal "PeerRoutes" "PeerRoutes" "settled" "[I") ∈ lw_all := lw_g (lw_at lw_m0 47 rfl) rfl
theorem q64 : (Jvm.Cond.soleField "PeerRoutes" "settled") ∈ lw_all := lw_g (lw_at lw_m0 48 rfl) rfl
theorem q65 : (Jvm.Cond.laysFinal "PeerRoutes" "PeerRoutes" "heldAbove" "[I") ∈ lw_all := lw_g (lw_at lw_m0 49 rfl) rfl
theorem q66 : (Jvm.Cond.soleField "PeerRoutes" "heldAbove") ∈ lw_all := lw_g (lw_at lw_m0 50 rfl) rfl
theorem q67 : (Jvm.Cond.laysFinal "PeerRoutes" "PeerRoutes" "stack" "[I") ∈ lw_all := lw_g (lw_at lw_m0 51 rfl) rfl
theorem q68 : (Jvm.Cond.soleField "PeerRoutes" "stack") ∈ lw_all := lw_g (lw_at lw_m0 52 rfl) rfl
theorem q69 : (Jvm.Cond.superclass "PeerRoutes" "java/lang/Object") ∈ lw_all := lw_g (lw_at lw_m0 53 rfl) rfl
theorem q73 : (Jvm.Cond.instanceMethod ({ cls := "PeerRoutes", name := "allow", desc := "(III)I" } : Jvm.MethodName)) ∈ lw_all := lw_g (lw_at lw_m0 57 rfl) rfl
theorem q74 : (Jvm.Cond.selects "PeerRoutes" ({ cls := "PeerRoutes", name := "allow", desc := "(III)I" } : Jvm.MethodName) ({ cls := "PeerRoutes", name := "allow", desc := "(III)I" } : Jvm.MethodName)) ∈ lw_all := lw_g (lw_at lw_m0 58 rfl) rfl
theorem q75 : (Jvm.Cond.code ({ cls := "PeerRoutes", name := "allow", desc := "(III)I" } : Jvm.MethodName) prog_1_method_2_code (6 : Nat) (Option.some Jvm.ClassFile.FieldType.int)) ∈ lw_all := lw_g (lw_at lw_m0 59 rfl) rfl
theorem q76 : (Jvm.Cond.constant "PeerRoutes" (42 : Nat) (65535 : Int32)) ∈ lw_all := lw_g (lw_at lw_m0 60 rfl) rfl
theorem q77 : (Jvm.Cond.methodLink "PeerRoutes" (43 : Nat) ({ cls := "PeerRoutes", name := "cut", desc := "(II)I" } : Jvm.MethodName)) ∈ lw_all := lw_g (lw_at lw_m0 61 rfl) rfl
theorem q78 : (Jvm.Cond.static ({ cls := "PeerRoutes", name := "cut", desc := "(II)I" } : Jvm.MethodName)) ∈ lw_all := lw_g (lw_at lw_m0 62 rfl) rfl
theorem q79 : (Jvm.Cond.code ({ cls := "PeerRoutes", name := "cut", desc := "(II)I" } : Jvm.MethodName) prog_1_method_11_code (2 : Nat) (Option.some Jvm.ClassFile.FieldType.int)) ∈ lw_all := lw_g (lw_at lw_m0 63 rfl) rfl
theorem q80 : (Jvm.Cond.methodLink "PeerRoutes" (47 : Nat) ({ cls := "PeerRoutes", name := "find", desc := "(II)I" } : Jvm.MethodName)) ∈ lw_all := lw_g (lw_at lw_m0 64 rfl) rfl
theorem q81 : (Jvm.Cond.privateMethod ({ cls := "PeerRoutes", name := "find", desc := "(II)I" } : Jvm.MethodName)) ∈ lw_tbl := lw_at lw_m0 65 rfl
theorem q82 : (Jvm.Cond.instanceMethod ({ cls := "PeerRoutes", name := "find", desc := "(II)I" } : Jvm.MethodName)) ∈ lw_all := lw_g (lw_at lw_m0 66 rfl) rfl
theorem q83 : (Jvm.Cond.code ({ cls := "PeerRoutes", name := "find", desc := "(II)I" } : Jvm.MethodName) prog_1_method_15_code (5 : Nat) (Option.some Jvm.ClassFile.FieldType.int)) ∈ lw_all := lw_g (lw_at lw_m0 67 rfl) rfl
theorem q84 : (Jvm.Cond.methodLink "PeerRoutes" (84 : Nat) ({ cls := "PeerRoutes", name := "covers", desc := "(II)Z" } : Jvm.MethodName)) ∈ lw_all := lw_g (lw_at lw_m0 68 rfl) rfl
theorem q85 : (Jvm.Cond.privateMethod ({ cls := "PeerRoutes", name := "covers", desc := "(II)Z" } : Jvm.MethodName)) ∈ lw_tbl := lw_at lw_m0 69 rfl
theorem q86 : (Jvm.Cond.instanceMethod ({ cls := "PeerRoutes", name := "covers", desc := "(II)Z" } : Jvm.MethodName)) ∈ lw_all := lw_g (lw_at lw_m0 70 rfl) rfl
theorem q87 : (Jvm.Cond.code ({ cls := "PeerRoutes", name := "covers", desc := "(II)Z" } : Jvm.MethodName) prog_1_method_14_code (3 : Nat) (Option.some Jvm.ClassFile.FieldType.boolean)) ∈ lw_all := lw_g (lw_at lw_m0 71 rfl) rfl
theorem q88 : (Jvm.Cond.methodLink "PeerRoutes" (75 : Nat) ({ cls := "PeerRoutes", name := "bitAt", desc := "(II)I" } : Jvm.MethodName)) ∈ lw_all := lw_g (lw_at lw_m0 72 rfl) rfl
theorem q89 : (Jvm.Cond.static ({ cls := "PeerRoutes", name := "bitAt", desc := "(II)I" } : Jvm.MethodName)) ∈ lw_all := lw_g (lw_at lw_m0 73 rfl) rfl
theorem q90 : (Jvm.Cond.code ({ cls := "PeerRoutes", name := "bitAt", desc := "(II)I" } : Jvm.MethodName) prog_1_method_12_code (2 : Nat) (Option.some Jvm.ClassFile.FieldType.int)) ∈ lw_all := lw_g (lw_at lw_m0 74 rfl) rfl
theorem q91 : (Jvm.Cond.methodLink "PeerRoutes" (53 : Nat) ({ cls := "PeerRoutes", name := "insert", desc := "(III)V" } : Jvm.MethodName)) ∈ lw_all := lw_g (lw_at lw_m0 75 rfl) rfl
theorem q92 : (Jvm.Cond.privateMethod ({ cls := "PeerRoutes", name := "insert", desc := "(III)V" } : Jvm.MethodName)) ∈ lw_tbl := lw_at lw_m0 76 rfl
theorem q93 : (Jvm.Cond.instanceMethod ({ cls := "PeerRoutes", name := "insert", desc := "(III)V" } : Jvm.MethodName)) ∈ lw_all := lw_g (lw_at lw_m0 77 rfl) rfl
theorem q94 : (Jvm.Cond.code ({ cls := "PeerRoutes", name := "insert", desc := "(III)V" } : Jvm.MethodName) prog_1_method_20_code (10 : Nat) (Option.none : Option Jvm.ClassFile.FieldType)) ∈ lw_all := lw_g (lw_at lw_m0 78 rfl) rfl
theorem q95 : (Jvm.Cond.methodLink "PeerRoutes" (91 : Nat) ({ cls := "PeerRoutes", name := "newNode", desc := "(III)I" } : Jvm.MethodName)) ∈ lw_all := lw_g (lw_at lw_m0 79 rfl) rfl
theorem q96 : (Jvm.Cond.privateMethod ({ cls := "PeerRoutes", name := "newNode", desc := "(III)I" } : Jvm.MethodName)) ∈ lw_tbl := lw_at lw_m0 80 rfl
theorem q97 : (Jvm.Cond.instanceMethod ({ cls := "PeerRoutes", name := "newNode", desc := "(III)I" } : Jvm.MethodName)) ∈ lw_all := lw_g (lw_at lw_m0 81 rfl) rfl
theorem q98 : (Jvm.Cond.code ({ cls := "PeerRoutes", name := "newNode", desc := "(III)I" } : Jvm.MethodName) prog_1_method_18_code (5 : Nat) (Option.some Jvm.ClassFile.FieldType.int)) ∈ lw_all := lw_g (lw_at lw_m0 82 rfl) rfl
theorem q99 : (Jvm.Cond.methodLink "PeerRoutes" (95 : Nat) ({ cls := "PeerRoutes", name := "lead", desc := "(III)V" } : Jvm.MethodName)) ∈ lw_all := lw_g (lw_at lw_m0 83 rfl) rfl
theorem q100 : (Jvm.Cond.privateMethod ({ cls := "PeerRoutes", name := "lead", desc := "(III)V" } : Jvm.MethodName)) ∈ lw_tbl := lw_at lw_m0 84 rfl
theorem q101 : (Jvm.Cond.instanceMethod ({ cls := "PeerRoutes", name := "lead", desc := "(III)V" } : Jvm.MethodName)) ∈ lw_all := lw_g (lw_at lw_m0 85 rfl) rfl
theorem q102 : (Jvm.Cond.code ({ cls := "PeerRoutes", name := "lead", desc := "(III)V" } : Jvm.MethodName) prog_1_method_19_code (4 : Nat) (Option.none : Option Jvm.ClassFile.FieldType)) ∈ lw_all := lw_g (lw_at lw_m0 86 rfl) rfl
theorem q103 : (Jvm.Cond.methodLink "PeerRoutes" (98 : Nat) ({ cls := "PeerRoutes", name := "common", desc := "(III)I" } : Jvm.MethodName)) ∈ lw_all := lw_g (lw_at lw_m0 87 rfl) rfl
theorem q104 : (Jvm.Cond.static ({ cls := "PeerRoutes", name := "common", desc := "(III)I" } : Jvm.MethodName)) ∈ lw_all := lw_g (lw_at lw_m0 88 rfl) rfl
theorem q105 : (Jvm.Cond.code ({ cls := "PeerRoutes", name := "common", desc := "(III)I" } : Jvm.MethodName) prog_1_method_13_code (4 : Nat) (Option.some Jvm.ClassFile.FieldType.int)) ∈ lw_all := lw_g (lw_at lw_m0 89 rfl) rfl
theorem q107 : (Jvm.Cond.instanceMethod ({ cls := "PeerRoutes", name := "deny", desc := "(II)I" } : Jvm.MethodName)) ∈ lw_all := lw_g (lw_at lw_m0 91 rfl) rfl
theorem q108 : (Jvm.Cond.selects "PeerRoutes" ({ cls := "PeerRoutes", name := "deny", desc := "(II)I" } : Jvm.MethodName) ({ cls := "PeerRoutes", name := "deny", desc := "(II)I" } : Jvm.MethodName)) ∈ lw_all := lw_g (lw_at lw_m0 92 rfl) rfl
theorem q109 : (Jvm.Cond.code ({ cls := "PeerRoutes", name := "deny", desc := "(II)I" } : Jvm.MethodName) prog_1_method_3_code (5 : Nat) (Option.some Jvm.ClassFile.FieldType.int)) ∈ lw_all := lw_g (lw_at lw_m0 93 rfl) rfl
theorem q110 : (Jvm.Cond.methodLink "PeerRoutes" (57 : Nat) ({ cls := "PeerRoutes", name := "takeOut", desc := "(I)V" } : Jvm.MethodName)) ∈ lw_all := lw_g (lw_at lw_m0 94 rfl) rfl
theorem q111 : (Jvm.Cond.privateMethod ({ cls := "PeerRoutes", name := "takeOut", desc := "(I)V" } : Jvm.MethodName)) ∈ lw_tbl := lw_at lw_m0 95 rfl
theorem q112 : (Jvm.Cond.instanceMethod ({ cls := "PeerRoutes", name := "takeOut", desc := "(I)V" } : Jvm.MethodName)) ∈ lw_all := lw_g (lw_at lw_m0 96 rfl) rfl
theorem q113 : (Jvm.Cond.code ({ cls := "PeerRoutes", name := "takeOut", desc := "(I)V" } : Jvm.MethodName) prog_1_method_21_code (7 : Nat) (Option.none : Option Jvm.ClassFile.FieldType)) ∈ lw_all := lw_g (lw_at lw_m0 97 rfl) rfl
theorem q114 : (Jvm.Cond.methodLink "PeerRoutes" (101 : Nat) ({ cls := "PeerRoutes", name := "release", desc := "(I)V" } : Jvm.MethodName)) ∈ lw_all := lw_g (lw_at lw_m0 98 rfl) rfl
theorem q115 : (Jvm.Cond.privateMethod ({ cls := "PeerRoutes", name := "release", desc := "(I)V" } : Jvm.MethodName)) ∈ lw_tbl := lw_at lw_m0 99 rfl
theorem q116 : (Jvm.Cond.instanceMethod ({ cls := "PeerRoutes", name := "release", desc := "(I)V" } : Jvm.MethodName)) ∈ lw_all := lw_g (lw_at lw_m0 100 rfl) rfl
theorem q117 : (Jvm.Cond.code ({ cls := "PeerRoutes", name := "release", desc := "(I)V" } : Jvm.MethodName) prog_1_method_22_code (2 : Nat) (Option.none : Option Jvm.ClassFile.FieldType)) ∈ lw_all := lw_g (lw_at lw_m0 101 rfl) rfl
theorem q119 : (Jvm.Cond.instanceMethod ({ cls := "PeerRoutes", name := "forget", desc := "(I)I" } : Jvm.MethodName)) ∈ lw_all := lw_g (lw_at lw_m0 103 rfl) rfl
theorem q120 : (Jvm.Cond.selects "PeerRoutes" ({ cls := "PeerRoutes", name := "forget", desc := "(I)I" } : Jvm.MethodName) ({ cls := "PeerRoutes", name := "forget", desc := "(I)I" } : Jvm.MethodName)) ∈ lw_all := lw_g (lw_at lw_m0 104 rfl) rfl
theorem q121 : (Jvm.Cond.code ({ cls := "PeerRoutes", name := "forget", desc := "(I)I" } : Jvm.MethodName) prog_1_method_4_code (5 : Nat) (Option.some Jvm.ClassFile.FieldType.int)) ∈ lw_all := lw_g (lw_at lw_m0 105 rfl) rfl
theorem q123 : (Jvm.Cond.instanceMethod ({ cls := "PeerRoutes", name := "owner", desc := "(I)I" } : Jvm.MethodName)) ∈ lw_all := lw_g (lw_at lw_m0 107 rfl) rfl
theorem q124 : (Jvm.Cond.selects "PeerRoutes" ({ cls := "PeerRoutes", name := "owner", desc := "(I)I" } : Jvm.MethodName) ({ cls := "PeerRoutes", name := "owner", desc := "(I)I" } : Jvm.MethodName)) ∈ lw_all := lw_g (lw_at lw_m0 108 rfl) rfl
theorem q125 : (Jvm.Cond.code ({ cls := "PeerRoutes", name := "owner", desc := "(I)I" } : Jvm.MethodName) prog_1_method_5_code (3 : Nat) (Option.some Jvm.ClassFile.FieldType.int)) ∈ lw_all := lw_g (lw_at lw_m0 109 rfl) rfl
theorem q126 : (Jvm.Cond.methodLink "PeerRoutes" (61 : Nat) ({ cls := "PeerRoutes", name := "settling", desc := "(I)I" } : Jvm.MethodName)) ∈ lw_all := lw_g (lw_at lw_m0 110 rfl) rfl
theorem q127 : (Jvm.Cond.privateMethod ({ cls := "PeerRoutes", name := "settling", desc := "(I)I" } : Jvm.MethodName)) ∈ lw_tbl := lw_at lw_m0 111 rfl
theorem q128 : (Jvm.Cond.instanceMethod ({ cls := "PeerRoutes", name := "settling", desc := "(I)I" } : Jvm.MethodName)) ∈ lw_all := lw_g (lw_at lw_m0 112 rfl) rfl
theorem q129 : (Jvm.Cond.code ({ cls := "PeerRoutes", name := "settling", desc := "(I)I" } : Jvm.MethodName) prog_1_method_16_code (5 : Nat) (Option.some Jvm.ClassFile.FieldType.int)) ∈ lw_all := lw_g (lw_at lw_m0 113 rfl) rfl
theorem q131 : (Jvm.Cond.instanceMethod ({ cls := "PeerRoutes", name := "length", desc := "(I)I" } : Jvm.MethodName)) ∈ lw_all := lw_g (lw_at lw_m0 115 rfl) rfl
theorem q132 : (Jvm.Cond.selects "PeerRoutes" ({ cls := "PeerRoutes", name := "length", desc := "(I)I" } : Jvm.MethodName) ({ cls := "PeerRoutes", name := "length", desc := "(I)I" } : Jvm.MethodName)) ∈ lw_all := lw_g (lw_at lw_m0 116 rfl) rfl
theorem q133 : (Jvm.Cond.code ({ cls := "PeerRoutes", name := "length", desc := "(I)I" } : Jvm.MethodName) prog_1_method_6_code (3 : Nat) (Option.some Jvm.ClassFile.FieldType.int)) ∈ lw_all := lw_g (lw_at lw_m0 117 rfl) rfl
theorem q135 : (Jvm.Cond.instanceMethod ({ cls := "PeerRoutes", name := "owned", desc := "(I)I" } : Jvm.MethodName)) ∈ lw_all := lw_g (lw_at lw_m0 119 rfl) rfl
theorem q136 : (Jvm.Cond.selects "PeerRoutes" ({ cls := "PeerRoutes", name := "owned", desc := "(I)I" } : Jvm.MethodName) ({ cls := "PeerRoutes", name := "owned", desc := "(I)I" } : Jvm.MethodName)) ∈ lw_all := lw_g (lw_at lw_m0 120 rfl) rfl
theorem q137 : (Jvm.Cond.code ({ cls := "PeerRoutes", name := "owned", desc := "(I)I" } : Jvm.MethodName) prog_1_method_7_code (2 : Nat) (Option.some Jvm.ClassFile.FieldType.int)) ∈ lw_all := lw_g (lw_at lw_m0 121 rfl) rfl
theorem q138 : (Jvm.Cond.methodLink "PeerRoutes" (65 : Nat) ({ cls := "PeerRoutes", name := "settleAll", desc := "()V" } : Jvm.MethodName)) ∈ lw_all := lw_g (lw_at lw_m0 122 rfl) rfl
theorem q139 : (Jvm.Cond.privateMethod ({ cls := "PeerRoutes", name := "settleAll", desc := "()V" } : Jvm.MethodName)) ∈ lw_tbl := lw_at lw_m0 123 rfl
theorem q140 : (Jvm.Cond.instanceMethod ({ cls := "PeerRoutes", name := "settleAll", desc := "()V" } : Jvm.MethodName)) ∈ lw_all := lw_g (lw_at lw_m0 124 rfl) rfl
theorem q141 : (Jvm.Cond.code ({ cls := "PeerRoutes", name := "settleAll", desc := "()V" } : Jvm.MethodName) prog_1_method_23_code (4 : Nat) (Option.none : Option Jvm.ClassFile.FieldType)) ∈ lw_all := lw_g (lw_at lw_m0 125 rfl) rfl
theorem q142 : (Jvm.Cond.constant "PeerRoutes" (68 : Nat) (65536 : Int32)) ∈ lw_all := lw_g (lw_at lw_m0 126 rfl) rfl
theorem q143 : (Jvm.Cond.methodLink "PeerRoutes" (104 : Nat) ({ cls := "PeerRoutes", name := "visit", desc := "(II)I" } : Jvm.MethodName)) ∈ lw_all := lw_g (lw_at lw_m0 127 rfl) rfl
theorem q144 : (Jvm.Cond.privateMethod ({ cls := "PeerRoutes", name := "visit", desc := "(II)I" } : Jvm.MethodName)) ∈ lw_tbl := lw_at lw_m0 128 rfl
theorem q145 : (Jvm.Cond.instanceMethod ({ cls := "PeerRoutes", name := "visit", desc := "(II)I" } : Jvm.MethodName)) ∈ lw_all := lw_g (lw_at lw_m0 129 rfl) rfl
theorem q146 : (Jvm.Cond.code ({ cls := "PeerRoutes", name := "visit", desc := "(II)I" } : Jvm.MethodName) prog_1_method_24_code (7 : Nat) (Option.some Jvm.ClassFile.FieldType.int)) ∈ lw_all := lw_g (lw_at lw_m0 130 rfl) rfl
theorem q148 : (Jvm.Cond.instanceMethod ({ cls := "PeerRoutes", name := "next", desc := "(II)I" } : Jvm.MethodName)) ∈ lw_all := lw_g (lw_at lw_m0 132 rfl) rfl
theorem q149 : (Jvm.Cond.selects "PeerRoutes" ({ cls := "PeerRoutes", name := "next", desc := "(II)I" } : Jvm.MethodName) ({ cls := "PeerRoutes", name := "next", desc := "(II)I" } : Jvm.MethodName)) ∈ lw_all := lw_g (lw_at lw_m0 133 rfl) rfl
theorem q150 : (Jvm.Cond.code ({ cls := "PeerRoutes", name := "next", desc := "(II)I" } : Jvm.MethodName) prog_1_method_8_code (6 : Nat) (Option.some Jvm.ClassFile.FieldType.int)) ∈ lw_all := lw_g (lw_at lw_m0 134 rfl) rfl
theorem q151 : (Jvm.Cond.methodLink "PeerRoutes" (69 : Nat) ({ cls := "PeerRoutes", name := "owner", desc := "(I)I" } : Jvm.MethodName)) ∈ lw_all := lw_g (lw_at lw_m0 135 rfl) rfl
theorem q152 : (Jvm.Cond.methodLink "PeerRoutes" (72 : Nat) ({ cls := "PeerRoutes", name := "nextEdge", desc := "(I)I" } : Jvm.MethodName)) ∈ lw_all := lw_g (lw_at lw_m0 136 rfl) rfl
theorem q153 : (Jvm.Cond.privateMethod ({ cls := "PeerRoutes", name := "nextEdge", desc := "(I)I" } : Jvm.MethodName)) ∈ lw_tbl := lw_at lw_m0 137 rfl
theorem q154 : (Jvm.Cond.instanceMethod ({ cls := "PeerRoutes", name := "nextEdge", desc := "(I)I" } : Jvm.MethodName)) ∈ lw_all := lw_g (lw_at lw_m0 138 rfl) rfl
theorem q155 : (Jvm.Cond.code ({ cls := "PeerRoutes", name := "nextEdge", desc := "(I)I" } : Jvm.MethodName) prog_1_method_17_code (5 : Nat) (Option.some Jvm.ClassFile.FieldType.int)) ∈ lw_all := lw_g (lw_at lw_m0 139 rfl) rfl
theorem q157 : (Jvm.Cond.instanceMethod ({ cls := "PeerRoutes", name := "useless", desc := "()I" } : Jvm.MethodName)) ∈ lw_all := lw_g (lw_at lw_m0 141 rfl) rfl
theorem q158 : (Jvm.Cond.selects "PeerRoutes" ({ cls := "PeerRoutes", name := "useless", desc := "()I" } : Jvm.MethodName) ({ cls := "PeerRoutes", name := "useless", desc := "()I" } : Jvm.MethodName)) ∈ lw_all := lw_g (lw_at lw_m0 142 rfl) rfl
theorem q159 : (Jvm.Cond.code ({ cls := "PeerRoutes", name := "useless", desc := "()I" } : Jvm.MethodName) prog_1_method_9_code (4 : Nat) (Option.some Jvm.ClassFile.FieldType.int)) ∈ lw_all := lw_g (lw_at lw_m0 143 rfl) rfl
theorem q161 : (Jvm.Cond.instanceMethod ({ cls := "PeerRoutes", name := "entries", desc := "(I)I" } : Jvm.MethodName)) ∈ lw_all := lw_g (lw_at lw_m0 145 rfl) rfl
theorem q162 : (Jvm.Cond.selects "PeerRoutes" ({ cls := "PeerRoutes", name := "entries", desc := "(I)I" } : Jvm.MethodName) ({ cls := "PeerRoutes", name := "entries", desc := "(I)I" } : Jvm.MethodName)) ∈ lw_all := lw_g (lw_at lw_m0 146 rfl) rfl
theorem q163 : (Jvm.Cond.code ({ cls := "PeerRoutes", name := "entries", desc := "(I)I" } : Jvm.MethodName) prog_1_method_10_code (4 : Nat) (Option.some Jvm.ClassFile.FieldType.int)) ∈ lw_all := lw_g (lw_at lw_m0 147 rfl) rfl
theorem in_X0 : ∀ w ∈ wsX00, w ∈ lw_all := lw_in wsX00 [41, 43, 45, 47, 49, 51, 53, 55, 57, 59, 61, 63, 65, 67] (by decide +kernel) (by decide +kernel)
end
section
set_option maxRecDepth 100000
theorem dX0_init_0 : decode cX0_init 0 = .ok (.aload_n 0, 1) := by decide +kernel
theorem dX0_init_1 : decode cX0_init 1 = .ok (.invokespecial 1, 3) := by decide +kernel
theorem dX0_init_4 : decode cX0_init 4 = .ok (.aload_n 0, 1) := by decide +kernel
theorem dX0_init_5 : decode cX0_init 5 = .ok (.bipush 64, 2) := by decide +kernel
theorem dX0_init_7 : decode cX0_init 7 = .ok (.newarray .boolean, 2) := by decide +kernel
theorem dX0_init_9 : decode cX0_init 9 = .ok (.putfield 7, 3) := by decide +kernel
theorem dX0_init_12 : decode cX0_init 12 = .ok (.aload_n 0, 1) := by decide +kernel
theorem dX0_init_13 : decode cX0_init 13 = .ok (.bipush 64, 2) := by decide +kernel
theorem dX0_init_15 : decode cX0_init 15 = .ok (.newarray .int, 2) := by decide +kernel
theorem dX0_init_17 : decode cX0_init 17 = .ok (.putfield 13, 3) := by decide +kernel
theorem dX0_init_20 : decode cX0_init 20 = .ok (.aload_n 0, 1) := by decide +kernel
theorem dX0_init_21 : decode cX0_init 21 = .ok (.bipush 64, 2) := by decide +kernel
theorem dX0_init_23 : decode cX0_init 23 = .ok (.newarray .int, 2) := by decide +kernel
theorem dX0_init_25 : decode cX0_init 25 = .ok (.putfield 17, 3) := by decide +kernel
theorem dX0_init_28 : decode cX0_init 28 = .ok (.aload_n 0, 1) := by decide +kernel
theorem dX0_init_29 : decode cX0_init 29 = .ok (.bipush 64, 2) := by decide +kernel
theorem dX0_init_31 : decode cX0_init 31 = .ok (.newarray .int, 2) := by decide +kernel
theorem dX0_init_33 : decode cX0_init 33 = .ok (.putfield 20, 3) := by decide +kernel
theorem dX0_init_36 : decode cX0_init 36 = .ok (.aload_n 0, 1) := by decide +kernel
theorem dX0_init_37 : decode cX0_init 37 = .ok (.sipush 128, 3) := by decide +kernel
theorem dX0_init_40 : decode cX0_init 40 = .ok (.newarray .int, 2) := by decide +kernel
theorem dX0_init_42 : decode cX0_init 42 = .ok (.putfield 23, 3) := by decide +kernel
theorem dX0_init_45 : decode cX0_init 45 = .ok (.aload_n 0, 1) := by decide +kernel
theorem dX0_init_46 : decode cX0_init 46 = .ok (.bipush 9, 2) := by decide +kernel
theorem dX0_init_48 : decode cX0_init 48 = .ok (.newarray .int, 2) := by decide +kernel
theorem dX0_init_50 : decode cX0_init 50 = .ok (.putfield 26, 3) := by decide +kernel
theorem dX0_init_53 : decode cX0_init 53 = .ok (.aload_n 0, 1) := by decide +kernel
theorem dX0_init_54 : decode cX0_init 54 = .ok (.bipush 64, 2) := by decide +kernel
theorem dX0_init_56 : decode cX0_init 56 = .ok (.newarray .int, 2) := by decide +kernel
theorem dX0_init_58 : decode cX0_init 58 = .ok (.putfield 29, 3) := by decide +kernel
theorem dX0_init_61 : decode cX0_init 61 = .ok (.aload_n 0, 1) := by decide +kernel
theorem dX0_init_62 : decode cX0_init 62 = .ok (.bipush 64, 2) := by decide +kernel
theorem dX0_init_64 : decode cX0_init 64 = .ok (.newarray .int, 2) := by decide +kernel
theorem dX0_init_66 : decode cX0_init 66 = .ok (.putfield 32, 3) := by decide +kernel
theorem dX0_init_69 : decode cX0_init 69 = .ok (.aload_n 0, 1) := by decide +kernel
theorem dX0_init_70 : decode cX0_init 70 = .ok (.bipush 64, 2) := by decide +kernel
theorem dX0_init_72 : decode cX0_init 72 = .ok (.newarray .int, 2) := by decide +kernel
theorem dX0_init_74 : decode cX0_init 74 = .ok (.putfield 35, 3) := by decide +kernel
theorem dX0_init_77 : decode cX0_init 77 = .ok (.iconst 0, 1) := by decide +kernel
theorem dX0_init_78 : decode cX0_init 78 = .ok (.istore_n 1, 1) := by decide +kernel
theorem dX0_init_79 : decode cX0_init 79 = .ok (.iload_n 1, 1) := by decide +kernel
theorem dX0_init_80 : decode cX0_init 80 = .ok (.bipush 64, 2) := by decide +kernel
theorem dX0_init_82 : decode cX0_init 82 = .ok (.if_icmp .ge 30, 3) := by decide +kernel
theorem dX0_init_85 : decode cX0_init 85 = .ok (.aload_n 0, 1) := by decide +kernel
theorem dX0_init_86 : decode cX0_init 86 = .ok (.getfield 23, 3) := by decide +kernel
theorem dX0_init_89 : decode cX0_init 89 = .ok (.iconst 2, 1) := by decide +kernel
theorem dX0_init_90 : decode cX0_init 90 = .ok (.iload_n 1, 1) := by decide +kernel
theorem dX0_init_91 : decode cX0_init 91 = .ok (.imul, 1) := by decide +kernel
theorem dX0_init_92 : decode cX0_init 92 = .ok (.iload_n 1, 1) := by decide +kernel
theorem dX0_init_93 : decode cX0_init 93 = .ok (.bipush 63, 2) := by decide +kernel
theorem dX0_init_95 : decode cX0_init 95 = .ok (.if_icmp .ne 7, 3) := by decide +kernel
theorem dX0_init_98 : decode cX0_init 98 = .ok (.iconst (-1), 1) := by decide +kernel
theorem dX0_init_99 : decode cX0_init 99 = .ok (.goto 6, 3) := by decide +kernel
theorem dX0_init_102 : decode cX0_init 102 = .ok (.iload_n 1, 1) := by decide +kernel
theorem dX0_init_103 : decode cX0_init 103 = .ok (.iconst 1, 1) := by decide +kernel
theorem dX0_init_104 : decode cX0_init 104 = .ok (.iadd, 1) := by decide +kernel
theorem dX0_init_105 : decode cX0_init 105 = .ok (.iastore, 1) := by decide +kernel
theorem dX0_init_106 : decode cX0_init 106 = .ok (.iinc 1 1, 3) := by decide +kernel
theorem dX0_init_109 : decode cX0_init 109 = .ok (.goto (-30), 3) := by decide +kernel
theorem dX0_init_112 : decode cX0_init 112 = .ok (.aload_n 0, 1) := by decide +kernel
theorem dX0_init_113 : decode cX0_init 113 = .ok (.iconst (-1), 1) := by decide +kernel
theorem dX0_init_114 : decode cX0_init 114 = .ok (.putfield 38, 3) := by decide +kernel
theorem dX0_init_117 : decode cX0_init 117 = .ok (.return_, 1) := by decide +kernel
theorem dX0_allow_0 : decode cX0_allow 0 = .ok (.iload_n 2, 1) := by decide +kernel
theorem dX0_allow_1 : decode cX0_allow 1 = .ok (.ifCond .lt 19, 3) := by decide +kernel
theorem dX0_allow_4 : decode cX0_allow 4 = .ok (.iload_n 2, 1) := by decide +kernel
theorem dX0_allow_5 : decode cX0_allow 5 = .ok (.bipush 16, 2) := by decide +kernel
theorem dX0_allow_7 : decode cX0_allow 7 = .ok (.if_icmp .gt 13, 3) := by decide +kernel
theorem dX0_allow_10 : decode cX0_allow 10 = .ok (.iload_n 3, 1) := by decide +kernel
theorem dX0_allow_11 : decode cX0_allow 11 = .ok (.ifCond .lt 9, 3) := by decide +kernel
theorem dX0_allow_14 : decode cX0_allow 14 = .ok (.iload_n 3, 1) := by decide +kernel
theorem dX0_allow_15 : decode cX0_allow 15 = .ok (.bipush 7, 2) := by decide +kernel
theorem dX0_allow_17 : decode cX0_allow 17 = .ok (.if_icmp .le 5, 3) := by decide +kernel
theorem dX0_allow_20 : decode cX0_allow 20 = .ok (.iconst (-1), 1) := by decide +kernel
theorem dX0_allow_21 : decode cX0_allow 21 = .ok (.ireturn, 1) := by decide +kernel
theorem dX0_allow_22 : decode cX0_allow 22 = .ok (.iload_n 1, 1) := by decide +kernel
theorem dX0_allow_23 : decode cX0_allow 23 = .ok (.ldc 42, 2) := by decide +kernel
theorem dX0_allow_25 : decode cX0_allow 25 = .ok (.iand, 1) := by decide +kernel
theorem dX0_allow_26 : decode cX0_allow 26 = .ok (.iload_n 2, 1) := by decide +kernel
theorem dX0_allow_27 : decode cX0_allow 27 = .ok (.invokestatic 43, 3) := by decide +kernel
theorem dX0_allow_30 : decode cX0_allow 30 = .ok (.istore 4, 2) := by decide +kernel
theorem dX0_allow_32 : decode cX0_allow 32 = .ok (.aload_n 0, 1) := by decide +kernel
theorem dX0_allow_33 : decode cX0_allow 33 = .ok (.iload 4, 2) := by decide +kernel
theorem dX0_allow_35 : decode cX0_allow 35 = .ok (.iload_n 2, 1) := by decide +kernel
theorem dX0_allow_36 : decode cX0_allow 36 = .ok (.invokevirtual 47, 3) := by decide +kernel
theorem dX0_allow_39 : decode cX0_allow 39 = .ok (.istore 5, 2) := by decide +kernel
theorem dX0_allow_41 : decode cX0_allow 41 = .ok (.iload 5, 2) := by decide +kernel
theorem dX0_allow_43 : decode cX0_allow 43 = .ok (.ifCond .lt 26, 3) := by decide +kernel
theorem dX0_allow_46 : decode cX0_allow 46 = .ok (.aload_n 0, 1) := by decide +kernel
theorem dX0_allow_47 : decode cX0_allow 47 = .ok (.getfield 20, 3) := by decide +kernel
theorem dX0_allow_50 : decode cX0_allow 50 = .ok (.iload 5, 2) := by decide +kernel
theorem dX0_allow_52 : decode cX0_allow 52 = .ok (.iaload, 1) := by decide +kernel
theorem dX0_allow_53 : decode cX0_allow 53 = .ok (.ifCond .lt 16, 3) := by decide +kernel
theorem dX0_allow_56 : decode cX0_allow 56 = .ok (.aload_n 0, 1) := by decide +kernel
theorem dX0_allow_57 : decode cX0_allow 57 = .ok (.getfield 20, 3) := by decide +kernel
theorem dX0_allow_60 : decode cX0_allow 60 = .ok (.iload 5, 2) := by decide +kernel
theorem dX0_allow_62 : decode cX0_allow 62 = .ok (.iload_n 3, 1) := by decide +kernel
theorem dX0_allow_63 : decode cX0_allow 63 = .ok (.iastore, 1) := by decide +kernel
theorem dX0_allow_64 : decode cX0_allow 64 = .ok (.aload_n 0, 1) := by decide +kernel
theorem dX0_allow_65 : decode cX0_allow 65 = .ok (.getfield 50, 3) := by decide +kernel
theorem dX0_allow_68 : decode cX0_allow 68 = .ok (.ireturn, 1) := by decide +kernel
theorem dX0_allow_69 : decode cX0_allow 69 = .ok (.aload_n 0, 1) := by decide +kernel
theorem dX0_allow_70 : decode cX0_allow 70 = .ok (.getfield 50, 3) := by decide +kernel
theorem dX0_allow_73 : decode cX0_allow 73 = .ok (.bipush 32, 2) := by decide +kernel
theorem dX0_allow_75 : decode cX0_allow 75 = .ok (.if_icmp .lt 5, 3) := by decide +kernel
theorem dX0_allow_78 : decode cX0_allow 78 = .ok (.iconst (-1), 1) := by decide +kernel
theorem dX0_allow_79 : decode cX0_allow 79 = .ok (.ireturn, 1) := by decide +kernel
theorem dX0_allow_80 : decode cX0_allow 80 = .ok (.aload_n 0, 1) := by decide +kernel
theorem dX0_allow_81 : decode cX0_allow 81 = .ok (.dup, 1) := by decide +kernel
theorem dX0_allow_82 : decode cX0_allow 82 = .ok (.getfield 50, 3) := by decide +kernel
theorem dX0_allow_85 : decode cX0_allow 85 = .ok (.iconst 1, 1) := by decide +kernel
theorem dX0_allow_86 : decode cX0_allow 86 = .ok (.iadd, 1) := by decide +kernel
theorem dX0_allow_87 : decode cX0_allow 87 = .ok (.putfield 50, 3) := by decide +kernel
theorem dX0_allow_90 : decode cX0_allow 90 = .ok (.iload 5, 2) := by decide +kernel
theorem dX0_allow_92 : decode cX0_allow 92 = .ok (.ifCond .lt 14, 3) := by decide +kernel
theorem dX0_allow_95 : decode cX0_allow 95 = .ok (.aload_n 0, 1) := by decide +kernel
theorem dX0_allow_96 : decode cX0_allow 96 = .ok (.getfield 20, 3) := by decide +kernel
theorem dX0_allow_99 : decode cX0_allow 99 = .ok (.iload 5, 2) := by decide +kernel
theorem dX0_allow_101 : decode cX0_allow 101 = .ok (.iload_n 3, 1) := by decide +kernel
theorem dX0_allow_102 : decode cX0_allow 102 = .ok (.iastore, 1) := by decide +kernel
theorem dX0_allow_103 : decode cX0_allow 103 = .ok (.goto 11, 3) := by decide +kernel
theorem dX0_allow_106 : decode cX0_allow 106 = .ok (.aload_n 0, 1) := by decide +kernel
theorem dX0_allow_107 : decode cX0_allow 107 = .ok (.iload 4, 2) := by decide +kernel
theorem dX0_allow_109 : decode cX0_allow 109 = .ok (.iload_n 2, 1) := by decide +kernel
theorem dX0_allow_110 : decode cX0_allow 110 = .ok (.iload_n 3, 1) := by decide +kernel
theorem dX0_allow_111 : decode cX0_allow 111 = .ok (.invokevirtual 53, 3) := by decide +kernel
theorem dX0_allow_114 : decode cX0_allow 114 = .ok (.aload_n 0, 1) := by decide +kernel
theorem dX0_allow_115 : decode cX0_allow 115 = .ok (.getfield 50, 3) := by decide +kernel
theorem dX0_allow_118 : decode cX0_allow 118 = .ok (.ireturn, 1) := by decide +kernel
theorem dX0_cut_0 : decode cX0_cut 0 = .ok (.iload_n 0, 1) := by decide +kernel
theorem dX0_cut_1 : decode cX0_cut 1 = .ok (.ldc 42, 2) := by decide +kernel
theorem dX0_cut_3 : decode cX0_cut 3 = .ok (.bipush 16, 2) := by decide +kernel
theorem dX0_cut_5 : decode cX0_cut 5 = .ok (.iload_n 1, 1) := by decide +kernel
theorem dX0_cut_6 : decode cX0_cut 6 = .ok (.isub, 1) := by decide +kernel
theorem dX0_cut_7 : decode cX0_cut 7 = .ok (.ishl, 1) := by decide +kernel
theorem dX0_cut_8 : decode cX0_cut 8 = .ok (.iand, 1) := by decide +kernel
theorem dX0_cut_9 : decode cX0_cut 9 = .ok (.ldc 42, 2) := by decide +kernel
theorem dX0_cut_11 : decode cX0_cut 11 = .ok (.iand, 1) := by decide +kernel
theorem dX0_cut_12 : decode cX0_cut 12 = .ok (.ireturn, 1) := by decide +kernel
theorem dX0_find_0 : decode cX0_find 0 = .ok (.aload_n 0, 1) := by decide +kernel
theorem dX0_find_1 : decode cX0_find 1 = .ok (.iconst (-1), 1) := by decide +kernel
theorem dX0_find_2 : decode cX0_find 2 = .ok (.putfield 78, 3) := by decide +kernel
theorem dX0_find_5 : decode cX0_find 5 = .ok (.aload_n 0, 1) := by decide +kernel
theorem dX0_find_6 : decode cX0_find 6 = .ok (.iconst (-1), 1) := by decide +kernel
theorem dX0_find_7 : decode cX0_find 7 = .ok (.putfield 81, 3) := by decide +kernel
theorem dX0_find_10 : decode cX0_find 10 = .ok (.aload_n 0, 1) := by decide +kernel
theorem dX0_find_11 : decode cX0_find 11 = .ok (.getfield 38, 3) := by decide +kernel
theorem dX0_find_14 : decode cX0_find 14 = .ok (.istore_n 3, 1) := by decide +kernel
theorem dX0_find_15 : decode cX0_find 15 = .ok (.iconst 0, 1) := by decide +kernel
theorem dX0_find_16 : decode cX0_find 16 = .ok (.istore 4, 2) := by decide +kernel
theorem dX0_find_18 : decode cX0_find 18 = .ok (.iload 4, 2) := by decide +kernel
theorem dX0_find_20 : decode cX0_find 20 = .ok (.bipush 18, 2) := by decide +kernel
theorem dX0_find_22 : decode cX0_find 22 = .ok (.if_icmp .ge 79, 3) := by decide +kernel
theorem dX0_find_25 : decode cX0_find 25 = .ok (.iload_n 3, 1) := by decide +kernel
theorem dX0_find_26 : decode cX0_find 26 = .ok (.ifCond .lt 75, 3) := by decide +kernel
theorem dX0_find_29 : decode cX0_find 29 = .ok (.aload_n 0, 1) := by decide +kernel
theorem dX0_find_30 : decode cX0_find 30 = .ok (.getfield 17, 3) := by decide +kernel
theorem dX0_find_33 : decode cX0_find 33 = .ok (.iload_n 3, 1) := by decide +kernel
theorem dX0_find_34 : decode cX0_find 34 = .ok (.iaload, 1) := by decide +kernel
theorem dX0_find_35 : decode cX0_find 35 = .ok (.iload_n 2, 1) := by decide +kernel
theorem dX0_find_36 : decode cX0_find 36 = .ok (.if_icmp .gt 12, 3) := by decide +kernel
theorem dX0_find_39 : decode cX0_find 39 = .ok (.aload_n 0, 1) := by decide +kernel
theorem dX0_find_40 : decode cX0_find 40 = .ok (.iload_n 3, 1) := by decide +kernel
theorem dX0_find_41 : decode cX0_find 41 = .ok (.iload_n 1, 1) := by decide +kernel
theorem dX0_find_42 : decode cX0_find 42 = .ok (.invokevirtual 84, 3) := by decide +kernel
theorem dX0_find_45 : decode cX0_find 45 = .ok (.ifCond .ne 5, 3) := by decide +kernel
theorem dX0_find_48 : decode cX0_find 48 = .ok (.iconst (-1), 1) := by decide +kernel
theorem dX0_find_49 : decode cX0_find 49 = .ok (.ireturn, 1) := by decide +kernel
theorem dX0_find_50 : decode cX0_find 50 = .ok (.aload_n 0, 1) := by decide +kernel
theorem dX0_find_51 : decode cX0_find 51 = .ok (.getfield 17, 3) := by decide +kernel
theorem dX0_find_54 : decode cX0_find 54 = .ok (.iload_n 3, 1) := by decide +kernel
theorem dX0_find_55 : decode cX0_find 55 = .ok (.iaload, 1) := by decide +kernel
theorem dX0_find_56 : decode cX0_find 56 = .ok (.iload_n 2, 1) := by decide +kernel
theorem dX0_find_57 : decode cX0_find 57 = .ok (.if_icmp .ne 5, 3) := by decide +kernel
theorem dX0_find_60 : decode cX0_find 60 = .ok (.iload_n 3, 1) := by decide +kernel
theorem dX0_find_61 : decode cX0_find 61 = .ok (.ireturn, 1) := by decide +kernel
theorem dX0_find_62 : decode cX0_find 62 = .ok (.aload_n 0, 1) := by decide +kernel
theorem dX0_find_63 : decode cX0_find 63 = .ok (.aload_n 0, 1) := by decide +kernel
theorem dX0_find_64 : decode cX0_find 64 = .ok (.getfield 78, 3) := by decide +kernel
theorem dX0_find_67 : decode cX0_find 67 = .ok (.putfield 81, 3) := by decide +kernel
theorem dX0_find_70 : decode cX0_find 70 = .ok (.aload_n 0, 1) := by decide +kernel
theorem dX0_find_71 : decode cX0_find 71 = .ok (.iload_n 3, 1) := by decide +kernel
theorem dX0_find_72 : decode cX0_find 72 = .ok (.putfield 78, 3) := by decide +kernel
theorem dX0_find_75 : decode cX0_find 75 = .ok (.aload_n 0, 1) := by decide +kernel
theorem dX0_find_76 : decode cX0_find 76 = .ok (.getfield 23, 3) := by decide +kernel
theorem dX0_find_79 : decode cX0_find 79 = .ok (.iconst 2, 1) := by decide +kernel
theorem dX0_find_80 : decode cX0_find 80 = .ok (.iload_n 3, 1) := by decide +kernel
theorem dX0_find_81 : decode cX0_find 81 = .ok (.imul, 1) := by decide +kernel
theorem dX0_find_82 : decode cX0_find 82 = .ok (.iload_n 1, 1) := by decide +kernel
theorem dX0_find_83 : decode cX0_find 83 = .ok (.aload_n 0, 1) := by decide +kernel
theorem dX0_find_84 : decode cX0_find 84 = .ok (.getfield 17, 3) := by decide +kernel
theorem dX0_find_87 : decode cX0_find 87 = .ok (.iload_n 3, 1) := by decide +kernel
theorem dX0_find_88 : decode cX0_find 88 = .ok (.iaload, 1) := by decide +kernel
theorem dX0_find_89 : decode cX0_find 89 = .ok (.invokestatic 75, 3) := by decide +kernel
theorem dX0_find_92 : decode cX0_find 92 = .ok (.iadd, 1) := by decide +kernel
theorem dX0_find_93 : decode cX0_find 93 = .ok (.iaload, 1) := by decide +kernel
theorem dX0_find_94 : decode cX0_find 94 = .ok (.istore_n 3, 1) := by decide +kernel
theorem dX0_find_95 : decode cX0_find 95 = .ok (.iinc 4 1, 3) := by decide +kernel
theorem dX0_find_98 : decode cX0_find 98 = .ok (.goto (-80), 3) := by decide +kernel
theorem dX0_find_101 : decode cX0_find 101 = .ok (.iconst (-1), 1) := by decide +kernel
theorem dX0_find_102 : decode cX0_find 102 = .ok (.ireturn, 1) := by decide +kernel
theorem dX0_covers_0 : decode cX0_covers 0 = .ok (.iload_n 2, 1) := by decide +kernel
theorem dX0_covers_1 : decode cX0_covers 1 = .ok (.aload_n 0, 1) := by decide +kernel
theorem dX0_covers_2 : decode cX0_covers 2 = .ok (.getfield 17, 3) := by decide +kernel
theorem dX0_covers_5 : decode cX0_covers 5 = .ok (.iload_n 1, 1) := by decide +kernel
theorem dX0_covers_6 : decode cX0_covers 6 = .ok (.iaload, 1) := by decide +kernel
theorem dX0_covers_7 : decode cX0_covers 7 = .ok (.invokestatic 43, 3) := by decide +kernel
theorem dX0_covers_10 : decode cX0_covers 10 = .ok (.aload_n 0, 1) := by decide +kernel
theorem dX0_covers_11 : decode cX0_covers 11 = .ok (.getfield 13, 3) := by decide +kernel
theorem dX0_covers_14 : decode cX0_covers 14 = .ok (.iload_n 1, 1) := by decide +kernel
theorem dX0_covers_15 : decode cX0_covers 15 = .ok (.iaload, 1) := by decide +kernel
theorem dX0_covers_16 : decode cX0_covers 16 = .ok (.if_icmp .ne 7, 3) := by decide +kernel
theorem dX0_covers_19 : decode cX0_covers 19 = .ok (.iconst 1, 1) := by decide +kernel
theorem dX0_covers_20 : decode cX0_covers 20 = .ok (.goto 4, 3) := by decide +kernel
theorem dX0_covers_23 : decode cX0_covers 23 = .ok (.iconst 0, 1) := by decide +kernel
theorem dX0_covers_24 : decode cX0_covers 24 = .ok (.ireturn, 1) := by decide +kernel
theorem dX0_bitAt_0 : decode cX0_bitAt 0 = .ok (.iload_n 0, 1) := by decide +kernel
theorem dX0_bitAt_1 : decode cX0_bitAt 1 = .ok (.bipush 15, 2) := by decide +kernel
theorem dX0_bitAt_3 : decode cX0_bitAt 3 = .ok (.iload_n 1, 1) := by decide +kernel
theorem dX0_bitAt_4 : decode cX0_bitAt 4 = .ok (.isub, 1) := by decide +kernel
theorem dX0_bitAt_5 : decode cX0_bitAt 5 = .ok (.iushr, 1) := by decide +kernel
theorem dX0_bitAt_6 : decode cX0_bitAt 6 = .ok (.iconst 1, 1) := by decide +kernel
theorem dX0_bitAt_7 : decode cX0_bitAt 7 = .ok (.iand, 1) := by decide +kernel
theorem dX0_bitAt_8 : decode cX0_bitAt 8 = .ok (.ireturn, 1) := by decide +kernel
theorem dX0_insert_0 : decode cX0_insert 0 = .ok (.aload_n 0, 1) := by decide +kernel
theorem dX0_insert_1 : decode cX0_insert 1 = .ok (.getfield 78, 3) := by decide +kernel
theorem dX0_insert_4 : decode cX0_insert 4 = .ok (.istore 4, 2) := by decide +kernel
theorem dX0_insert_6 : decode cX0_insert 6 = .ok (.iload 4, 2) := by decide +kernel
theorem dX0_insert_8 : decode cX0_insert 8 = .ok (.ifCond .ge 10, 3) := by decide +kernel
theorem dX0_insert_11 : decode cX0_insert 11 = .ok (.aload_n 0, 1) := by decide +kernel
theorem dX0_insert_12 : decode cX0_insert 12 = .ok (.getfield 38, 3) := by decide +kernel
theorem dX0_insert_15 : decode cX0_insert 15 = .ok (.goto 24, 3) := by decide +kernel
theorem dX0_insert_18 : decode cX0_insert 18 = .ok (.aload_n 0, 1) := by decide +kernel
theorem dX0_insert_19 : decode cX0_insert 19 = .ok (.getfield 23, 3) := by decide +kernel
theorem dX0_insert_22 : decode cX0_insert 22 = .ok (.iconst 2, 1) := by decide +kernel
theorem dX0_insert_23 : decode cX0_insert 23 = .ok (.iload 4, 2) := by decide +kernel
theorem dX0_insert_25 : decode cX0_insert 25 = .ok (.imul, 1) := by decide +kernel
theorem dX0_insert_26 : decode cX0_insert 26 = .ok (.iload_n 1, 1) := by decide +kernel
theorem dX0_insert_27 : decode cX0_insert 27 = .ok (.aload_n 0, 1) := by decide +kernel
theorem dX0_insert_28 : decode cX0_insert 28 = .ok (.getfield 17, 3) := by decide +kernel
theorem dX0_insert_31 : decode cX0_insert 31 = .ok (.iload 4, 2) := by decide +kernel
theorem dX0_insert_33 : decode cX0_insert 33 = .ok (.iaload, 1) := by decide +kernel
theorem dX0_insert_34 : decode cX0_insert 34 = .ok (.invokestatic 75, 3) := by decide +kernel
theorem dX0_insert_37 : decode cX0_insert 37 = .ok (.iadd, 1) := by decide +kernel
theorem dX0_insert_38 : decode cX0_insert 38 = .ok (.iaload, 1) := by decide +kernel
theorem dX0_insert_39 : decode cX0_insert 39 = .ok (.istore 5, 2) := by decide +kernel
theorem dX0_insert_41 : decode cX0_insert 41 = .ok (.aload_n 0, 1) := by decide +kernel
theorem dX0_insert_42 : decode cX0_insert 42 = .ok (.iload_n 1, 1) := by decide +kernel
theorem dX0_insert_43 : decode cX0_insert 43 = .ok (.iload_n 2, 1) := by decide +kernel
theorem dX0_insert_44 : decode cX0_insert 44 = .ok (.iload_n 3, 1) := by decide +kernel
theorem dX0_insert_45 : decode cX0_insert 45 = .ok (.invokevirtual 91, 3) := by decide +kernel
theorem dX0_insert_48 : decode cX0_insert 48 = .ok (.istore 6, 2) := by decide +kernel
theorem dX0_insert_50 : decode cX0_insert 50 = .ok (.iload 5, 2) := by decide +kernel
theorem dX0_insert_52 : decode cX0_insert 52 = .ok (.ifCond .ge 13, 3) := by decide +kernel
theorem dX0_insert_55 : decode cX0_insert 55 = .ok (.aload_n 0, 1) := by decide +kernel
theorem dX0_insert_56 : decode cX0_insert 56 = .ok (.iload 4, 2) := by decide +kernel
theorem dX0_insert_58 : decode cX0_insert 58 = .ok (.iload_n 1, 1) := by decide +kernel
theorem dX0_insert_59 : decode cX0_insert 59 = .ok (.iload 6, 2) := by decide +kernel
theorem dX0_insert_61 : decode cX0_insert 61 = .ok (.invokevirtual 95, 3) := by decide +kernel
theorem dX0_insert_64 : decode cX0_insert 64 = .ok (.return_, 1) := by decide +kernel
theorem dX0_insert_65 : decode cX0_insert 65 = .ok (.iload_n 2, 1) := by decide +kernel
theorem dX0_insert_66 : decode cX0_insert 66 = .ok (.aload_n 0, 1) := by decide +kernel
theorem dX0_insert_67 : decode cX0_insert 67 = .ok (.getfield 17, 3) := by decide +kernel
theorem dX0_insert_70 : decode cX0_insert 70 = .ok (.iload 5, 2) := by decide +kernel
theorem dX0_insert_72 : decode cX0_insert 72 = .ok (.iaload, 1) := by decide +kernel
theorem dX0_insert_73 : decode cX0_insert 73 = .ok (.if_icmp .ge 7, 3) := by decide +kernel
theorem dX0_insert_76 : decode cX0_insert 76 = .ok (.iload_n 2, 1) := by decide +kernel
theorem dX0_insert_77 : decode cX0_insert 77 = .ok (.goto 10, 3) := by decide +kernel
theorem dX0_insert_80 : decode cX0_insert 80 = .ok (.aload_n 0, 1) := by decide +kernel
theorem dX0_insert_81 : decode cX0_insert 81 = .ok (.getfield 17, 3) := by decide +kernel
theorem dX0_insert_84 : decode cX0_insert 84 = .ok (.iload 5, 2) := by decide +kernel
theorem dX0_insert_86 : decode cX0_insert 86 = .ok (.iaload, 1) := by decide +kernel
theorem dX0_insert_87 : decode cX0_insert 87 = .ok (.istore 7, 2) := by decide +kernel
theorem dX0_insert_89 : decode cX0_insert 89 = .ok (.iload_n 1, 1) := by decide +kernel
theorem dX0_insert_90 : decode cX0_insert 90 = .ok (.aload_n 0, 1) := by decide +kernel
theorem dX0_insert_91 : decode cX0_insert 91 = .ok (.getfield 13, 3) := by decide +kernel
theorem dX0_insert_94 : decode cX0_insert 94 = .ok (.iload 5, 2) := by decide +kernel
theorem dX0_insert_96 : decode cX0_insert 96 = .ok (.iaload, 1) := by decide +kernel
theorem dX0_insert_97 : decode cX0_insert 97 = .ok (.iload 7, 2) := by decide +kernel
theorem dX0_insert_99 : decode cX0_insert 99 = .ok (.invokestatic 98, 3) := by decide +kernel
theorem dX0_insert_102 : decode cX0_insert 102 = .ok (.istore 8, 2) := by decide +kernel
theorem dX0_insert_104 : decode cX0_insert 104 = .ok (.iload 8, 2) := by decide +kernel
theorem dX0_insert_106 : decode cX0_insert 106 = .ok (.iload_n 2, 1) := by decide +kernel
theorem dX0_insert_107 : decode cX0_insert 107 = .ok (.if_icmp .ne 36, 3) := by decide +kernel
theorem dX0_insert_110 : decode cX0_insert 110 = .ok (.aload_n 0, 1) := by decide +kernel
theorem dX0_insert_111 : decode cX0_insert 111 = .ok (.getfield 23, 3) := by decide +kernel
theorem dX0_insert_114 : decode cX0_insert 114 = .ok (.iconst 2, 1) := by decide +kernel
theorem dX0_insert_115 : decode cX0_insert 115 = .ok (.iload 6, 2) := by decide +kernel
theorem dX0_insert_117 : decode cX0_insert 117 = .ok (.imul, 1) := by decide +kernel
theorem dX0_insert_118 : decode cX0_insert 118 = .ok (.aload_n 0, 1) := by decide +kernel
theorem dX0_insert_119 : decode cX0_insert 119 = .ok (.getfield 13, 3) := by decide +kernel
theorem dX0_insert_122 : decode cX0_insert 122 = .ok (.iload 5, 2) := by decide +kernel
theorem dX0_insert_124 : decode cX0_insert 124 = .ok (.iaload, 1) := by decide +kernel
theorem dX0_insert_125 : decode cX0_insert 125 = .ok (.iload_n 2, 1) := by decide +kernel
theorem dX0_insert_126 : decode cX0_insert 126 = .ok (.invokestatic 75, 3) := by decide +kernel
theorem dX0_insert_129 : decode cX0_insert 129 = .ok (.iadd, 1) := by decide +kernel
theorem dX0_insert_130 : decode cX0_insert 130 = .ok (.iload 5, 2) := by decide +kernel
theorem dX0_insert_132 : decode cX0_insert 132 = .ok (.iastore, 1) := by decide +kernel
theorem dX0_insert_133 : decode cX0_insert 133 = .ok (.aload_n 0, 1) := by decide +kernel
theorem dX0_insert_134 : decode cX0_insert 134 = .ok (.iload 4, 2) := by decide +kernel
theorem dX0_insert_136 : decode cX0_insert 136 = .ok (.iload_n 1, 1) := by decide +kernel
theorem dX0_insert_137 : decode cX0_insert 137 = .ok (.iload 6, 2) := by decide +kernel
theorem dX0_insert_139 : decode cX0_insert 139 = .ok (.invokevirtual 95, 3) := by decide +kernel
theorem dX0_insert_142 : decode cX0_insert 142 = .ok (.return_, 1) := by decide +kernel
theorem dX0_insert_143 : decode cX0_insert 143 = .ok (.aload_n 0, 1) := by decide +kernel
theorem dX0_insert_144 : decode cX0_insert 144 = .ok (.iload_n 1, 1) := by decide +kernel
theorem dX0_insert_145 : decode cX0_insert 145 = .ok (.iload 8, 2) := by decide +kernel
theorem dX0_insert_147 : decode cX0_insert 147 = .ok (.invokestatic 43, 3) := by decide +kernel
theorem dX0_insert_150 : decode cX0_insert 150 = .ok (.iload 8, 2) := by decide +kernel
theorem dX0_insert_152 : decode cX0_insert 152 = .ok (.iconst (-1), 1) := by decide +kernel
theorem dX0_insert_153 : decode cX0_insert 153 = .ok (.invokevirtual 91, 3) := by decide +kernel
theorem dX0_insert_156 : decode cX0_insert 156 = .ok (.istore 9, 2) := by decide +kernel
theorem dX0_insert_158 : decode cX0_insert 158 = .ok (.aload_n 0, 1) := by decide +kernel
theorem dX0_insert_159 : decode cX0_insert 159 = .ok (.getfield 23, 3) := by decide +kernel
theorem dX0_insert_162 : decode cX0_insert 162 = .ok (.iconst 2, 1) := by decide +kernel
theorem dX0_insert_163 : decode cX0_insert 163 = .ok (.iload 9, 2) := by decide +kernel
theorem dX0_insert_165 : decode cX0_insert 165 = .ok (.imul, 1) := by decide +kernel
theorem dX0_insert_166 : decode cX0_insert 166 = .ok (.iload_n 1, 1) := by decide +kernel
theorem dX0_insert_167 : decode cX0_insert 167 = .ok (.iload 8, 2) := by decide +kernel
theorem dX0_insert_169 : decode cX0_insert 169 = .ok (.invokestatic 75, 3) := by decide +kernel
theorem dX0_insert_172 : decode cX0_insert 172 = .ok (.iadd, 1) := by decide +kernel
theorem dX0_insert_173 : decode cX0_insert 173 = .ok (.iload 6, 2) := by decide +kernel
theorem dX0_insert_175 : decode cX0_insert 175 = .ok (.iastore, 1) := by decide +kernel
theorem dX0_insert_176 : decode cX0_insert 176 = .ok (.aload_n 0, 1) := by decide +kernel
theorem dX0_insert_177 : decode cX0_insert 177 = .ok (.getfield 23, 3) := by decide +kernel
theorem dX0_insert_180 : decode cX0_insert 180 = .ok (.iconst 2, 1) := by decide +kernel
theorem dX0_insert_181 : decode cX0_insert 181 = .ok (.iload 9, 2) := by decide +kernel
theorem dX0_insert_183 : decode cX0_insert 183 = .ok (.imul, 1) := by decide +kernel
theorem dX0_insert_184 : decode cX0_insert 184 = .ok (.aload_n 0, 1) := by decide +kernel
theorem dX0_insert_185 : decode cX0_insert 185 = .ok (.getfield 13, 3) := by decide +kernel
theorem dX0_insert_188 : decode cX0_insert 188 = .ok (.iload 5, 2) := by decide +kernel
theorem dX0_insert_190 : decode cX0_insert 190 = .ok (.iaload, 1) := by decide +kernel
theorem dX0_insert_191 : decode cX0_insert 191 = .ok (.iload 8, 2) := by decide +kernel
theorem dX0_insert_193 : decode cX0_insert 193 = .ok (.invokestatic 75, 3) := by decide +kernel
theorem dX0_insert_196 : decode cX0_insert 196 = .ok (.iadd, 1) := by decide +kernel
theorem dX0_insert_197 : decode cX0_insert 197 = .ok (.iload 5, 2) := by decide +kernel
theorem dX0_insert_199 : decode cX0_insert 199 = .ok (.iastore, 1) := by decide +kernel
theorem dX0_insert_200 : decode cX0_insert 200 = .ok (.aload_n 0, 1) := by decide +kernel
theorem dX0_insert_201 : decode cX0_insert 201 = .ok (.iload 4, 2) := by decide +kernel
theorem dX0_insert_203 : decode cX0_insert 203 = .ok (.iload_n 1, 1) := by decide +kernel
theorem dX0_insert_204 : decode cX0_insert 204 = .ok (.iload 9, 2) := by decide +kernel
theorem dX0_insert_206 : decode cX0_insert 206 = .ok (.invokevirtual 95, 3) := by decide +kernel
theorem dX0_insert_209 : decode cX0_insert 209 = .ok (.return_, 1) := by decide +kernel
theorem dX0_newNode_0 : decode cX0_newNode 0 = .ok (.aload_n 0, 1) := by decide +kernel
theorem dX0_newNode_1 : decode cX0_newNode 1 = .ok (.getfield 88, 3) := by decide +kernel
theorem dX0_newNode_4 : decode cX0_newNode 4 = .ok (.istore 4, 2) := by decide +kernel
theorem dX0_newNode_6 : decode cX0_newNode 6 = .ok (.aload_n 0, 1) := by decide +kernel
theorem dX0_newNode_7 : decode cX0_newNode 7 = .ok (.aload_n 0, 1) := by decide +kernel
theorem dX0_newNode_8 : decode cX0_newNode 8 = .ok (.getfield 23, 3) := by decide +kernel
theorem dX0_newNode_11 : decode cX0_newNode 11 = .ok (.iconst 2, 1) := by decide +kernel
theorem dX0_newNode_12 : decode cX0_newNode 12 = .ok (.iload 4, 2) := by decide +kernel
theorem dX0_newNode_14 : decode cX0_newNode 14 = .ok (.imul, 1) := by decide +kernel
theorem dX0_newNode_15 : decode cX0_newNode 15 = .ok (.iaload, 1) := by decide +kernel
theorem dX0_newNode_16 : decode cX0_newNode 16 = .ok (.putfield 88, 3) := by decide +kernel
theorem dX0_newNode_19 : decode cX0_newNode 19 = .ok (.aload_n 0, 1) := by decide +kernel
theorem dX0_newNode_20 : decode cX0_newNode 20 = .ok (.getfield 7, 3) := by decide +kernel
theorem dX0_newNode_23 : decode cX0_newNode 23 = .ok (.iload 4, 2) := by decide +kernel
theorem dX0_newNode_25 : decode cX0_newNode 25 = .ok (.iconst 1, 1) := by decide +kernel
theorem dX0_newNode_26 : decode cX0_newNode 26 = .ok (.bastore, 1) := by decide +kernel
theorem dX0_newNode_27 : decode cX0_newNode 27 = .ok (.aload_n 0, 1) := by decide +kernel
theorem dX0_newNode_28 : decode cX0_newNode 28 = .ok (.getfield 13, 3) := by decide +kernel
theorem dX0_newNode_31 : decode cX0_newNode 31 = .ok (.iload 4, 2) := by decide +kernel
theorem dX0_newNode_33 : decode cX0_newNode 33 = .ok (.iload_n 1, 1) := by decide +kernel
theorem dX0_newNode_34 : decode cX0_newNode 34 = .ok (.iastore, 1) := by decide +kernel
theorem dX0_newNode_35 : decode cX0_newNode 35 = .ok (.aload_n 0, 1) := by decide +kernel
theorem dX0_newNode_36 : decode cX0_newNode 36 = .ok (.getfield 17, 3) := by decide +kernel
theorem dX0_newNode_39 : decode cX0_newNode 39 = .ok (.iload 4, 2) := by decide +kernel
theorem dX0_newNode_41 : decode cX0_newNode 41 = .ok (.iload_n 2, 1) := by decide +kernel
theorem dX0_newNode_42 : decode cX0_newNode 42 = .ok (.iastore, 1) := by decide +kernel
theorem dX0_newNode_43 : decode cX0_newNode 43 = .ok (.aload_n 0, 1) := by decide +kernel
theorem dX0_newNode_44 : decode cX0_newNode 44 = .ok (.getfield 20, 3) := by decide +kernel
theorem dX0_newNode_47 : decode cX0_newNode 47 = .ok (.iload 4, 2) := by decide +kernel
theorem dX0_newNode_49 : decode cX0_newNode 49 = .ok (.iload_n 3, 1) := by decide +kernel
theorem dX0_newNode_50 : decode cX0_newNode 50 = .ok (.iastore, 1) := by decide +kernel
theorem dX0_newNode_51 : decode cX0_newNode 51 = .ok (.aload_n 0, 1) := by decide +kernel
theorem dX0_newNode_52 : decode cX0_newNode 52 = .ok (.getfield 23, 3) := by decide +kernel
theorem dX0_newNode_55 : decode cX0_newNode 55 = .ok (.iconst 2, 1) := by decide +kernel
theorem dX0_newNode_56 : decode cX0_newNode 56 = .ok (.iload 4, 2) := by decide +kernel
theorem dX0_newNode_58 : decode cX0_newNode 58 = .ok (.imul, 1) := by decide +kernel
theorem dX0_newNode_59 : decode cX0_newNode 59 = .ok (.iconst (-1), 1) := by decide +kernel
theorem dX0_newNode_60 : decode cX0_newNode 60 = .ok (.iastore, 1) := by decide +kernel
theorem dX0_newNode_61 : decode cX0_newNode 61 = .ok (.aload_n 0, 1) := by decide +kernel
theorem dX0_newNode_62 : decode cX0_newNode 62 = .ok (.getfield 23, 3) := by decide +kernel
theorem dX0_newNode_65 : decode cX0_newNode 65 = .ok (.iconst 2, 1) := by decide +kernel
theorem dX0_newNode_66 : decode cX0_newNode 66 = .ok (.iload 4, 2) := by decide +kernel
theorem dX0_newNode_68 : decode cX0_newNode 68 = .ok (.imul, 1) := by decide +kernel
theorem dX0_newNode_69 : decode cX0_newNode 69 = .ok (.iconst 1, 1) := by decide +kernel
theorem dX0_newNode_70 : decode cX0_newNode 70 = .ok (.iadd, 1) := by decide +kernel
theorem dX0_newNode_71 : decode cX0_newNode 71 = .ok (.iconst (-1), 1) := by decide +kernel
theorem dX0_newNode_72 : decode cX0_newNode 72 = .ok (.iastore, 1) := by decide +kernel
theorem dX0_newNode_73 : decode cX0_newNode 73 = .ok (.iload 4, 2) := by decide +kernel
theorem dX0_newNode_75 : decode cX0_newNode 75 = .ok (.ireturn, 1) := by decide +kernel
theorem dX0_lead_0 : decode cX0_lead 0 = .ok (.iload_n 1, 1) := by decide +kernel
theorem dX0_lead_1 : decode cX0_lead 1 = .ok (.ifCond .ge 11, 3) := by decide +kernel
theorem dX0_lead_4 : decode cX0_lead 4 = .ok (.aload_n 0, 1) := by decide +kernel
theorem dX0_lead_5 : decode cX0_lead 5 = .ok (.iload_n 3, 1) := by decide +kernel
theorem dX0_lead_6 : decode cX0_lead 6 = .ok (.putfield 38, 3) := by decide +kernel
theorem dX0_lead_9 : decode cX0_lead 9 = .ok (.goto 23, 3) := by decide +kernel
theorem dX0_lead_12 : decode cX0_lead 12 = .ok (.aload_n 0, 1) := by decide +kernel
theorem dX0_lead_13 : decode cX0_lead 13 = .ok (.getfield 23, 3) := by decide +kernel
theorem dX0_lead_16 : decode cX0_lead 16 = .ok (.iconst 2, 1) := by decide +kernel
theorem dX0_lead_17 : decode cX0_lead 17 = .ok (.iload_n 1, 1) := by decide +kernel
theorem dX0_lead_18 : decode cX0_lead 18 = .ok (.imul, 1) := by decide +kernel
theorem dX0_lead_19 : decode cX0_lead 19 = .ok (.iload_n 2, 1) := by decide +kernel
theorem dX0_lead_20 : decode cX0_lead 20 = .ok (.aload_n 0, 1) := by decide +kernel
theorem dX0_lead_21 : decode cX0_lead 21 = .ok (.getfield 17, 3) := by decide +kernel
theorem dX0_lead_24 : decode cX0_lead 24 = .ok (.iload_n 1, 1) := by decide +kernel
theorem dX0_lead_25 : decode cX0_lead 25 = .ok (.iaload, 1) := by decide +kernel
theorem dX0_lead_26 : decode cX0_lead 26 = .ok (.invokestatic 75, 3) := by decide +kernel
theorem dX0_lead_29 : decode cX0_lead 29 = .ok (.iadd, 1) := by decide +kernel
theorem dX0_lead_30 : decode cX0_lead 30 = .ok (.iload_n 3, 1) := by decide +kernel
theorem dX0_lead_31 : decode cX0_lead 31 = .ok (.iastore, 1) := by decide +kernel
theorem dX0_lead_32 : decode cX0_lead 32 = .ok (.return_, 1) := by decide +kernel
theorem dX0_common_0 : decode cX0_common 0 = .ok (.iconst 0, 1) := by decide +kernel
theorem dX0_common_1 : decode cX0_common 1 = .ok (.istore_n 3, 1) := by decide +kernel
theorem dX0_common_2 : decode cX0_common 2 = .ok (.iload_n 3, 1) := by decide +kernel
theorem dX0_common_3 : decode cX0_common 3 = .ok (.iload_n 2, 1) := by decide +kernel
theorem dX0_common_4 : decode cX0_common 4 = .ok (.if_icmp .ge 22, 3) := by decide +kernel
theorem dX0_common_7 : decode cX0_common 7 = .ok (.iload_n 0, 1) := by decide +kernel
theorem dX0_common_8 : decode cX0_common 8 = .ok (.iload_n 3, 1) := by decide +kernel
theorem dX0_common_9 : decode cX0_common 9 = .ok (.invokestatic 75, 3) := by decide +kernel
theorem dX0_common_12 : decode cX0_common 12 = .ok (.iload_n 1, 1) := by decide +kernel
theorem dX0_common_13 : decode cX0_common 13 = .ok (.iload_n 3, 1) := by decide +kernel
theorem dX0_common_14 : decode cX0_common 14 = .ok (.invokestatic 75, 3) := by decide +kernel
theorem dX0_common_17 : decode cX0_common 17 = .ok (.if_icmp .ne 9, 3) := by decide +kernel
theorem dX0_common_20 : decode cX0_common 20 = .ok (.iinc 3 1, 3) := by decide +kernel
theorem dX0_common_23 : decode cX0_common 23 = .ok (.goto (-21), 3) := by decide +kernel
theorem dX0_common_26 : decode cX0_common 26 = .ok (.iload_n 3, 1) := by decide +kernel
theorem dX0_common_27 : decode cX0_common 27 = .ok (.ireturn, 1) := by decide +kernel
theorem dX0_deny_0 : decode cX0_deny 0 = .ok (.iload_n 2, 1) := by decide +kernel
theorem dX0_deny_1 : decode cX0_deny 1 = .ok (.ifCond .lt 9, 3) := by decide +kernel
theorem dX0_deny_4 : decode cX0_deny 4 = .ok (.iload_n 2, 1) := by decide +kernel
theorem dX0_deny_5 : decode cX0_deny 5 = .ok (.bipush 16, 2) := by decide +kernel
theorem dX0_deny_7 : decode cX0_deny 7 = .ok (.if_icmp .le 5, 3) := by decide +kernel
theorem dX0_deny_10 : decode cX0_deny 10 = .ok (.iconst (-1), 1) := by decide +kernel
theorem dX0_deny_11 : decode cX0_deny 11 = .ok (.ireturn, 1) := by decide +kernel
theorem dX0_deny_12 : decode cX0_deny 12 = .ok (.iload_n 1, 1) := by decide +kernel
theorem dX0_deny_13 : decode cX0_deny 13 = .ok (.ldc 42, 2) := by decide +kernel
theorem dX0_deny_15 : decode cX0_deny 15 = .ok (.iand, 1) := by decide +kernel
theorem dX0_deny_16 : decode cX0_deny 16 = .ok (.iload_n 2, 1) := by decide +kernel
theorem dX0_deny_17 : decode cX0_deny 17 = .ok (.invokestatic 43, 3) := by decide +kernel
theorem dX0_deny_20 : decode cX0_deny 20 = .ok (.istore_n 3, 1) := by decide +kernel
theorem dX0_deny_21 : decode cX0_deny 21 = .ok (.aload_n 0, 1) := by decide +kernel
theorem dX0_deny_22 : decode cX0_deny 22 = .ok (.iload_n 3, 1) := by decide +kernel
theorem dX0_deny_23 : decode cX0_deny 23 = .ok (.iload_n 2, 1) := by decide +kernel
theorem dX0_deny_24 : decode cX0_deny 24 = .ok (.invokevirtual 47, 3) := by decide +kernel
theorem dX0_deny_27 : decode cX0_deny 27 = .ok (.istore 4, 2) := by decide +kernel
theorem dX0_deny_29 : decode cX0_deny 29 = .ok (.iload 4, 2) := by decide +kernel
theorem dX0_deny_31 : decode cX0_deny 31 = .ok (.ifCond .lt 13, 3) := by decide +kernel
theorem dX0_deny_34 : decode cX0_deny 34 = .ok (.aload_n 0, 1) := by decide +kernel
theorem dX0_deny_35 : decode cX0_deny 35 = .ok (.getfield 20, 3) := by decide +kernel
theorem dX0_deny_38 : decode cX0_deny 38 = .ok (.iload 4, 2) := by decide +kernel
theorem dX0_deny_40 : decode cX0_deny 40 = .ok (.iaload, 1) := by decide +kernel
theorem dX0_deny_41 : decode cX0_deny 41 = .ok (.ifCond .ge 5, 3) := by decide +kernel
theorem dX0_deny_44 : decode cX0_deny 44 = .ok (.iconst (-1), 1) := by decide +kernel
theorem dX0_deny_45 : decode cX0_deny 45 = .ok (.ireturn, 1) := by decide +kernel
theorem dX0_deny_46 : decode cX0_deny 46 = .ok (.aload_n 0, 1) := by decide +kernel
theorem dX0_deny_47 : decode cX0_deny 47 = .ok (.iload 4, 2) := by decide +kernel
theorem dX0_deny_49 : decode cX0_deny 49 = .ok (.invokevirtual 57, 3) := by decide +kernel
theorem dX0_deny_52 : decode cX0_deny 52 = .ok (.aload_n 0, 1) := by decide +kernel
theorem dX0_deny_53 : decode cX0_deny 53 = .ok (.getfield 50, 3) := by decide +kernel
theorem dX0_deny_56 : decode cX0_deny 56 = .ok (.ireturn, 1) := by decide +kernel
theorem dX0_takeOut_0 : decode cX0_takeOut 0 = .ok (.aload_n 0, 1) := by decide +kernel
theorem dX0_takeOut_1 : decode cX0_takeOut 1 = .ok (.dup, 1) := by decide +kernel
theorem dX0_takeOut_2 : decode cX0_takeOut 2 = .ok (.getfield 50, 3) := by decide +kernel
theorem dX0_takeOut_5 : decode cX0_takeOut 5 = .ok (.iconst 1, 1) := by decide +kernel
theorem dX0_takeOut_6 : decode cX0_takeOut 6 = .ok (.isub, 1) := by decide +kernel
theorem dX0_takeOut_7 : decode cX0_takeOut 7 = .ok (.putfield 50, 3) := by decide +kernel
theorem dX0_takeOut_10 : decode cX0_takeOut 10 = .ok (.aload_n 0, 1) := by decide +kernel
theorem dX0_takeOut_11 : decode cX0_takeOut 11 = .ok (.getfield 20, 3) := by decide +kernel
theorem dX0_takeOut_14 : decode cX0_takeOut 14 = .ok (.iload_n 1, 1) := by decide +kernel
theorem dX0_takeOut_15 : decode cX0_takeOut 15 = .ok (.iconst (-1), 1) := by decide +kernel
theorem dX0_takeOut_16 : decode cX0_takeOut 16 = .ok (.iastore, 1) := by decide +kernel
theorem dX0_takeOut_17 : decode cX0_takeOut 17 = .ok (.aload_n 0, 1) := by decide +kernel
theorem dX0_takeOut_18 : decode cX0_takeOut 18 = .ok (.getfield 23, 3) := by decide +kernel
theorem dX0_takeOut_21 : decode cX0_takeOut 21 = .ok (.iconst 2, 1) := by decide +kernel
theorem dX0_takeOut_22 : decode cX0_takeOut 22 = .ok (.iload_n 1, 1) := by decide +kernel
theorem dX0_takeOut_23 : decode cX0_takeOut 23 = .ok (.imul, 1) := by decide +kernel
theorem dX0_takeOut_24 : decode cX0_takeOut 24 = .ok (.iaload, 1) := by decide +kernel
theorem dX0_takeOut_25 : decode cX0_takeOut 25 = .ok (.istore_n 2, 1) := by decide +kernel
theorem dX0_takeOut_26 : decode cX0_takeOut 26 = .ok (.aload_n 0, 1) := by decide +kernel
theorem dX0_takeOut_27 : decode cX0_takeOut 27 = .ok (.getfield 23, 3) := by decide +kernel
theorem dX0_takeOut_30 : decode cX0_takeOut 30 = .ok (.iconst 2, 1) := by decide +kernel
theorem dX0_takeOut_31 : decode cX0_takeOut 31 = .ok (.iload_n 1, 1) := by decide +kernel
theorem dX0_takeOut_32 : decode cX0_takeOut 32 = .ok (.imul, 1) := by decide +kernel
theorem dX0_takeOut_33 : decode cX0_takeOut 33 = .ok (.iconst 1, 1) := by decide +kernel
theorem dX0_takeOut_34 : decode cX0_takeOut 34 = .ok (.iadd, 1) := by decide +kernel
theorem dX0_takeOut_35 : decode cX0_takeOut 35 = .ok (.iaload, 1) := by decide +kernel
theorem dX0_takeOut_36 : decode cX0_takeOut 36 = .ok (.istore_n 3, 1) := by decide +kernel
theorem dX0_takeOut_37 : decode cX0_takeOut 37 = .ok (.iload_n 2, 1) := by decide +kernel
theorem dX0_takeOut_38 : decode cX0_takeOut 38 = .ok (.ifCond .lt 8, 3) := by decide +kernel
theorem dX0_takeOut_41 : decode cX0_takeOut 41 = .ok (.iload_n 3, 1) := by decide +kernel
theorem dX0_takeOut_42 : decode cX0_takeOut 42 = .ok (.ifCond .lt 4, 3) := by decide +kernel
theorem dX0_takeOut_45 : decode cX0_takeOut 45 = .ok (.return_, 1) := by decide +kernel
theorem dX0_takeOut_46 : decode cX0_takeOut 46 = .ok (.iload_n 2, 1) := by decide +kernel
theorem dX0_takeOut_47 : decode cX0_takeOut 47 = .ok (.ifCond .lt 7, 3) := by decide +kernel
theorem dX0_takeOut_50 : decode cX0_takeOut 50 = .ok (.iload_n 2, 1) := by decide +kernel
theorem dX0_takeOut_51 : decode cX0_takeOut 51 = .ok (.goto 4, 3) := by decide +kernel
theorem dX0_takeOut_54 : decode cX0_takeOut 54 = .ok (.iload_n 3, 1) := by decide +kernel
theorem dX0_takeOut_55 : decode cX0_takeOut 55 = .ok (.istore 4, 2) := by decide +kernel
theorem dX0_takeOut_57 : decode cX0_takeOut 57 = .ok (.aload_n 0, 1) := by decide +kernel
theorem dX0_takeOut_58 : decode cX0_takeOut 58 = .ok (.aload_n 0, 1) := by decide +kernel
theorem dX0_takeOut_59 : decode cX0_takeOut 59 = .ok (.getfield 78, 3) := by decide +kernel
theorem dX0_takeOut_62 : decode cX0_takeOut 62 = .ok (.aload_n 0, 1) := by decide +kernel
theorem dX0_takeOut_63 : decode cX0_takeOut 63 = .ok (.getfield 13, 3) := by decide +kernel
theorem dX0_takeOut_66 : decode cX0_takeOut 66 = .ok (.iload_n 1, 1) := by decide +kernel
theorem dX0_takeOut_67 : decode cX0_takeOut 67 = .ok (.iaload, 1) := by decide +kernel
theorem dX0_takeOut_68 : decode cX0_takeOut 68 = .ok (.iload 4, 2) := by decide +kernel
theorem dX0_takeOut_70 : decode cX0_takeOut 70 = .ok (.invokevirtual 95, 3) := by decide +kernel
theorem dX0_takeOut_73 : decode cX0_takeOut 73 = .ok (.aload_n 0, 1) := by decide +kernel
theorem dX0_takeOut_74 : decode cX0_takeOut 74 = .ok (.iload_n 1, 1) := by decide +kernel
theorem dX0_takeOut_75 : decode cX0_takeOut 75 = .ok (.invokevirtual 101, 3) := by decide +kernel
theorem dX0_takeOut_78 : decode cX0_takeOut 78 = .ok (.iload 4, 2) := by decide +kernel
theorem dX0_takeOut_80 : decode cX0_takeOut 80 = .ok (.ifCond .ge 87, 3) := by decide +kernel
theorem dX0_takeOut_83 : decode cX0_takeOut 83 = .ok (.aload_n 0, 1) := by decide +kernel
theorem dX0_takeOut_84 : decode cX0_takeOut 84 = .ok (.getfield 78, 3) := by decide +kernel
theorem dX0_takeOut_87 : decode cX0_takeOut 87 = .ok (.ifCond .lt 80, 3) := by decide +kernel
theorem dX0_takeOut_90 : decode cX0_takeOut 90 = .ok (.aload_n 0, 1) := by decide +kernel
theorem dX0_takeOut_91 : decode cX0_takeOut 91 = .ok (.getfield 20, 3) := by decide +kernel
theorem dX0_takeOut_94 : decode cX0_takeOut 94 = .ok (.aload_n 0, 1) := by decide +kernel
theorem dX0_takeOut_95 : decode cX0_takeOut 95 = .ok (.getfield 78, 3) := by decide +kernel
theorem dX0_takeOut_98 : decode cX0_takeOut 98 = .ok (.iaload, 1) := by decide +kernel
theorem dX0_takeOut_99 : decode cX0_takeOut 99 = .ok (.ifCond .ge 68, 3) := by decide +kernel
theorem dX0_takeOut_102 : decode cX0_takeOut 102 = .ok (.aload_n 0, 1) := by decide +kernel
theorem dX0_takeOut_103 : decode cX0_takeOut 103 = .ok (.getfield 23, 3) := by decide +kernel
theorem dX0_takeOut_106 : decode cX0_takeOut 106 = .ok (.iconst 2, 1) := by decide +kernel
theorem dX0_takeOut_107 : decode cX0_takeOut 107 = .ok (.aload_n 0, 1) := by decide +kernel
theorem dX0_takeOut_108 : decode cX0_takeOut 108 = .ok (.getfield 78, 3) := by decide +kernel
theorem dX0_takeOut_111 : decode cX0_takeOut 111 = .ok (.imul, 1) := by decide +kernel
theorem dX0_takeOut_112 : decode cX0_takeOut 112 = .ok (.iaload, 1) := by decide +kernel
theorem dX0_takeOut_113 : decode cX0_takeOut 113 = .ok (.istore 5, 2) := by decide +kernel
end
section
set_option maxRecDepth 100000
theorem dX0_takeOut_115 : decode cX0_takeOut 115 = .ok (.iload 5, 2) := by decide +kernel
theorem dX0_takeOut_117 : decode cX0_takeOut 117 = .ok (.ifCond .lt 8, 3) := by decide +kernel
theorem dX0_takeOut_120 : decode cX0_takeOut 120 = .ok (.iload 5, 2) := by decide +kernel
theorem dX0_takeOut_122 : decode cX0_takeOut 122 = .ok (.goto 16, 3) := by decide +kernel
theorem dX0_takeOut_125 : decode cX0_takeOut 125 = .ok (.aload_n 0, 1) := by decide +kernel
theorem dX0_takeOut_126 : decode cX0_takeOut 126 = .ok (.getfield 23, 3) := by decide +kernel
theorem dX0_takeOut_129 : decode cX0_takeOut 129 = .ok (.iconst 2, 1) := by decide +kernel
theorem dX0_takeOut_130 : decode cX0_takeOut 130 = .ok (.aload_n 0, 1) := by decide +kernel
theorem dX0_takeOut_131 : decode cX0_takeOut 131 = .ok (.getfield 78, 3) := by decide +kernel
theorem dX0_takeOut_134 : decode cX0_takeOut 134 = .ok (.imul, 1) := by decide +kernel
theorem dX0_takeOut_135 : decode cX0_takeOut 135 = .ok (.iconst 1, 1) := by decide +kernel
theorem dX0_takeOut_136 : decode cX0_takeOut 136 = .ok (.iadd, 1) := by decide +kernel
theorem dX0_takeOut_137 : decode cX0_takeOut 137 = .ok (.iaload, 1) := by decide +kernel
theorem dX0_takeOut_138 : decode cX0_takeOut 138 = .ok (.istore 6, 2) := by decide +kernel
theorem dX0_takeOut_140 : decode cX0_takeOut 140 = .ok (.aload_n 0, 1) := by decide +kernel
theorem dX0_takeOut_141 : decode cX0_takeOut 141 = .ok (.aload_n 0, 1) := by decide +kernel
theorem dX0_takeOut_142 : decode cX0_takeOut 142 = .ok (.getfield 81, 3) := by decide +kernel
theorem dX0_takeOut_145 : decode cX0_takeOut 145 = .ok (.aload_n 0, 1) := by decide +kernel
theorem dX0_takeOut_146 : decode cX0_takeOut 146 = .ok (.getfield 13, 3) := by decide +kernel
theorem dX0_takeOut_149 : decode cX0_takeOut 149 = .ok (.aload_n 0, 1) := by decide +kernel
theorem dX0_takeOut_150 : decode cX0_takeOut 150 = .ok (.getfield 78, 3) := by decide +kernel
theorem dX0_takeOut_153 : decode cX0_takeOut 153 = .ok (.iaload, 1) := by decide +kernel
theorem dX0_takeOut_154 : decode cX0_takeOut 154 = .ok (.iload 6, 2) := by decide +kernel
theorem dX0_takeOut_156 : decode cX0_takeOut 156 = .ok (.invokevirtual 95, 3) := by decide +kernel
theorem dX0_takeOut_159 : decode cX0_takeOut 159 = .ok (.aload_n 0, 1) := by decide +kernel
theorem dX0_takeOut_160 : decode cX0_takeOut 160 = .ok (.aload_n 0, 1) := by decide +kernel
theorem dX0_takeOut_161 : decode cX0_takeOut 161 = .ok (.getfield 78, 3) := by decide +kernel
theorem dX0_takeOut_164 : decode cX0_takeOut 164 = .ok (.invokevirtual 101, 3) := by decide +kernel
theorem dX0_takeOut_167 : decode cX0_takeOut 167 = .ok (.return_, 1) := by decide +kernel
theorem dX0_release_0 : decode cX0_release 0 = .ok (.aload_n 0, 1) := by decide +kernel
theorem dX0_release_1 : decode cX0_release 1 = .ok (.getfield 7, 3) := by decide +kernel
theorem dX0_release_4 : decode cX0_release 4 = .ok (.iload_n 1, 1) := by decide +kernel
theorem dX0_release_5 : decode cX0_release 5 = .ok (.iconst 0, 1) := by decide +kernel
theorem dX0_release_6 : decode cX0_release 6 = .ok (.bastore, 1) := by decide +kernel
theorem dX0_release_7 : decode cX0_release 7 = .ok (.aload_n 0, 1) := by decide +kernel
theorem dX0_release_8 : decode cX0_release 8 = .ok (.getfield 23, 3) := by decide +kernel
theorem dX0_release_11 : decode cX0_release 11 = .ok (.iconst 2, 1) := by decide +kernel
theorem dX0_release_12 : decode cX0_release 12 = .ok (.iload_n 1, 1) := by decide +kernel
theorem dX0_release_13 : decode cX0_release 13 = .ok (.imul, 1) := by decide +kernel
theorem dX0_release_14 : decode cX0_release 14 = .ok (.aload_n 0, 1) := by decide +kernel
theorem dX0_release_15 : decode cX0_release 15 = .ok (.getfield 88, 3) := by decide +kernel
theorem dX0_release_18 : decode cX0_release 18 = .ok (.iastore, 1) := by decide +kernel
theorem dX0_release_19 : decode cX0_release 19 = .ok (.aload_n 0, 1) := by decide +kernel
theorem dX0_release_20 : decode cX0_release 20 = .ok (.iload_n 1, 1) := by decide +kernel
theorem dX0_release_21 : decode cX0_release 21 = .ok (.putfield 88, 3) := by decide +kernel
theorem dX0_release_24 : decode cX0_release 24 = .ok (.return_, 1) := by decide +kernel
theorem dX0_forget_0 : decode cX0_forget 0 = .ok (.iload_n 1, 1) := by decide +kernel
theorem dX0_forget_1 : decode cX0_forget 1 = .ok (.ifCond .lt 9, 3) := by decide +kernel
theorem dX0_forget_4 : decode cX0_forget 4 = .ok (.iload_n 1, 1) := by decide +kernel
theorem dX0_forget_5 : decode cX0_forget 5 = .ok (.bipush 7, 2) := by decide +kernel
theorem dX0_forget_7 : decode cX0_forget 7 = .ok (.if_icmp .le 5, 3) := by decide +kernel
theorem dX0_forget_10 : decode cX0_forget 10 = .ok (.iconst (-1), 1) := by decide +kernel
theorem dX0_forget_11 : decode cX0_forget 11 = .ok (.ireturn, 1) := by decide +kernel
theorem dX0_forget_12 : decode cX0_forget 12 = .ok (.iconst 0, 1) := by decide +kernel
theorem dX0_forget_13 : decode cX0_forget 13 = .ok (.istore_n 2, 1) := by decide +kernel
theorem dX0_forget_14 : decode cX0_forget 14 = .ok (.iconst 0, 1) := by decide +kernel
theorem dX0_forget_15 : decode cX0_forget 15 = .ok (.istore_n 3, 1) := by decide +kernel
theorem dX0_forget_16 : decode cX0_forget 16 = .ok (.iload_n 3, 1) := by decide +kernel
theorem dX0_forget_17 : decode cX0_forget 17 = .ok (.bipush 64, 2) := by decide +kernel
theorem dX0_forget_19 : decode cX0_forget 19 = .ok (.if_icmp .ge 55, 3) := by decide +kernel
theorem dX0_forget_22 : decode cX0_forget 22 = .ok (.aload_n 0, 1) := by decide +kernel
theorem dX0_forget_23 : decode cX0_forget 23 = .ok (.getfield 7, 3) := by decide +kernel
theorem dX0_forget_26 : decode cX0_forget 26 = .ok (.iload_n 3, 1) := by decide +kernel
theorem dX0_forget_27 : decode cX0_forget 27 = .ok (.baload, 1) := by decide +kernel
theorem dX0_forget_28 : decode cX0_forget 28 = .ok (.ifCond .eq 40, 3) := by decide +kernel
theorem dX0_forget_31 : decode cX0_forget 31 = .ok (.aload_n 0, 1) := by decide +kernel
theorem dX0_forget_32 : decode cX0_forget 32 = .ok (.getfield 20, 3) := by decide +kernel
theorem dX0_forget_35 : decode cX0_forget 35 = .ok (.iload_n 3, 1) := by decide +kernel
theorem dX0_forget_36 : decode cX0_forget 36 = .ok (.iaload, 1) := by decide +kernel
theorem dX0_forget_37 : decode cX0_forget 37 = .ok (.iload_n 1, 1) := by decide +kernel
theorem dX0_forget_38 : decode cX0_forget 38 = .ok (.if_icmp .ne 30, 3) := by decide +kernel
theorem dX0_forget_41 : decode cX0_forget 41 = .ok (.aload_n 0, 1) := by decide +kernel
theorem dX0_forget_42 : decode cX0_forget 42 = .ok (.aload_n 0, 1) := by decide +kernel
theorem dX0_forget_43 : decode cX0_forget 43 = .ok (.getfield 13, 3) := by decide +kernel
theorem dX0_forget_46 : decode cX0_forget 46 = .ok (.iload_n 3, 1) := by decide +kernel
theorem dX0_forget_47 : decode cX0_forget 47 = .ok (.iaload, 1) := by decide +kernel
theorem dX0_forget_48 : decode cX0_forget 48 = .ok (.aload_n 0, 1) := by decide +kernel
theorem dX0_forget_49 : decode cX0_forget 49 = .ok (.getfield 17, 3) := by decide +kernel
theorem dX0_forget_52 : decode cX0_forget 52 = .ok (.iload_n 3, 1) := by decide +kernel
theorem dX0_forget_53 : decode cX0_forget 53 = .ok (.iaload, 1) := by decide +kernel
theorem dX0_forget_54 : decode cX0_forget 54 = .ok (.invokevirtual 47, 3) := by decide +kernel
theorem dX0_forget_57 : decode cX0_forget 57 = .ok (.istore 4, 2) := by decide +kernel
theorem dX0_forget_59 : decode cX0_forget 59 = .ok (.aload_n 0, 1) := by decide +kernel
theorem dX0_forget_60 : decode cX0_forget 60 = .ok (.iload 4, 2) := by decide +kernel
theorem dX0_forget_62 : decode cX0_forget 62 = .ok (.invokevirtual 57, 3) := by decide +kernel
theorem dX0_forget_65 : decode cX0_forget 65 = .ok (.iinc 2 1, 3) := by decide +kernel
theorem dX0_forget_68 : decode cX0_forget 68 = .ok (.iinc 3 1, 3) := by decide +kernel
theorem dX0_forget_71 : decode cX0_forget 71 = .ok (.goto (-55), 3) := by decide +kernel
theorem dX0_forget_74 : decode cX0_forget 74 = .ok (.iload_n 2, 1) := by decide +kernel
theorem dX0_forget_75 : decode cX0_forget 75 = .ok (.ireturn, 1) := by decide +kernel
theorem dX0_owner_0 : decode cX0_owner 0 = .ok (.aload_n 0, 1) := by decide +kernel
theorem dX0_owner_1 : decode cX0_owner 1 = .ok (.iload_n 1, 1) := by decide +kernel
theorem dX0_owner_2 : decode cX0_owner 2 = .ok (.ldc 42, 2) := by decide +kernel
theorem dX0_owner_4 : decode cX0_owner 4 = .ok (.iand, 1) := by decide +kernel
theorem dX0_owner_5 : decode cX0_owner 5 = .ok (.invokevirtual 61, 3) := by decide +kernel
theorem dX0_owner_8 : decode cX0_owner 8 = .ok (.istore_n 2, 1) := by decide +kernel
theorem dX0_owner_9 : decode cX0_owner 9 = .ok (.iload_n 2, 1) := by decide +kernel
theorem dX0_owner_10 : decode cX0_owner 10 = .ok (.ifCond .ge 7, 3) := by decide +kernel
theorem dX0_owner_13 : decode cX0_owner 13 = .ok (.iconst (-1), 1) := by decide +kernel
theorem dX0_owner_14 : decode cX0_owner 14 = .ok (.goto 9, 3) := by decide +kernel
theorem dX0_owner_17 : decode cX0_owner 17 = .ok (.aload_n 0, 1) := by decide +kernel
theorem dX0_owner_18 : decode cX0_owner 18 = .ok (.getfield 20, 3) := by decide +kernel
theorem dX0_owner_21 : decode cX0_owner 21 = .ok (.iload_n 2, 1) := by decide +kernel
theorem dX0_owner_22 : decode cX0_owner 22 = .ok (.iaload, 1) := by decide +kernel
theorem dX0_owner_23 : decode cX0_owner 23 = .ok (.ireturn, 1) := by decide +kernel
theorem dX0_settling_0 : decode cX0_settling 0 = .ok (.iconst (-1), 1) := by decide +kernel
theorem dX0_settling_1 : decode cX0_settling 1 = .ok (.istore_n 2, 1) := by decide +kernel
theorem dX0_settling_2 : decode cX0_settling 2 = .ok (.aload_n 0, 1) := by decide +kernel
theorem dX0_settling_3 : decode cX0_settling 3 = .ok (.getfield 38, 3) := by decide +kernel
theorem dX0_settling_6 : decode cX0_settling 6 = .ok (.istore_n 3, 1) := by decide +kernel
theorem dX0_settling_7 : decode cX0_settling 7 = .ok (.iconst 0, 1) := by decide +kernel
theorem dX0_settling_8 : decode cX0_settling 8 = .ok (.istore 4, 2) := by decide +kernel
theorem dX0_settling_10 : decode cX0_settling 10 = .ok (.iload 4, 2) := by decide +kernel
theorem dX0_settling_12 : decode cX0_settling 12 = .ok (.bipush 18, 2) := by decide +kernel
theorem dX0_settling_14 : decode cX0_settling 14 = .ok (.if_icmp .ge 72, 3) := by decide +kernel
theorem dX0_settling_17 : decode cX0_settling 17 = .ok (.iload_n 3, 1) := by decide +kernel
theorem dX0_settling_18 : decode cX0_settling 18 = .ok (.ifCond .lt 68, 3) := by decide +kernel
theorem dX0_settling_21 : decode cX0_settling 21 = .ok (.aload_n 0, 1) := by decide +kernel
theorem dX0_settling_22 : decode cX0_settling 22 = .ok (.iload_n 3, 1) := by decide +kernel
theorem dX0_settling_23 : decode cX0_settling 23 = .ok (.iload_n 1, 1) := by decide +kernel
theorem dX0_settling_24 : decode cX0_settling 24 = .ok (.invokevirtual 84, 3) := by decide +kernel
theorem dX0_settling_27 : decode cX0_settling 27 = .ok (.ifCond .eq 59, 3) := by decide +kernel
theorem dX0_settling_30 : decode cX0_settling 30 = .ok (.aload_n 0, 1) := by decide +kernel
theorem dX0_settling_31 : decode cX0_settling 31 = .ok (.getfield 20, 3) := by decide +kernel
theorem dX0_settling_34 : decode cX0_settling 34 = .ok (.iload_n 3, 1) := by decide +kernel
theorem dX0_settling_35 : decode cX0_settling 35 = .ok (.iaload, 1) := by decide +kernel
theorem dX0_settling_36 : decode cX0_settling 36 = .ok (.ifCond .lt 7, 3) := by decide +kernel
theorem dX0_settling_39 : decode cX0_settling 39 = .ok (.iload_n 3, 1) := by decide +kernel
theorem dX0_settling_40 : decode cX0_settling 40 = .ok (.goto 4, 3) := by decide +kernel
theorem dX0_settling_43 : decode cX0_settling 43 = .ok (.iload_n 2, 1) := by decide +kernel
theorem dX0_settling_44 : decode cX0_settling 44 = .ok (.istore_n 2, 1) := by decide +kernel
theorem dX0_settling_45 : decode cX0_settling 45 = .ok (.aload_n 0, 1) := by decide +kernel
theorem dX0_settling_46 : decode cX0_settling 46 = .ok (.getfield 17, 3) := by decide +kernel
theorem dX0_settling_49 : decode cX0_settling 49 = .ok (.iload_n 3, 1) := by decide +kernel
theorem dX0_settling_50 : decode cX0_settling 50 = .ok (.iaload, 1) := by decide +kernel
theorem dX0_settling_51 : decode cX0_settling 51 = .ok (.bipush 16, 2) := by decide +kernel
theorem dX0_settling_53 : decode cX0_settling 53 = .ok (.if_icmp .ne 7, 3) := by decide +kernel
theorem dX0_settling_56 : decode cX0_settling 56 = .ok (.iconst (-1), 1) := by decide +kernel
theorem dX0_settling_57 : decode cX0_settling 57 = .ok (.goto 22, 3) := by decide +kernel
theorem dX0_settling_60 : decode cX0_settling 60 = .ok (.aload_n 0, 1) := by decide +kernel
theorem dX0_settling_61 : decode cX0_settling 61 = .ok (.getfield 23, 3) := by decide +kernel
theorem dX0_settling_64 : decode cX0_settling 64 = .ok (.iconst 2, 1) := by decide +kernel
theorem dX0_settling_65 : decode cX0_settling 65 = .ok (.iload_n 3, 1) := by decide +kernel
theorem dX0_settling_66 : decode cX0_settling 66 = .ok (.imul, 1) := by decide +kernel
theorem dX0_settling_67 : decode cX0_settling 67 = .ok (.iload_n 1, 1) := by decide +kernel
theorem dX0_settling_68 : decode cX0_settling 68 = .ok (.aload_n 0, 1) := by decide +kernel
theorem dX0_settling_69 : decode cX0_settling 69 = .ok (.getfield 17, 3) := by decide +kernel
theorem dX0_settling_72 : decode cX0_settling 72 = .ok (.iload_n 3, 1) := by decide +kernel
theorem dX0_settling_73 : decode cX0_settling 73 = .ok (.iaload, 1) := by decide +kernel
theorem dX0_settling_74 : decode cX0_settling 74 = .ok (.invokestatic 75, 3) := by decide +kernel
theorem dX0_settling_77 : decode cX0_settling 77 = .ok (.iadd, 1) := by decide +kernel
theorem dX0_settling_78 : decode cX0_settling 78 = .ok (.iaload, 1) := by decide +kernel
theorem dX0_settling_79 : decode cX0_settling 79 = .ok (.istore_n 3, 1) := by decide +kernel
theorem dX0_settling_80 : decode cX0_settling 80 = .ok (.iinc 4 1, 3) := by decide +kernel
theorem dX0_settling_83 : decode cX0_settling 83 = .ok (.goto (-73), 3) := by decide +kernel
theorem dX0_settling_86 : decode cX0_settling 86 = .ok (.iload_n 2, 1) := by decide +kernel
theorem dX0_settling_87 : decode cX0_settling 87 = .ok (.ireturn, 1) := by decide +kernel
theorem dX0_length_0 : decode cX0_length 0 = .ok (.aload_n 0, 1) := by decide +kernel
theorem dX0_length_1 : decode cX0_length 1 = .ok (.iload_n 1, 1) := by decide +kernel
theorem dX0_length_2 : decode cX0_length 2 = .ok (.ldc 42, 2) := by decide +kernel
theorem dX0_length_4 : decode cX0_length 4 = .ok (.iand, 1) := by decide +kernel
theorem dX0_length_5 : decode cX0_length 5 = .ok (.invokevirtual 61, 3) := by decide +kernel
theorem dX0_length_8 : decode cX0_length 8 = .ok (.istore_n 2, 1) := by decide +kernel
theorem dX0_length_9 : decode cX0_length 9 = .ok (.iload_n 2, 1) := by decide +kernel
theorem dX0_length_10 : decode cX0_length 10 = .ok (.ifCond .ge 7, 3) := by decide +kernel
theorem dX0_length_13 : decode cX0_length 13 = .ok (.iconst (-1), 1) := by decide +kernel
theorem dX0_length_14 : decode cX0_length 14 = .ok (.goto 9, 3) := by decide +kernel
theorem dX0_length_17 : decode cX0_length 17 = .ok (.aload_n 0, 1) := by decide +kernel
theorem dX0_length_18 : decode cX0_length 18 = .ok (.getfield 17, 3) := by decide +kernel
theorem dX0_length_21 : decode cX0_length 21 = .ok (.iload_n 2, 1) := by decide +kernel
theorem dX0_length_22 : decode cX0_length 22 = .ok (.iaload, 1) := by decide +kernel
theorem dX0_length_23 : decode cX0_length 23 = .ok (.ireturn, 1) := by decide +kernel
theorem dX0_owned_0 : decode cX0_owned 0 = .ok (.iload_n 1, 1) := by decide +kernel
theorem dX0_owned_1 : decode cX0_owned 1 = .ok (.iconst (-1), 1) := by decide +kernel
theorem dX0_owned_2 : decode cX0_owned 2 = .ok (.if_icmp .lt 9, 3) := by decide +kernel
theorem dX0_owned_5 : decode cX0_owned 5 = .ok (.iload_n 1, 1) := by decide +kernel
theorem dX0_owned_6 : decode cX0_owned 6 = .ok (.bipush 7, 2) := by decide +kernel
theorem dX0_owned_8 : decode cX0_owned 8 = .ok (.if_icmp .le 6, 3) := by decide +kernel
theorem dX0_owned_11 : decode cX0_owned 11 = .ok (.bipush (-2), 2) := by decide +kernel
theorem dX0_owned_13 : decode cX0_owned 13 = .ok (.ireturn, 1) := by decide +kernel
theorem dX0_owned_14 : decode cX0_owned 14 = .ok (.aload_n 0, 1) := by decide +kernel
theorem dX0_owned_15 : decode cX0_owned 15 = .ok (.invokevirtual 65, 3) := by decide +kernel
theorem dX0_owned_18 : decode cX0_owned 18 = .ok (.aload_n 0, 1) := by decide +kernel
theorem dX0_owned_19 : decode cX0_owned 19 = .ok (.getfield 26, 3) := by decide +kernel
theorem dX0_owned_22 : decode cX0_owned 22 = .ok (.iload_n 1, 1) := by decide +kernel
theorem dX0_owned_23 : decode cX0_owned 23 = .ok (.ifCond .ge 8, 3) := by decide +kernel
theorem dX0_owned_26 : decode cX0_owned 26 = .ok (.bipush 8, 2) := by decide +kernel
theorem dX0_owned_28 : decode cX0_owned 28 = .ok (.goto 4, 3) := by decide +kernel
theorem dX0_owned_31 : decode cX0_owned 31 = .ok (.iload_n 1, 1) := by decide +kernel
theorem dX0_owned_32 : decode cX0_owned 32 = .ok (.iaload, 1) := by decide +kernel
theorem dX0_owned_33 : decode cX0_owned 33 = .ok (.ireturn, 1) := by decide +kernel
theorem dX0_settleAll_0 : decode cX0_settleAll 0 = .ok (.iconst 0, 1) := by decide +kernel
theorem dX0_settleAll_1 : decode cX0_settleAll 1 = .ok (.istore_n 1, 1) := by decide +kernel
theorem dX0_settleAll_2 : decode cX0_settleAll 2 = .ok (.iload_n 1, 1) := by decide +kernel
theorem dX0_settleAll_3 : decode cX0_settleAll 3 = .ok (.bipush 9, 2) := by decide +kernel
theorem dX0_settleAll_5 : decode cX0_settleAll 5 = .ok (.if_icmp .ge 16, 3) := by decide +kernel
theorem dX0_settleAll_8 : decode cX0_settleAll 8 = .ok (.aload_n 0, 1) := by decide +kernel
theorem dX0_settleAll_9 : decode cX0_settleAll 9 = .ok (.getfield 26, 3) := by decide +kernel
theorem dX0_settleAll_12 : decode cX0_settleAll 12 = .ok (.iload_n 1, 1) := by decide +kernel
theorem dX0_settleAll_13 : decode cX0_settleAll 13 = .ok (.iconst 0, 1) := by decide +kernel
theorem dX0_settleAll_14 : decode cX0_settleAll 14 = .ok (.iastore, 1) := by decide +kernel
theorem dX0_settleAll_15 : decode cX0_settleAll 15 = .ok (.iinc 1 1, 3) := by decide +kernel
theorem dX0_settleAll_18 : decode cX0_settleAll 18 = .ok (.goto (-16), 3) := by decide +kernel
theorem dX0_settleAll_21 : decode cX0_settleAll 21 = .ok (.aload_n 0, 1) := by decide +kernel
theorem dX0_settleAll_22 : decode cX0_settleAll 22 = .ok (.getfield 26, 3) := by decide +kernel
theorem dX0_settleAll_25 : decode cX0_settleAll 25 = .ok (.bipush 8, 2) := by decide +kernel
theorem dX0_settleAll_27 : decode cX0_settleAll 27 = .ok (.ldc 68, 2) := by decide +kernel
theorem dX0_settleAll_29 : decode cX0_settleAll 29 = .ok (.iastore, 1) := by decide +kernel
theorem dX0_settleAll_30 : decode cX0_settleAll 30 = .ok (.iconst 0, 1) := by decide +kernel
theorem dX0_settleAll_31 : decode cX0_settleAll 31 = .ok (.istore_n 1, 1) := by decide +kernel
theorem dX0_settleAll_32 : decode cX0_settleAll 32 = .ok (.aload_n 0, 1) := by decide +kernel
theorem dX0_settleAll_33 : decode cX0_settleAll 33 = .ok (.getfield 38, 3) := by decide +kernel
theorem dX0_settleAll_36 : decode cX0_settleAll 36 = .ok (.ifCond .lt 25, 3) := by decide +kernel
theorem dX0_settleAll_39 : decode cX0_settleAll 39 = .ok (.aload_n 0, 1) := by decide +kernel
theorem dX0_settleAll_40 : decode cX0_settleAll 40 = .ok (.getfield 35, 3) := by decide +kernel
theorem dX0_settleAll_43 : decode cX0_settleAll 43 = .ok (.iconst 0, 1) := by decide +kernel
theorem dX0_settleAll_44 : decode cX0_settleAll 44 = .ok (.aload_n 0, 1) := by decide +kernel
theorem dX0_settleAll_45 : decode cX0_settleAll 45 = .ok (.getfield 38, 3) := by decide +kernel
theorem dX0_settleAll_48 : decode cX0_settleAll 48 = .ok (.iastore, 1) := by decide +kernel
theorem dX0_settleAll_49 : decode cX0_settleAll 49 = .ok (.aload_n 0, 1) := by decide +kernel
theorem dX0_settleAll_50 : decode cX0_settleAll 50 = .ok (.getfield 32, 3) := by decide +kernel
theorem dX0_settleAll_53 : decode cX0_settleAll 53 = .ok (.aload_n 0, 1) := by decide +kernel
theorem dX0_settleAll_54 : decode cX0_settleAll 54 = .ok (.getfield 38, 3) := by decide +kernel
theorem dX0_settleAll_57 : decode cX0_settleAll 57 = .ok (.iconst (-1), 1) := by decide +kernel
theorem dX0_settleAll_58 : decode cX0_settleAll 58 = .ok (.iastore, 1) := by decide +kernel
theorem dX0_settleAll_59 : decode cX0_settleAll 59 = .ok (.iconst 1, 1) := by decide +kernel
theorem dX0_settleAll_60 : decode cX0_settleAll 60 = .ok (.istore_n 1, 1) := by decide +kernel
theorem dX0_settleAll_61 : decode cX0_settleAll 61 = .ok (.iconst 0, 1) := by decide +kernel
theorem dX0_settleAll_62 : decode cX0_settleAll 62 = .ok (.istore_n 2, 1) := by decide +kernel
theorem dX0_settleAll_63 : decode cX0_settleAll 63 = .ok (.iload_n 2, 1) := by decide +kernel
theorem dX0_settleAll_64 : decode cX0_settleAll 64 = .ok (.bipush 64, 2) := by decide +kernel
theorem dX0_settleAll_66 : decode cX0_settleAll 66 = .ok (.if_icmp .ge 31, 3) := by decide +kernel
theorem dX0_settleAll_69 : decode cX0_settleAll 69 = .ok (.iload_n 1, 1) := by decide +kernel
theorem dX0_settleAll_70 : decode cX0_settleAll 70 = .ok (.ifCond .le 27, 3) := by decide +kernel
theorem dX0_settleAll_73 : decode cX0_settleAll 73 = .ok (.aload_n 0, 1) := by decide +kernel
theorem dX0_settleAll_74 : decode cX0_settleAll 74 = .ok (.getfield 35, 3) := by decide +kernel
theorem dX0_settleAll_77 : decode cX0_settleAll 77 = .ok (.iload_n 1, 1) := by decide +kernel
theorem dX0_settleAll_78 : decode cX0_settleAll 78 = .ok (.iconst 1, 1) := by decide +kernel
theorem dX0_settleAll_79 : decode cX0_settleAll 79 = .ok (.isub, 1) := by decide +kernel
theorem dX0_settleAll_80 : decode cX0_settleAll 80 = .ok (.iaload, 1) := by decide +kernel
theorem dX0_settleAll_81 : decode cX0_settleAll 81 = .ok (.istore_n 3, 1) := by decide +kernel
theorem dX0_settleAll_82 : decode cX0_settleAll 82 = .ok (.aload_n 0, 1) := by decide +kernel
theorem dX0_settleAll_83 : decode cX0_settleAll 83 = .ok (.iload_n 3, 1) := by decide +kernel
theorem dX0_settleAll_84 : decode cX0_settleAll 84 = .ok (.iload_n 1, 1) := by decide +kernel
theorem dX0_settleAll_85 : decode cX0_settleAll 85 = .ok (.iconst 1, 1) := by decide +kernel
theorem dX0_settleAll_86 : decode cX0_settleAll 86 = .ok (.isub, 1) := by decide +kernel
theorem dX0_settleAll_87 : decode cX0_settleAll 87 = .ok (.invokevirtual 104, 3) := by decide +kernel
theorem dX0_settleAll_90 : decode cX0_settleAll 90 = .ok (.istore_n 1, 1) := by decide +kernel
theorem dX0_settleAll_91 : decode cX0_settleAll 91 = .ok (.iinc 2 1, 3) := by decide +kernel
theorem dX0_settleAll_94 : decode cX0_settleAll 94 = .ok (.goto (-31), 3) := by decide +kernel
theorem dX0_settleAll_97 : decode cX0_settleAll 97 = .ok (.return_, 1) := by decide +kernel
theorem dX0_visit_0 : decode cX0_visit 0 = .ok (.aload_n 0, 1) := by decide +kernel
theorem dX0_visit_1 : decode cX0_visit 1 = .ok (.getfield 32, 3) := by decide +kernel
theorem dX0_visit_4 : decode cX0_visit 4 = .ok (.iload_n 1, 1) := by decide +kernel
theorem dX0_visit_5 : decode cX0_visit 5 = .ok (.iaload, 1) := by decide +kernel
theorem dX0_visit_6 : decode cX0_visit 6 = .ok (.istore_n 3, 1) := by decide +kernel
theorem dX0_visit_7 : decode cX0_visit 7 = .ok (.aload_n 0, 1) := by decide +kernel
theorem dX0_visit_8 : decode cX0_visit 8 = .ok (.getfield 20, 3) := by decide +kernel
theorem dX0_visit_11 : decode cX0_visit 11 = .ok (.iload_n 1, 1) := by decide +kernel
theorem dX0_visit_12 : decode cX0_visit 12 = .ok (.iaload, 1) := by decide +kernel
theorem dX0_visit_13 : decode cX0_visit 13 = .ok (.ifCond .lt 80, 3) := by decide +kernel
theorem dX0_visit_16 : decode cX0_visit 16 = .ok (.ldc 68, 2) := by decide +kernel
theorem dX0_visit_18 : decode cX0_visit 18 = .ok (.aload_n 0, 1) := by decide +kernel
theorem dX0_visit_19 : decode cX0_visit 19 = .ok (.getfield 17, 3) := by decide +kernel
theorem dX0_visit_22 : decode cX0_visit 22 = .ok (.iload_n 1, 1) := by decide +kernel
theorem dX0_visit_23 : decode cX0_visit 23 = .ok (.iaload, 1) := by decide +kernel
theorem dX0_visit_24 : decode cX0_visit 24 = .ok (.ishr, 1) := by decide +kernel
theorem dX0_visit_25 : decode cX0_visit 25 = .ok (.istore 4, 2) := by decide +kernel
theorem dX0_visit_27 : decode cX0_visit 27 = .ok (.aload_n 0, 1) := by decide +kernel
theorem dX0_visit_28 : decode cX0_visit 28 = .ok (.getfield 29, 3) := by decide +kernel
theorem dX0_visit_31 : decode cX0_visit 31 = .ok (.iload_n 1, 1) := by decide +kernel
theorem dX0_visit_32 : decode cX0_visit 32 = .ok (.iload 4, 2) := by decide +kernel
theorem dX0_visit_34 : decode cX0_visit 34 = .ok (.iastore, 1) := by decide +kernel
theorem dX0_visit_35 : decode cX0_visit 35 = .ok (.aload_n 0, 1) := by decide +kernel
theorem dX0_visit_36 : decode cX0_visit 36 = .ok (.getfield 26, 3) := by decide +kernel
theorem dX0_visit_39 : decode cX0_visit 39 = .ok (.aload_n 0, 1) := by decide +kernel
theorem dX0_visit_40 : decode cX0_visit 40 = .ok (.getfield 20, 3) := by decide +kernel
theorem dX0_visit_43 : decode cX0_visit 43 = .ok (.iload_n 1, 1) := by decide +kernel
theorem dX0_visit_44 : decode cX0_visit 44 = .ok (.iaload, 1) := by decide +kernel
theorem dX0_visit_45 : decode cX0_visit 45 = .ok (.dup2, 1) := by decide +kernel
theorem dX0_visit_46 : decode cX0_visit 46 = .ok (.iaload, 1) := by decide +kernel
theorem dX0_visit_47 : decode cX0_visit 47 = .ok (.iload 4, 2) := by decide +kernel
theorem dX0_visit_49 : decode cX0_visit 49 = .ok (.iadd, 1) := by decide +kernel
theorem dX0_visit_50 : decode cX0_visit 50 = .ok (.iastore, 1) := by decide +kernel
theorem dX0_visit_51 : decode cX0_visit 51 = .ok (.aload_n 0, 1) := by decide +kernel
theorem dX0_visit_52 : decode cX0_visit 52 = .ok (.getfield 26, 3) := by decide +kernel
theorem dX0_visit_55 : decode cX0_visit 55 = .ok (.iload_n 3, 1) := by decide +kernel
theorem dX0_visit_56 : decode cX0_visit 56 = .ok (.ifCond .ge 8, 3) := by decide +kernel
theorem dX0_visit_59 : decode cX0_visit 59 = .ok (.bipush 8, 2) := by decide +kernel
theorem dX0_visit_61 : decode cX0_visit 61 = .ok (.goto 9, 3) := by decide +kernel
theorem dX0_visit_64 : decode cX0_visit 64 = .ok (.aload_n 0, 1) := by decide +kernel
theorem dX0_visit_65 : decode cX0_visit 65 = .ok (.getfield 20, 3) := by decide +kernel
theorem dX0_visit_68 : decode cX0_visit 68 = .ok (.iload_n 3, 1) := by decide +kernel
theorem dX0_visit_69 : decode cX0_visit 69 = .ok (.iaload, 1) := by decide +kernel
theorem dX0_visit_70 : decode cX0_visit 70 = .ok (.dup2, 1) := by decide +kernel
theorem dX0_visit_71 : decode cX0_visit 71 = .ok (.iaload, 1) := by decide +kernel
theorem dX0_visit_72 : decode cX0_visit 72 = .ok (.iload 4, 2) := by decide +kernel
theorem dX0_visit_74 : decode cX0_visit 74 = .ok (.isub, 1) := by decide +kernel
theorem dX0_visit_75 : decode cX0_visit 75 = .ok (.iastore, 1) := by decide +kernel
theorem dX0_visit_76 : decode cX0_visit 76 = .ok (.iload_n 3, 1) := by decide +kernel
theorem dX0_visit_77 : decode cX0_visit 77 = .ok (.ifCond .lt 14, 3) := by decide +kernel
theorem dX0_visit_80 : decode cX0_visit 80 = .ok (.aload_n 0, 1) := by decide +kernel
theorem dX0_visit_81 : decode cX0_visit 81 = .ok (.getfield 29, 3) := by decide +kernel
theorem dX0_visit_84 : decode cX0_visit 84 = .ok (.iload_n 3, 1) := by decide +kernel
theorem dX0_visit_85 : decode cX0_visit 85 = .ok (.dup2, 1) := by decide +kernel
theorem dX0_visit_86 : decode cX0_visit 86 = .ok (.iaload, 1) := by decide +kernel
theorem dX0_visit_87 : decode cX0_visit 87 = .ok (.iload 4, 2) := by decide +kernel
theorem dX0_visit_89 : decode cX0_visit 89 = .ok (.isub, 1) := by decide +kernel
theorem dX0_visit_90 : decode cX0_visit 90 = .ok (.iastore, 1) := by decide +kernel
theorem dX0_visit_91 : decode cX0_visit 91 = .ok (.iload_n 1, 1) := by decide +kernel
theorem dX0_visit_92 : decode cX0_visit 92 = .ok (.istore_n 3, 1) := by decide +kernel
theorem dX0_visit_93 : decode cX0_visit 93 = .ok (.iload_n 2, 1) := by decide +kernel
theorem dX0_visit_94 : decode cX0_visit 94 = .ok (.istore 4, 2) := by decide +kernel
theorem dX0_visit_96 : decode cX0_visit 96 = .ok (.iconst 0, 1) := by decide +kernel
theorem dX0_visit_97 : decode cX0_visit 97 = .ok (.istore 5, 2) := by decide +kernel
theorem dX0_visit_99 : decode cX0_visit 99 = .ok (.iload 5, 2) := by decide +kernel
theorem dX0_visit_101 : decode cX0_visit 101 = .ok (.iconst 2, 1) := by decide +kernel
theorem dX0_visit_102 : decode cX0_visit 102 = .ok (.if_icmp .ge 47, 3) := by decide +kernel
theorem dX0_visit_105 : decode cX0_visit 105 = .ok (.aload_n 0, 1) := by decide +kernel
theorem dX0_visit_106 : decode cX0_visit 106 = .ok (.getfield 23, 3) := by decide +kernel
theorem dX0_visit_109 : decode cX0_visit 109 = .ok (.iconst 2, 1) := by decide +kernel
theorem dX0_visit_110 : decode cX0_visit 110 = .ok (.iload_n 1, 1) := by decide +kernel
theorem dX0_visit_111 : decode cX0_visit 111 = .ok (.imul, 1) := by decide +kernel
theorem dX0_visit_112 : decode cX0_visit 112 = .ok (.iload 5, 2) := by decide +kernel
theorem dX0_visit_114 : decode cX0_visit 114 = .ok (.iadd, 1) := by decide +kernel
theorem dX0_visit_115 : decode cX0_visit 115 = .ok (.iaload, 1) := by decide +kernel
theorem dX0_visit_116 : decode cX0_visit 116 = .ok (.istore 6, 2) := by decide +kernel
theorem dX0_visit_118 : decode cX0_visit 118 = .ok (.iload 6, 2) := by decide +kernel
theorem dX0_visit_120 : decode cX0_visit 120 = .ok (.ifCond .lt 23, 3) := by decide +kernel
theorem dX0_visit_123 : decode cX0_visit 123 = .ok (.aload_n 0, 1) := by decide +kernel
theorem dX0_visit_124 : decode cX0_visit 124 = .ok (.getfield 32, 3) := by decide +kernel
theorem dX0_visit_127 : decode cX0_visit 127 = .ok (.iload 6, 2) := by decide +kernel
theorem dX0_visit_129 : decode cX0_visit 129 = .ok (.iload_n 3, 1) := by decide +kernel
theorem dX0_visit_130 : decode cX0_visit 130 = .ok (.iastore, 1) := by decide +kernel
theorem dX0_visit_131 : decode cX0_visit 131 = .ok (.aload_n 0, 1) := by decide +kernel
theorem dX0_visit_132 : decode cX0_visit 132 = .ok (.getfield 35, 3) := by decide +kernel
theorem dX0_visit_135 : decode cX0_visit 135 = .ok (.iload 4, 2) := by decide +kernel
theorem dX0_visit_137 : decode cX0_visit 137 = .ok (.iload 6, 2) := by decide +kernel
theorem dX0_visit_139 : decode cX0_visit 139 = .ok (.iastore, 1) := by decide +kernel
theorem dX0_visit_140 : decode cX0_visit 140 = .ok (.iinc 4 1, 3) := by decide +kernel
theorem dX0_visit_143 : decode cX0_visit 143 = .ok (.iinc 5 1, 3) := by decide +kernel
theorem dX0_visit_146 : decode cX0_visit 146 = .ok (.goto (-47), 3) := by decide +kernel
theorem dX0_visit_149 : decode cX0_visit 149 = .ok (.iload 4, 2) := by decide +kernel
theorem dX0_visit_151 : decode cX0_visit 151 = .ok (.ireturn, 1) := by decide +kernel
theorem dX0_next_0 : decode cX0_next 0 = .ok (.iload_n 1, 1) := by decide +kernel
theorem dX0_next_1 : decode cX0_next 1 = .ok (.iconst (-1), 1) := by decide +kernel
theorem dX0_next_2 : decode cX0_next 2 = .ok (.if_icmp .lt 9, 3) := by decide +kernel
theorem dX0_next_5 : decode cX0_next 5 = .ok (.iload_n 1, 1) := by decide +kernel
theorem dX0_next_6 : decode cX0_next 6 = .ok (.bipush 7, 2) := by decide +kernel
theorem dX0_next_8 : decode cX0_next 8 = .ok (.if_icmp .le 6, 3) := by decide +kernel
theorem dX0_next_11 : decode cX0_next 11 = .ok (.bipush (-2), 2) := by decide +kernel
theorem dX0_next_13 : decode cX0_next 13 = .ok (.ireturn, 1) := by decide +kernel
theorem dX0_next_14 : decode cX0_next 14 = .ok (.iload_n 2, 1) := by decide +kernel
theorem dX0_next_15 : decode cX0_next 15 = .ok (.ifCond .ge 7, 3) := by decide +kernel
theorem dX0_next_18 : decode cX0_next 18 = .ok (.iconst 0, 1) := by decide +kernel
theorem dX0_next_19 : decode cX0_next 19 = .ok (.goto 4, 3) := by decide +kernel
theorem dX0_next_22 : decode cX0_next 22 = .ok (.iload_n 2, 1) := by decide +kernel
theorem dX0_next_23 : decode cX0_next 23 = .ok (.istore_n 3, 1) := by decide +kernel
theorem dX0_next_24 : decode cX0_next 24 = .ok (.iconst 0, 1) := by decide +kernel
theorem dX0_next_25 : decode cX0_next 25 = .ok (.istore 4, 2) := by decide +kernel
theorem dX0_next_27 : decode cX0_next 27 = .ok (.iload 4, 2) := by decide +kernel
theorem dX0_next_29 : decode cX0_next 29 = .ok (.sipush 130, 3) := by decide +kernel
theorem dX0_next_32 : decode cX0_next 32 = .ok (.if_icmp .ge 36, 3) := by decide +kernel
theorem dX0_next_35 : decode cX0_next 35 = .ok (.iload_n 3, 1) := by decide +kernel
theorem dX0_next_36 : decode cX0_next 36 = .ok (.ldc 68, 2) := by decide +kernel
theorem dX0_next_38 : decode cX0_next 38 = .ok (.if_icmp .ge 30, 3) := by decide +kernel
theorem dX0_next_41 : decode cX0_next 41 = .ok (.aload_n 0, 1) := by decide +kernel
theorem dX0_next_42 : decode cX0_next 42 = .ok (.iload_n 3, 1) := by decide +kernel
theorem dX0_next_43 : decode cX0_next 43 = .ok (.invokevirtual 69, 3) := by decide +kernel
theorem dX0_next_46 : decode cX0_next 46 = .ok (.istore 5, 2) := by decide +kernel
theorem dX0_next_48 : decode cX0_next 48 = .ok (.iload 5, 2) := by decide +kernel
theorem dX0_next_50 : decode cX0_next 50 = .ok (.iload_n 1, 1) := by decide +kernel
theorem dX0_next_51 : decode cX0_next 51 = .ok (.if_icmp .ne 5, 3) := by decide +kernel
theorem dX0_next_54 : decode cX0_next 54 = .ok (.iload_n 3, 1) := by decide +kernel
theorem dX0_next_55 : decode cX0_next 55 = .ok (.ireturn, 1) := by decide +kernel
theorem dX0_next_56 : decode cX0_next 56 = .ok (.aload_n 0, 1) := by decide +kernel
theorem dX0_next_57 : decode cX0_next 57 = .ok (.iload_n 3, 1) := by decide +kernel
theorem dX0_next_58 : decode cX0_next 58 = .ok (.invokevirtual 72, 3) := by decide +kernel
theorem dX0_next_61 : decode cX0_next 61 = .ok (.istore_n 3, 1) := by decide +kernel
theorem dX0_next_62 : decode cX0_next 62 = .ok (.iinc 4 1, 3) := by decide +kernel
theorem dX0_next_65 : decode cX0_next 65 = .ok (.goto (-38), 3) := by decide +kernel
theorem dX0_next_68 : decode cX0_next 68 = .ok (.iconst (-1), 1) := by decide +kernel
theorem dX0_next_69 : decode cX0_next 69 = .ok (.ireturn, 1) := by decide +kernel
theorem dX0_nextEdge_0 : decode cX0_nextEdge 0 = .ok (.ldc 68, 2) := by decide +kernel
theorem dX0_nextEdge_2 : decode cX0_nextEdge 2 = .ok (.istore_n 2, 1) := by decide +kernel
theorem dX0_nextEdge_3 : decode cX0_nextEdge 3 = .ok (.iconst 0, 1) := by decide +kernel
theorem dX0_nextEdge_4 : decode cX0_nextEdge 4 = .ok (.istore_n 3, 1) := by decide +kernel
theorem dX0_nextEdge_5 : decode cX0_nextEdge 5 = .ok (.iload_n 3, 1) := by decide +kernel
theorem dX0_nextEdge_6 : decode cX0_nextEdge 6 = .ok (.bipush 64, 2) := by decide +kernel
theorem dX0_nextEdge_8 : decode cX0_nextEdge 8 = .ok (.if_icmp .ge 86, 3) := by decide +kernel
theorem dX0_nextEdge_11 : decode cX0_nextEdge 11 = .ok (.aload_n 0, 1) := by decide +kernel
theorem dX0_nextEdge_12 : decode cX0_nextEdge 12 = .ok (.getfield 7, 3) := by decide +kernel
theorem dX0_nextEdge_15 : decode cX0_nextEdge 15 = .ok (.iload_n 3, 1) := by decide +kernel
theorem dX0_nextEdge_16 : decode cX0_nextEdge 16 = .ok (.baload, 1) := by decide +kernel
theorem dX0_nextEdge_17 : decode cX0_nextEdge 17 = .ok (.ifCond .eq 71, 3) := by decide +kernel
theorem dX0_nextEdge_20 : decode cX0_nextEdge 20 = .ok (.aload_n 0, 1) := by decide +kernel
theorem dX0_nextEdge_21 : decode cX0_nextEdge 21 = .ok (.getfield 13, 3) := by decide +kernel
theorem dX0_nextEdge_24 : decode cX0_nextEdge 24 = .ok (.iload_n 3, 1) := by decide +kernel
theorem dX0_nextEdge_25 : decode cX0_nextEdge 25 = .ok (.iaload, 1) := by decide +kernel
theorem dX0_nextEdge_26 : decode cX0_nextEdge 26 = .ok (.ldc 68, 2) := by decide +kernel
theorem dX0_nextEdge_28 : decode cX0_nextEdge 28 = .ok (.aload_n 0, 1) := by decide +kernel
theorem dX0_nextEdge_29 : decode cX0_nextEdge 29 = .ok (.getfield 17, 3) := by decide +kernel
theorem dX0_nextEdge_32 : decode cX0_nextEdge 32 = .ok (.iload_n 3, 1) := by decide +kernel
theorem dX0_nextEdge_33 : decode cX0_nextEdge 33 = .ok (.iaload, 1) := by decide +kernel
theorem dX0_nextEdge_34 : decode cX0_nextEdge 34 = .ok (.ishr, 1) := by decide +kernel
theorem dX0_nextEdge_35 : decode cX0_nextEdge 35 = .ok (.iadd, 1) := by decide +kernel
theorem dX0_nextEdge_36 : decode cX0_nextEdge 36 = .ok (.istore 4, 2) := by decide +kernel
theorem dX0_nextEdge_38 : decode cX0_nextEdge 38 = .ok (.aload_n 0, 1) := by decide +kernel
theorem dX0_nextEdge_39 : decode cX0_nextEdge 39 = .ok (.getfield 13, 3) := by decide +kernel
theorem dX0_nextEdge_42 : decode cX0_nextEdge 42 = .ok (.iload_n 3, 1) := by decide +kernel
theorem dX0_nextEdge_43 : decode cX0_nextEdge 43 = .ok (.iaload, 1) := by decide +kernel
theorem dX0_nextEdge_44 : decode cX0_nextEdge 44 = .ok (.iload_n 1, 1) := by decide +kernel
theorem dX0_nextEdge_45 : decode cX0_nextEdge 45 = .ok (.if_icmp .le 22, 3) := by decide +kernel
theorem dX0_nextEdge_48 : decode cX0_nextEdge 48 = .ok (.aload_n 0, 1) := by decide +kernel
theorem dX0_nextEdge_49 : decode cX0_nextEdge 49 = .ok (.getfield 13, 3) := by decide +kernel
theorem dX0_nextEdge_52 : decode cX0_nextEdge 52 = .ok (.iload_n 3, 1) := by decide +kernel
theorem dX0_nextEdge_53 : decode cX0_nextEdge 53 = .ok (.iaload, 1) := by decide +kernel
theorem dX0_nextEdge_54 : decode cX0_nextEdge 54 = .ok (.iload_n 2, 1) := by decide +kernel
theorem dX0_nextEdge_55 : decode cX0_nextEdge 55 = .ok (.if_icmp .ge 12, 3) := by decide +kernel
theorem dX0_nextEdge_58 : decode cX0_nextEdge 58 = .ok (.aload_n 0, 1) := by decide +kernel
theorem dX0_nextEdge_59 : decode cX0_nextEdge 59 = .ok (.getfield 13, 3) := by decide +kernel
theorem dX0_nextEdge_62 : decode cX0_nextEdge 62 = .ok (.iload_n 3, 1) := by decide +kernel
theorem dX0_nextEdge_63 : decode cX0_nextEdge 63 = .ok (.iaload, 1) := by decide +kernel
theorem dX0_nextEdge_64 : decode cX0_nextEdge 64 = .ok (.goto 4, 3) := by decide +kernel
theorem dX0_nextEdge_67 : decode cX0_nextEdge 67 = .ok (.iload_n 2, 1) := by decide +kernel
theorem dX0_nextEdge_68 : decode cX0_nextEdge 68 = .ok (.istore_n 2, 1) := by decide +kernel
theorem dX0_nextEdge_69 : decode cX0_nextEdge 69 = .ok (.iload 4, 2) := by decide +kernel
theorem dX0_nextEdge_71 : decode cX0_nextEdge 71 = .ok (.iload_n 1, 1) := by decide +kernel
theorem dX0_nextEdge_72 : decode cX0_nextEdge 72 = .ok (.if_icmp .le 14, 3) := by decide +kernel
theorem dX0_nextEdge_75 : decode cX0_nextEdge 75 = .ok (.iload 4, 2) := by decide +kernel
theorem dX0_nextEdge_77 : decode cX0_nextEdge 77 = .ok (.iload_n 2, 1) := by decide +kernel
theorem dX0_nextEdge_78 : decode cX0_nextEdge 78 = .ok (.if_icmp .ge 8, 3) := by decide +kernel
theorem dX0_nextEdge_81 : decode cX0_nextEdge 81 = .ok (.iload 4, 2) := by decide +kernel
theorem dX0_nextEdge_83 : decode cX0_nextEdge 83 = .ok (.goto 4, 3) := by decide +kernel
theorem dX0_nextEdge_86 : decode cX0_nextEdge 86 = .ok (.iload_n 2, 1) := by decide +kernel
theorem dX0_nextEdge_87 : decode cX0_nextEdge 87 = .ok (.istore_n 2, 1) := by decide +kernel
theorem dX0_nextEdge_88 : decode cX0_nextEdge 88 = .ok (.iinc 3 1, 3) := by decide +kernel
theorem dX0_nextEdge_91 : decode cX0_nextEdge 91 = .ok (.goto (-86), 3) := by decide +kernel
theorem dX0_nextEdge_94 : decode cX0_nextEdge 94 = .ok (.iload_n 2, 1) := by decide +kernel
theorem dX0_nextEdge_95 : decode cX0_nextEdge 95 = .ok (.ireturn, 1) := by decide +kernel
theorem dX0_useless_0 : decode cX0_useless 0 = .ok (.aload_n 0, 1) := by decide +kernel
theorem dX0_useless_1 : decode cX0_useless 1 = .ok (.invokevirtual 65, 3) := by decide +kernel
theorem dX0_useless_4 : decode cX0_useless 4 = .ok (.iconst 0, 1) := by decide +kernel
theorem dX0_useless_5 : decode cX0_useless 5 = .ok (.istore_n 1, 1) := by decide +kernel
theorem dX0_useless_6 : decode cX0_useless 6 = .ok (.iconst 0, 1) := by decide +kernel
theorem dX0_useless_7 : decode cX0_useless 7 = .ok (.istore_n 2, 1) := by decide +kernel
theorem dX0_useless_8 : decode cX0_useless 8 = .ok (.iload_n 2, 1) := by decide +kernel
theorem dX0_useless_9 : decode cX0_useless 9 = .ok (.bipush 64, 2) := by decide +kernel
theorem dX0_useless_11 : decode cX0_useless 11 = .ok (.if_icmp .ge 83, 3) := by decide +kernel
theorem dX0_useless_14 : decode cX0_useless 14 = .ok (.aload_n 0, 1) := by decide +kernel
theorem dX0_useless_15 : decode cX0_useless 15 = .ok (.getfield 7, 3) := by decide +kernel
theorem dX0_useless_18 : decode cX0_useless 18 = .ok (.iload_n 2, 1) := by decide +kernel
theorem dX0_useless_19 : decode cX0_useless 19 = .ok (.baload, 1) := by decide +kernel
theorem dX0_useless_20 : decode cX0_useless 20 = .ok (.ifCond .eq 68, 3) := by decide +kernel
theorem dX0_useless_23 : decode cX0_useless 23 = .ok (.aload_n 0, 1) := by decide +kernel
theorem dX0_useless_24 : decode cX0_useless 24 = .ok (.getfield 20, 3) := by decide +kernel
theorem dX0_useless_27 : decode cX0_useless 27 = .ok (.iload_n 2, 1) := by decide +kernel
theorem dX0_useless_28 : decode cX0_useless 28 = .ok (.iaload, 1) := by decide +kernel
theorem dX0_useless_29 : decode cX0_useless 29 = .ok (.ifCond .lt 59, 3) := by decide +kernel
theorem dX0_useless_32 : decode cX0_useless 32 = .ok (.aload_n 0, 1) := by decide +kernel
theorem dX0_useless_33 : decode cX0_useless 33 = .ok (.getfield 32, 3) := by decide +kernel
theorem dX0_useless_36 : decode cX0_useless 36 = .ok (.iload_n 2, 1) := by decide +kernel
theorem dX0_useless_37 : decode cX0_useless 37 = .ok (.iaload, 1) := by decide +kernel
theorem dX0_useless_38 : decode cX0_useless 38 = .ok (.ifCond .lt 27, 3) := by decide +kernel
theorem dX0_useless_41 : decode cX0_useless 41 = .ok (.aload_n 0, 1) := by decide +kernel
theorem dX0_useless_42 : decode cX0_useless 42 = .ok (.getfield 20, 3) := by decide +kernel
theorem dX0_useless_45 : decode cX0_useless 45 = .ok (.aload_n 0, 1) := by decide +kernel
theorem dX0_useless_46 : decode cX0_useless 46 = .ok (.getfield 32, 3) := by decide +kernel
theorem dX0_useless_49 : decode cX0_useless 49 = .ok (.iload_n 2, 1) := by decide +kernel
theorem dX0_useless_50 : decode cX0_useless 50 = .ok (.iaload, 1) := by decide +kernel
theorem dX0_useless_51 : decode cX0_useless 51 = .ok (.iaload, 1) := by decide +kernel
theorem dX0_useless_52 : decode cX0_useless 52 = .ok (.aload_n 0, 1) := by decide +kernel
theorem dX0_useless_53 : decode cX0_useless 53 = .ok (.getfield 20, 3) := by decide +kernel
theorem dX0_useless_56 : decode cX0_useless 56 = .ok (.iload_n 2, 1) := by decide +kernel
theorem dX0_useless_57 : decode cX0_useless 57 = .ok (.iaload, 1) := by decide +kernel
theorem dX0_useless_58 : decode cX0_useless 58 = .ok (.if_icmp .ne 7, 3) := by decide +kernel
theorem dX0_useless_61 : decode cX0_useless 61 = .ok (.iconst 1, 1) := by decide +kernel
theorem dX0_useless_62 : decode cX0_useless 62 = .ok (.goto 4, 3) := by decide +kernel
theorem dX0_useless_65 : decode cX0_useless 65 = .ok (.iconst 0, 1) := by decide +kernel
theorem dX0_useless_66 : decode cX0_useless 66 = .ok (.istore_n 3, 1) := by decide +kernel
theorem dX0_useless_67 : decode cX0_useless 67 = .ok (.iload_n 1, 1) := by decide +kernel
theorem dX0_useless_68 : decode cX0_useless 68 = .ok (.aload_n 0, 1) := by decide +kernel
theorem dX0_useless_69 : decode cX0_useless 69 = .ok (.getfield 29, 3) := by decide +kernel
theorem dX0_useless_72 : decode cX0_useless 72 = .ok (.iload_n 2, 1) := by decide +kernel
theorem dX0_useless_73 : decode cX0_useless 73 = .ok (.iaload, 1) := by decide +kernel
theorem dX0_useless_74 : decode cX0_useless 74 = .ok (.ifCond .eq 7, 3) := by decide +kernel
theorem dX0_useless_77 : decode cX0_useless 77 = .ok (.iload_n 3, 1) := by decide +kernel
theorem dX0_useless_78 : decode cX0_useless 78 = .ok (.ifCond .eq 7, 3) := by decide +kernel
theorem dX0_useless_81 : decode cX0_useless 81 = .ok (.iconst 1, 1) := by decide +kernel
theorem dX0_useless_82 : decode cX0_useless 82 = .ok (.goto 4, 3) := by decide +kernel
theorem dX0_useless_85 : decode cX0_useless 85 = .ok (.iconst 0, 1) := by decide +kernel
theorem dX0_useless_86 : decode cX0_useless 86 = .ok (.iadd, 1) := by decide +kernel
theorem dX0_useless_87 : decode cX0_useless 87 = .ok (.istore_n 1, 1) := by decide +kernel
theorem dX0_useless_88 : decode cX0_useless 88 = .ok (.iinc 2 1, 3) := by decide +kernel
theorem dX0_useless_91 : decode cX0_useless 91 = .ok (.goto (-83), 3) := by decide +kernel
theorem dX0_useless_94 : decode cX0_useless 94 = .ok (.iload_n 1, 1) := by decide +kernel
theorem dX0_useless_95 : decode cX0_useless 95 = .ok (.ireturn, 1) := by decide +kernel
theorem dX0_entries_0 : decode cX0_entries 0 = .ok (.iload_n 1, 1) := by decide +kernel
theorem dX0_entries_1 : decode cX0_entries 1 = .ok (.ifCond .lt 9, 3) := by decide +kernel
theorem dX0_entries_4 : decode cX0_entries 4 = .ok (.iload_n 1, 1) := by decide +kernel
theorem dX0_entries_5 : decode cX0_entries 5 = .ok (.bipush 7, 2) := by decide +kernel
theorem dX0_entries_7 : decode cX0_entries 7 = .ok (.if_icmp .le 5, 3) := by decide +kernel
theorem dX0_entries_10 : decode cX0_entries 10 = .ok (.iconst (-1), 1) := by decide +kernel
theorem dX0_entries_11 : decode cX0_entries 11 = .ok (.ireturn, 1) := by decide +kernel
theorem dX0_entries_12 : decode cX0_entries 12 = .ok (.iconst 0, 1) := by decide +kernel
theorem dX0_entries_13 : decode cX0_entries 13 = .ok (.istore_n 2, 1) := by decide +kernel
theorem dX0_entries_14 : decode cX0_entries 14 = .ok (.iconst 0, 1) := by decide +kernel
theorem dX0_entries_15 : decode cX0_entries 15 = .ok (.istore_n 3, 1) := by decide +kernel
theorem dX0_entries_16 : decode cX0_entries 16 = .ok (.iload_n 3, 1) := by decide +kernel
theorem dX0_entries_17 : decode cX0_entries 17 = .ok (.bipush 64, 2) := by decide +kernel
theorem dX0_entries_19 : decode cX0_entries 19 = .ok (.if_icmp .ge 36, 3) := by decide +kernel
theorem dX0_entries_22 : decode cX0_entries 22 = .ok (.iload_n 2, 1) := by decide +kernel
theorem dX0_entries_23 : decode cX0_entries 23 = .ok (.aload_n 0, 1) := by decide +kernel
theorem dX0_entries_24 : decode cX0_entries 24 = .ok (.getfield 7, 3) := by decide +kernel
theorem dX0_entries_27 : decode cX0_entries 27 = .ok (.iload_n 3, 1) := by decide +kernel
theorem dX0_entries_28 : decode cX0_entries 28 = .ok (.baload, 1) := by decide +kernel
theorem dX0_entries_29 : decode cX0_entries 29 = .ok (.ifCond .eq 17, 3) := by decide +kernel
theorem dX0_entries_32 : decode cX0_entries 32 = .ok (.aload_n 0, 1) := by decide +kernel
theorem dX0_entries_33 : decode cX0_entries 33 = .ok (.getfield 20, 3) := by decide +kernel
theorem dX0_entries_36 : decode cX0_entries 36 = .ok (.iload_n 3, 1) := by decide +kernel
theorem dX0_entries_37 : decode cX0_entries 37 = .ok (.iaload, 1) := by decide +kernel
theorem dX0_entries_38 : decode cX0_entries 38 = .ok (.iload_n 1, 1) := by decide +kernel
theorem dX0_entries_39 : decode cX0_entries 39 = .ok (.if_icmp .ne 7, 3) := by decide +kernel
theorem dX0_entries_42 : decode cX0_entries 42 = .ok (.iconst 1, 1) := by decide +kernel
theorem dX0_entries_43 : decode cX0_entries 43 = .ok (.goto 4, 3) := by decide +kernel
theorem dX0_entries_46 : decode cX0_entries 46 = .ok (.iconst 0, 1) := by decide +kernel
theorem dX0_entries_47 : decode cX0_entries 47 = .ok (.iadd, 1) := by decide +kernel
theorem dX0_entries_48 : decode cX0_entries 48 = .ok (.istore_n 2, 1) := by decide +kernel
theorem dX0_entries_49 : decode cX0_entries 49 = .ok (.iinc 3 1, 3) := by decide +kernel
theorem dX0_entries_52 : decode cX0_entries 52 = .ok (.goto (-36), 3) := by decide +kernel
theorem dX0_entries_55 : decode cX0_entries 55 = .ok (.iload_n 2, 1) := by decide +kernel
theorem dX0_entries_56 : decode cX0_entries 56 = .ok (.ireturn, 1) := by decide +kernel
end
section
/-! PeerRoutesModel -/
set_option maxRecDepth 100000
def RX1 : String := "PeerRoutesModel"
def TX1 : u_T := fun k => match k with
  | 0 => ("PeerRoutesModel", "entries", "I", false)
  | 1 => ("PeerRoutesModel", "starts", "[I", true)
  | 2 => ("PeerRoutesModel", "lengths", "[I", true)
  | _ => ("PeerRoutesModel", "peers", "[I", true)
def tyX1 : Nat → FieldType := fun k => match k with
  | 0 => .int
  | 1 => .array .int
  | 2 => .array .int
  | _ => .array .int
abbrev wsX10 : List Cond := u_ws RX1 TX1 4
theorem nmX1 : ∀ a, a < 4 → ∀ b, b < 4 → a ≠ b → (TX1 a).2.1 ≠ (TX1 b).2.1 := by decide +kernel
theorem tyX1_ok : ∀ k, k < 4 → parseFieldDescriptor (TX1 k).2.2.1 = some (tyX1 k) := by decide +kernel
abbrev cX1_init : ByteArray := prog_3_method_1_code
def yX1_init : MethodName := ⟨RX1, "<init>", "()V"⟩
theorem dX1_init_0 : decode cX1_init 0 = .ok (.aload_n 0, 1) := by decide +kernel
theorem dX1_init_1 : decode cX1_init 1 = .ok (.invokespecial 1, 3) := by decide +kernel
theorem dX1_init_4 : decode cX1_init 4 = .ok (.aload_n 0, 1) := by decide +kernel
theorem dX1_init_5 : decode cX1_init 5 = .ok (.bipush 32, 2) := by decide +kernel
theorem dX1_init_7 : decode cX1_init 7 = .ok (.newarray .int, 2) := by decide +kernel
theorem dX1_init_9 : decode cX1_init 9 = .ok (.putfield 7, 3) := by decide +kernel
theorem dX1_init_12 : decode cX1_init 12 = .ok (.aload_n 0, 1) := by decide +kernel
theorem dX1_init_13 : decode cX1_init 13 = .ok (.bipush 32, 2) := by decide +kernel
theorem dX1_init_15 : decode cX1_init 15 = .ok (.newarray .int, 2) := by decide +kernel
theorem dX1_init_17 : decode cX1_init 17 = .ok (.putfield 13, 3) := by decide +kernel
theorem dX1_init_20 : decode cX1_init 20 = .ok (.aload_n 0, 1) := by decide +kernel
theorem dX1_init_21 : decode cX1_init 21 = .ok (.bipush 32, 2) := by decide +kernel
theorem dX1_init_23 : decode cX1_init 23 = .ok (.newarray .int, 2) := by decide +kernel
theorem dX1_init_25 : decode cX1_init 25 = .ok (.putfield 16, 3) := by decide +kernel
theorem dX1_init_28 : decode cX1_init 28 = .ok (.return_, 1) := by decide +kernel
abbrev cX1_allow : ByteArray := prog_3_method_6_code
def yX1_allow : MethodName := ⟨RX1, "allow", "(III)I"⟩
theorem dX1_allow_0 : decode cX1_allow 0 = .ok (.iload_n 2, 1) := by decide +kernel
theorem dX1_allow_1 : decode cX1_allow 1 = .ok (.invokestatic 32, 3) := by decide +kernel
theorem dX1_allow_4 : decode cX1_allow 4 = .ok (.ifCond .ne 13, 3) := by decide +kernel
theorem dX1_allow_7 : decode cX1_allow 7 = .ok (.iload_n 3, 1) := by decide +kernel
theorem dX1_allow_8 : decode cX1_allow 8 = .ok (.ifCond .lt 9, 3) := by decide +kernel
theorem dX1_allow_11 : decode cX1_allow 11 = .ok (.iload_n 3, 1) := by decide +kernel
theorem dX1_allow_12 : decode cX1_allow 12 = .ok (.bipush 7, 2) := by decide +kernel
theorem dX1_allow_14 : decode cX1_allow 14 = .ok (.if_icmp .le 5, 3) := by decide +kernel
theorem dX1_allow_17 : decode cX1_allow 17 = .ok (.iconst (-1), 1) := by decide +kernel
theorem dX1_allow_18 : decode cX1_allow 18 = .ok (.ireturn, 1) := by decide +kernel
theorem dX1_allow_19 : decode cX1_allow 19 = .ok (.aload_n 0, 1) := by decide +kernel
theorem dX1_allow_20 : decode cX1_allow 20 = .ok (.iload_n 1, 1) := by decide +kernel
theorem dX1_allow_21 : decode cX1_allow 21 = .ok (.iload_n 2, 1) := by decide +kernel
theorem dX1_allow_22 : decode cX1_allow 22 = .ok (.invokevirtual 36, 3) := by decide +kernel
theorem dX1_allow_25 : decode cX1_allow 25 = .ok (.istore 4, 2) := by decide +kernel
theorem dX1_allow_27 : decode cX1_allow 27 = .ok (.iload 4, 2) := by decide +kernel
theorem dX1_allow_29 : decode cX1_allow 29 = .ok (.ifCond .ge 14, 3) := by decide +kernel
theorem dX1_allow_32 : decode cX1_allow 32 = .ok (.aload_n 0, 1) := by decide +kernel
theorem dX1_allow_33 : decode cX1_allow 33 = .ok (.getfield 24, 3) := by decide +kernel
theorem dX1_allow_36 : decode cX1_allow 36 = .ok (.bipush 32, 2) := by decide +kernel
theorem dX1_allow_38 : decode cX1_allow 38 = .ok (.if_icmp .ne 5, 3) := by decide +kernel
theorem dX1_allow_41 : decode cX1_allow 41 = .ok (.iconst (-1), 1) := by decide +kernel
theorem dX1_allow_42 : decode cX1_allow 42 = .ok (.ireturn, 1) := by decide +kernel
theorem dX1_allow_43 : decode cX1_allow 43 = .ok (.iload 4, 2) := by decide +kernel
theorem dX1_allow_45 : decode cX1_allow 45 = .ok (.ifCond .ge 39, 3) := by decide +kernel
theorem dX1_allow_48 : decode cX1_allow 48 = .ok (.aload_n 0, 1) := by decide +kernel
theorem dX1_allow_49 : decode cX1_allow 49 = .ok (.getfield 24, 3) := by decide +kernel
theorem dX1_allow_52 : decode cX1_allow 52 = .ok (.istore 4, 2) := by decide +kernel
theorem dX1_allow_54 : decode cX1_allow 54 = .ok (.aload_n 0, 1) := by decide +kernel
theorem dX1_allow_55 : decode cX1_allow 55 = .ok (.getfield 7, 3) := by decide +kernel
theorem dX1_allow_58 : decode cX1_allow 58 = .ok (.iload 4, 2) := by decide +kernel
theorem dX1_allow_60 : decode cX1_allow 60 = .ok (.iload_n 1, 1) := by decide +kernel
theorem dX1_allow_61 : decode cX1_allow 61 = .ok (.iload_n 2, 1) := by decide +kernel
theorem dX1_allow_62 : decode cX1_allow 62 = .ok (.invokestatic 28, 3) := by decide +kernel
theorem dX1_allow_65 : decode cX1_allow 65 = .ok (.iastore, 1) := by decide +kernel
theorem dX1_allow_66 : decode cX1_allow 66 = .ok (.aload_n 0, 1) := by decide +kernel
theorem dX1_allow_67 : decode cX1_allow 67 = .ok (.getfield 13, 3) := by decide +kernel
theorem dX1_allow_70 : decode cX1_allow 70 = .ok (.iload 4, 2) := by decide +kernel
theorem dX1_allow_72 : decode cX1_allow 72 = .ok (.iload_n 2, 1) := by decide +kernel
theorem dX1_allow_73 : decode cX1_allow 73 = .ok (.iastore, 1) := by decide +kernel
theorem dX1_allow_74 : decode cX1_allow 74 = .ok (.aload_n 0, 1) := by decide +kernel
theorem dX1_allow_75 : decode cX1_allow 75 = .ok (.dup, 1) := by decide +kernel
theorem dX1_allow_76 : decode cX1_allow 76 = .ok (.getfield 24, 3) := by decide +kernel
theorem dX1_allow_79 : decode cX1_allow 79 = .ok (.iconst 1, 1) := by decide +kernel
theorem dX1_allow_80 : decode cX1_allow 80 = .ok (.iadd, 1) := by decide +kernel
theorem dX1_allow_81 : decode cX1_allow 81 = .ok (.putfield 24, 3) := by decide +kernel
theorem dX1_allow_84 : decode cX1_allow 84 = .ok (.aload_n 0, 1) := by decide +kernel
theorem dX1_allow_85 : decode cX1_allow 85 = .ok (.getfield 16, 3) := by decide +kernel
theorem dX1_allow_88 : decode cX1_allow 88 = .ok (.iload 4, 2) := by decide +kernel
theorem dX1_allow_90 : decode cX1_allow 90 = .ok (.iload_n 3, 1) := by decide +kernel
theorem dX1_allow_91 : decode cX1_allow 91 = .ok (.iastore, 1) := by decide +kernel
theorem dX1_allow_92 : decode cX1_allow 92 = .ok (.aload_n 0, 1) := by decide +kernel
theorem dX1_allow_93 : decode cX1_allow 93 = .ok (.getfield 24, 3) := by decide +kernel
theorem dX1_allow_96 : decode cX1_allow 96 = .ok (.ireturn, 1) := by decide +kernel
abbrev cX1_badLength : ByteArray := prog_3_method_5_code
def yX1_badLength : MethodName := ⟨RX1, "badLength", "(I)Z"⟩
theorem dX1_badLength_0 : decode cX1_badLength 0 = .ok (.iload_n 0, 1) := by decide +kernel
theorem dX1_badLength_1 : decode cX1_badLength 1 = .ok (.ifCond .lt 9, 3) := by decide +kernel
theorem dX1_badLength_4 : decode cX1_badLength 4 = .ok (.iload_n 0, 1) := by decide +kernel
theorem dX1_badLength_5 : decode cX1_badLength 5 = .ok (.bipush 16, 2) := by decide +kernel
theorem dX1_badLength_7 : decode cX1_badLength 7 = .ok (.if_icmp .le 7, 3) := by decide +kernel
theorem dX1_badLength_10 : decode cX1_badLength 10 = .ok (.iconst 1, 1) := by decide +kernel
theorem dX1_badLength_11 : decode cX1_badLength 11 = .ok (.goto 4, 3) := by decide +kernel
theorem dX1_badLength_14 : decode cX1_badLength 14 = .ok (.iconst 0, 1) := by decide +kernel
theorem dX1_badLength_15 : decode cX1_badLength 15 = .ok (.ireturn, 1) := by decide +kernel
abbrev cX1_find : ByteArray := prog_3_method_4_code
def yX1_find : MethodName := ⟨RX1, "find", "(II)I"⟩
theorem dX1_find_0 : decode cX1_find 0 = .ok (.iconst 0, 1) := by decide +kernel
theorem dX1_find_1 : decode cX1_find 1 = .ok (.istore_n 3, 1) := by decide +kernel
theorem dX1_find_2 : decode cX1_find 2 = .ok (.iload_n 3, 1) := by decide +kernel
theorem dX1_find_3 : decode cX1_find 3 = .ok (.aload_n 0, 1) := by decide +kernel
theorem dX1_find_4 : decode cX1_find 4 = .ok (.getfield 24, 3) := by decide +kernel
theorem dX1_find_7 : decode cX1_find 7 = .ok (.if_icmp .ge 35, 3) := by decide +kernel
theorem dX1_find_10 : decode cX1_find 10 = .ok (.aload_n 0, 1) := by decide +kernel
theorem dX1_find_11 : decode cX1_find 11 = .ok (.getfield 13, 3) := by decide +kernel
theorem dX1_find_14 : decode cX1_find 14 = .ok (.iload_n 3, 1) := by decide +kernel
theorem dX1_find_15 : decode cX1_find 15 = .ok (.iaload, 1) := by decide +kernel
theorem dX1_find_16 : decode cX1_find 16 = .ok (.iload_n 2, 1) := by decide +kernel
theorem dX1_find_17 : decode cX1_find 17 = .ok (.if_icmp .ne 19, 3) := by decide +kernel
theorem dX1_find_20 : decode cX1_find 20 = .ok (.aload_n 0, 1) := by decide +kernel
theorem dX1_find_21 : decode cX1_find 21 = .ok (.getfield 7, 3) := by decide +kernel
theorem dX1_find_24 : decode cX1_find 24 = .ok (.iload_n 3, 1) := by decide +kernel
theorem dX1_find_25 : decode cX1_find 25 = .ok (.iaload, 1) := by decide +kernel
theorem dX1_find_26 : decode cX1_find 26 = .ok (.iload_n 1, 1) := by decide +kernel
theorem dX1_find_27 : decode cX1_find 27 = .ok (.iload_n 2, 1) := by decide +kernel
theorem dX1_find_28 : decode cX1_find 28 = .ok (.invokestatic 28, 3) := by decide +kernel
theorem dX1_find_31 : decode cX1_find 31 = .ok (.if_icmp .ne 5, 3) := by decide +kernel
theorem dX1_find_34 : decode cX1_find 34 = .ok (.iload_n 3, 1) := by decide +kernel
theorem dX1_find_35 : decode cX1_find 35 = .ok (.ireturn, 1) := by decide +kernel
theorem dX1_find_36 : decode cX1_find 36 = .ok (.iinc 3 1, 3) := by decide +kernel
theorem dX1_find_39 : decode cX1_find 39 = .ok (.goto (-37), 3) := by decide +kernel
theorem dX1_find_42 : decode cX1_find 42 = .ok (.iconst (-1), 1) := by decide +kernel
theorem dX1_find_43 : decode cX1_find 43 = .ok (.ireturn, 1) := by decide +kernel
abbrev cX1_start : ByteArray := prog_3_method_3_code
def yX1_start : MethodName := ⟨RX1, "start", "(II)I"⟩
theorem dX1_start_0 : decode cX1_start 0 = .ok (.iload_n 1, 1) := by decide +kernel
theorem dX1_start_1 : decode cX1_start 1 = .ok (.invokestatic 19, 3) := by decide +kernel
theorem dX1_start_4 : decode cX1_start 4 = .ok (.istore_n 2, 1) := by decide +kernel
theorem dX1_start_5 : decode cX1_start 5 = .ok (.iload_n 2, 1) := by decide +kernel
theorem dX1_start_6 : decode cX1_start 6 = .ok (.ifCond .le 14, 3) := by decide +kernel
theorem dX1_start_9 : decode cX1_start 9 = .ok (.iload_n 0, 1) := by decide +kernel
theorem dX1_start_10 : decode cX1_start 10 = .ok (.ldc 23, 2) := by decide +kernel
theorem dX1_start_12 : decode cX1_start 12 = .ok (.iand, 1) := by decide +kernel
theorem dX1_start_13 : decode cX1_start 13 = .ok (.iload_n 2, 1) := by decide +kernel
theorem dX1_start_14 : decode cX1_start 14 = .ok (.idiv, 1) := by decide +kernel
theorem dX1_start_15 : decode cX1_start 15 = .ok (.iload_n 2, 1) := by decide +kernel
theorem dX1_start_16 : decode cX1_start 16 = .ok (.imul, 1) := by decide +kernel
theorem dX1_start_17 : decode cX1_start 17 = .ok (.goto 4, 3) := by decide +kernel
theorem dX1_start_20 : decode cX1_start 20 = .ok (.iconst 0, 1) := by decide +kernel
theorem dX1_start_21 : decode cX1_start 21 = .ok (.ireturn, 1) := by decide +kernel
abbrev cX1_sizeOf : ByteArray := prog_3_method_2_code
def yX1_sizeOf : MethodName := ⟨RX1, "sizeOf", "(I)I"⟩
theorem dX1_sizeOf_0 : decode cX1_sizeOf 0 = .ok (.iconst 1, 1) := by decide +kernel
theorem dX1_sizeOf_1 : decode cX1_sizeOf 1 = .ok (.istore_n 1, 1) := by decide +kernel
theorem dX1_sizeOf_2 : decode cX1_sizeOf 2 = .ok (.iload_n 0, 1) := by decide +kernel
theorem dX1_sizeOf_3 : decode cX1_sizeOf 3 = .ok (.istore_n 2, 1) := by decide +kernel
theorem dX1_sizeOf_4 : decode cX1_sizeOf 4 = .ok (.iload_n 2, 1) := by decide +kernel
theorem dX1_sizeOf_5 : decode cX1_sizeOf 5 = .ok (.bipush 16, 2) := by decide +kernel
theorem dX1_sizeOf_7 : decode cX1_sizeOf 7 = .ok (.if_icmp .ge 13, 3) := by decide +kernel
theorem dX1_sizeOf_10 : decode cX1_sizeOf 10 = .ok (.iconst 2, 1) := by decide +kernel
theorem dX1_sizeOf_11 : decode cX1_sizeOf 11 = .ok (.iload_n 1, 1) := by decide +kernel
theorem dX1_sizeOf_12 : decode cX1_sizeOf 12 = .ok (.imul, 1) := by decide +kernel
theorem dX1_sizeOf_13 : decode cX1_sizeOf 13 = .ok (.istore_n 1, 1) := by decide +kernel
theorem dX1_sizeOf_14 : decode cX1_sizeOf 14 = .ok (.iinc 2 1, 3) := by decide +kernel
theorem dX1_sizeOf_17 : decode cX1_sizeOf 17 = .ok (.goto (-13), 3) := by decide +kernel
theorem dX1_sizeOf_20 : decode cX1_sizeOf 20 = .ok (.iload_n 1, 1) := by decide +kernel
theorem dX1_sizeOf_21 : decode cX1_sizeOf 21 = .ok (.ireturn, 1) := by decide +kernel
abbrev cX1_deny : ByteArray := prog_3_method_8_code
def yX1_deny : MethodName := ⟨RX1, "deny", "(II)I"⟩
theorem dX1_deny_0 : decode cX1_deny 0 = .ok (.iload_n 2, 1) := by decide +kernel
theorem dX1_deny_1 : decode cX1_deny 1 = .ok (.invokestatic 32, 3) := by decide +kernel
theorem dX1_deny_4 : decode cX1_deny 4 = .ok (.ifCond .eq 7, 3) := by decide +kernel
theorem dX1_deny_7 : decode cX1_deny 7 = .ok (.iconst (-1), 1) := by decide +kernel
theorem dX1_deny_8 : decode cX1_deny 8 = .ok (.goto 9, 3) := by decide +kernel
theorem dX1_deny_11 : decode cX1_deny 11 = .ok (.aload_n 0, 1) := by decide +kernel
theorem dX1_deny_12 : decode cX1_deny 12 = .ok (.iload_n 1, 1) := by decide +kernel
theorem dX1_deny_13 : decode cX1_deny 13 = .ok (.iload_n 2, 1) := by decide +kernel
theorem dX1_deny_14 : decode cX1_deny 14 = .ok (.invokevirtual 36, 3) := by decide +kernel
theorem dX1_deny_17 : decode cX1_deny 17 = .ok (.istore_n 3, 1) := by decide +kernel
theorem dX1_deny_18 : decode cX1_deny 18 = .ok (.iload_n 3, 1) := by decide +kernel
theorem dX1_deny_19 : decode cX1_deny 19 = .ok (.ifCond .ge 5, 3) := by decide +kernel
theorem dX1_deny_22 : decode cX1_deny 22 = .ok (.iconst (-1), 1) := by decide +kernel
theorem dX1_deny_23 : decode cX1_deny 23 = .ok (.ireturn, 1) := by decide +kernel
theorem dX1_deny_24 : decode cX1_deny 24 = .ok (.aload_n 0, 1) := by decide +kernel
theorem dX1_deny_25 : decode cX1_deny 25 = .ok (.iload_n 3, 1) := by decide +kernel
theorem dX1_deny_26 : decode cX1_deny 26 = .ok (.invokevirtual 39, 3) := by decide +kernel
theorem dX1_deny_29 : decode cX1_deny 29 = .ok (.aload_n 0, 1) := by decide +kernel
theorem dX1_deny_30 : decode cX1_deny 30 = .ok (.getfield 24, 3) := by decide +kernel
theorem dX1_deny_33 : decode cX1_deny 33 = .ok (.ireturn, 1) := by decide +kernel
abbrev cX1_drop : ByteArray := prog_3_method_7_code
def yX1_drop : MethodName := ⟨RX1, "drop", "(I)V"⟩
theorem dX1_drop_0 : decode cX1_drop 0 = .ok (.aload_n 0, 1) := by decide +kernel
theorem dX1_drop_1 : decode cX1_drop 1 = .ok (.dup, 1) := by decide +kernel
theorem dX1_drop_2 : decode cX1_drop 2 = .ok (.getfield 24, 3) := by decide +kernel
theorem dX1_drop_5 : decode cX1_drop 5 = .ok (.iconst 1, 1) := by decide +kernel
theorem dX1_drop_6 : decode cX1_drop 6 = .ok (.isub, 1) := by decide +kernel
theorem dX1_drop_7 : decode cX1_drop 7 = .ok (.putfield 24, 3) := by decide +kernel
theorem dX1_drop_10 : decode cX1_drop 10 = .ok (.aload_n 0, 1) := by decide +kernel
theorem dX1_drop_11 : decode cX1_drop 11 = .ok (.getfield 7, 3) := by decide +kernel
theorem dX1_drop_14 : decode cX1_drop 14 = .ok (.iload_n 1, 1) := by decide +kernel
theorem dX1_drop_15 : decode cX1_drop 15 = .ok (.aload_n 0, 1) := by decide +kernel
theorem dX1_drop_16 : decode cX1_drop 16 = .ok (.getfield 7, 3) := by decide +kernel
theorem dX1_drop_19 : decode cX1_drop 19 = .ok (.aload_n 0, 1) := by decide +kernel
theorem dX1_drop_20 : decode cX1_drop 20 = .ok (.getfield 24, 3) := by decide +kernel
theorem dX1_drop_23 : decode cX1_drop 23 = .ok (.iaload, 1) := by decide +kernel
theorem dX1_drop_24 : decode cX1_drop 24 = .ok (.iastore, 1) := by decide +kernel
theorem dX1_drop_25 : decode cX1_drop 25 = .ok (.aload_n 0, 1) := by decide +kernel
theorem dX1_drop_26 : decode cX1_drop 26 = .ok (.getfield 13, 3) := by decide +kernel
theorem dX1_drop_29 : decode cX1_drop 29 = .ok (.iload_n 1, 1) := by decide +kernel
theorem dX1_drop_30 : decode cX1_drop 30 = .ok (.aload_n 0, 1) := by decide +kernel
theorem dX1_drop_31 : decode cX1_drop 31 = .ok (.getfield 13, 3) := by decide +kernel
theorem dX1_drop_34 : decode cX1_drop 34 = .ok (.aload_n 0, 1) := by decide +kernel
theorem dX1_drop_35 : decode cX1_drop 35 = .ok (.getfield 24, 3) := by decide +kernel
theorem dX1_drop_38 : decode cX1_drop 38 = .ok (.iaload, 1) := by decide +kernel
theorem dX1_drop_39 : decode cX1_drop 39 = .ok (.iastore, 1) := by decide +kernel
theorem dX1_drop_40 : decode cX1_drop 40 = .ok (.aload_n 0, 1) := by decide +kernel
theorem dX1_drop_41 : decode cX1_drop 41 = .ok (.getfield 16, 3) := by decide +kernel
theorem dX1_drop_44 : decode cX1_drop 44 = .ok (.iload_n 1, 1) := by decide +kernel
theorem dX1_drop_45 : decode cX1_drop 45 = .ok (.aload_n 0, 1) := by decide +kernel
theorem dX1_drop_46 : decode cX1_drop 46 = .ok (.getfield 16, 3) := by decide +kernel
theorem dX1_drop_49 : decode cX1_drop 49 = .ok (.aload_n 0, 1) := by decide +kernel
theorem dX1_drop_50 : decode cX1_drop 50 = .ok (.getfield 24, 3) := by decide +kernel
theorem dX1_drop_53 : decode cX1_drop 53 = .ok (.iaload, 1) := by decide +kernel
theorem dX1_drop_54 : decode cX1_drop 54 = .ok (.iastore, 1) := by decide +kernel
theorem dX1_drop_55 : decode cX1_drop 55 = .ok (.return_, 1) := by decide +kernel
abbrev cX1_forget : ByteArray := prog_3_method_9_code
def yX1_forget : MethodName := ⟨RX1, "forget", "(I)I"⟩
theorem dX1_forget_0 : decode cX1_forget 0 = .ok (.iload_n 1, 1) := by decide +kernel
theorem dX1_forget_1 : decode cX1_forget 1 = .ok (.ifCond .lt 9, 3) := by decide +kernel
theorem dX1_forget_4 : decode cX1_forget 4 = .ok (.iload_n 1, 1) := by decide +kernel
theorem dX1_forget_5 : decode cX1_forget 5 = .ok (.bipush 7, 2) := by decide +kernel
theorem dX1_forget_7 : decode cX1_forget 7 = .ok (.if_icmp .le 5, 3) := by decide +kernel
theorem dX1_forget_10 : decode cX1_forget 10 = .ok (.iconst (-1), 1) := by decide +kernel
theorem dX1_forget_11 : decode cX1_forget 11 = .ok (.ireturn, 1) := by decide +kernel
theorem dX1_forget_12 : decode cX1_forget 12 = .ok (.aload_n 0, 1) := by decide +kernel
theorem dX1_forget_13 : decode cX1_forget 13 = .ok (.getfield 24, 3) := by decide +kernel
theorem dX1_forget_16 : decode cX1_forget 16 = .ok (.istore_n 2, 1) := by decide +kernel
theorem dX1_forget_17 : decode cX1_forget 17 = .ok (.aload_n 0, 1) := by decide +kernel
theorem dX1_forget_18 : decode cX1_forget 18 = .ok (.getfield 24, 3) := by decide +kernel
theorem dX1_forget_21 : decode cX1_forget 21 = .ok (.iconst 1, 1) := by decide +kernel
theorem dX1_forget_22 : decode cX1_forget 22 = .ok (.isub, 1) := by decide +kernel
theorem dX1_forget_23 : decode cX1_forget 23 = .ok (.istore_n 3, 1) := by decide +kernel
theorem dX1_forget_24 : decode cX1_forget 24 = .ok (.iload_n 3, 1) := by decide +kernel
theorem dX1_forget_25 : decode cX1_forget 25 = .ok (.ifCond .lt 24, 3) := by decide +kernel
theorem dX1_forget_28 : decode cX1_forget 28 = .ok (.aload_n 0, 1) := by decide +kernel
theorem dX1_forget_29 : decode cX1_forget 29 = .ok (.getfield 16, 3) := by decide +kernel
theorem dX1_forget_32 : decode cX1_forget 32 = .ok (.iload_n 3, 1) := by decide +kernel
theorem dX1_forget_33 : decode cX1_forget 33 = .ok (.iaload, 1) := by decide +kernel
theorem dX1_forget_34 : decode cX1_forget 34 = .ok (.iload_n 1, 1) := by decide +kernel
theorem dX1_forget_35 : decode cX1_forget 35 = .ok (.if_icmp .ne 8, 3) := by decide +kernel
theorem dX1_forget_38 : decode cX1_forget 38 = .ok (.aload_n 0, 1) := by decide +kernel
theorem dX1_forget_39 : decode cX1_forget 39 = .ok (.iload_n 3, 1) := by decide +kernel
theorem dX1_forget_40 : decode cX1_forget 40 = .ok (.invokevirtual 39, 3) := by decide +kernel
theorem dX1_forget_43 : decode cX1_forget 43 = .ok (.iinc 3 (-1), 3) := by decide +kernel
theorem dX1_forget_46 : decode cX1_forget 46 = .ok (.goto (-22), 3) := by decide +kernel
theorem dX1_forget_49 : decode cX1_forget 49 = .ok (.iload_n 2, 1) := by decide +kernel
theorem dX1_forget_50 : decode cX1_forget 50 = .ok (.aload_n 0, 1) := by decide +kernel
theorem dX1_forget_51 : decode cX1_forget 51 = .ok (.getfield 24, 3) := by decide +kernel
theorem dX1_forget_54 : decode cX1_forget 54 = .ok (.isub, 1) := by decide +kernel
theorem dX1_forget_55 : decode cX1_forget 55 = .ok (.ireturn, 1) := by decide +kernel
abbrev cX1_owner : ByteArray := prog_3_method_12_code
def yX1_owner : MethodName := ⟨RX1, "owner", "(I)I"⟩
theorem dX1_owner_0 : decode cX1_owner 0 = .ok (.aload_n 0, 1) := by decide +kernel
theorem dX1_owner_1 : decode cX1_owner 1 = .ok (.iload_n 1, 1) := by decide +kernel
theorem dX1_owner_2 : decode cX1_owner 2 = .ok (.ldc 23, 2) := by decide +kernel
theorem dX1_owner_4 : decode cX1_owner 4 = .ok (.iand, 1) := by decide +kernel
theorem dX1_owner_5 : decode cX1_owner 5 = .ok (.bipush 17, 2) := by decide +kernel
theorem dX1_owner_7 : decode cX1_owner 7 = .ok (.invokevirtual 47, 3) := by decide +kernel
theorem dX1_owner_10 : decode cX1_owner 10 = .ok (.istore_n 2, 1) := by decide +kernel
theorem dX1_owner_11 : decode cX1_owner 11 = .ok (.iload_n 2, 1) := by decide +kernel
theorem dX1_owner_12 : decode cX1_owner 12 = .ok (.ifCond .ge 7, 3) := by decide +kernel
theorem dX1_owner_15 : decode cX1_owner 15 = .ok (.iconst (-1), 1) := by decide +kernel
theorem dX1_owner_16 : decode cX1_owner 16 = .ok (.goto 9, 3) := by decide +kernel
theorem dX1_owner_19 : decode cX1_owner 19 = .ok (.aload_n 0, 1) := by decide +kernel
theorem dX1_owner_20 : decode cX1_owner 20 = .ok (.getfield 16, 3) := by decide +kernel
theorem dX1_owner_23 : decode cX1_owner 23 = .ok (.iload_n 2, 1) := by decide +kernel
theorem dX1_owner_24 : decode cX1_owner 24 = .ok (.iaload, 1) := by decide +kernel
theorem dX1_owner_25 : decode cX1_owner 25 = .ok (.ireturn, 1) := by decide +kernel
abbrev cX1_longest : ByteArray := prog_3_method_11_code
def yX1_longest : MethodName := ⟨RX1, "longest", "(II)I"⟩
theorem dX1_longest_0 : decode cX1_longest 0 = .ok (.iconst (-1), 1) := by decide +kernel
theorem dX1_longest_1 : decode cX1_longest 1 = .ok (.istore_n 3, 1) := by decide +kernel
theorem dX1_longest_2 : decode cX1_longest 2 = .ok (.iconst 0, 1) := by decide +kernel
theorem dX1_longest_3 : decode cX1_longest 3 = .ok (.istore 4, 2) := by decide +kernel
theorem dX1_longest_5 : decode cX1_longest 5 = .ok (.iload 4, 2) := by decide +kernel
theorem dX1_longest_7 : decode cX1_longest 7 = .ok (.aload_n 0, 1) := by decide +kernel
theorem dX1_longest_8 : decode cX1_longest 8 = .ok (.getfield 24, 3) := by decide +kernel
theorem dX1_longest_11 : decode cX1_longest 11 = .ok (.if_icmp .ge 53, 3) := by decide +kernel
theorem dX1_longest_14 : decode cX1_longest 14 = .ok (.aload_n 0, 1) := by decide +kernel
theorem dX1_longest_15 : decode cX1_longest 15 = .ok (.iload 4, 2) := by decide +kernel
theorem dX1_longest_17 : decode cX1_longest 17 = .ok (.iload_n 1, 1) := by decide +kernel
theorem dX1_longest_18 : decode cX1_longest 18 = .ok (.invokevirtual 43, 3) := by decide +kernel
theorem dX1_longest_21 : decode cX1_longest 21 = .ok (.ifCond .eq 37, 3) := by decide +kernel
theorem dX1_longest_24 : decode cX1_longest 24 = .ok (.aload_n 0, 1) := by decide +kernel
theorem dX1_longest_25 : decode cX1_longest 25 = .ok (.getfield 13, 3) := by decide +kernel
theorem dX1_longest_28 : decode cX1_longest 28 = .ok (.iload 4, 2) := by decide +kernel
theorem dX1_longest_30 : decode cX1_longest 30 = .ok (.iaload, 1) := by decide +kernel
theorem dX1_longest_31 : decode cX1_longest 31 = .ok (.iload_n 2, 1) := by decide +kernel
theorem dX1_longest_32 : decode cX1_longest 32 = .ok (.if_icmp .ge 26, 3) := by decide +kernel
theorem dX1_longest_35 : decode cX1_longest 35 = .ok (.iload_n 3, 1) := by decide +kernel
theorem dX1_longest_36 : decode cX1_longest 36 = .ok (.ifCond .lt 19, 3) := by decide +kernel
theorem dX1_longest_39 : decode cX1_longest 39 = .ok (.aload_n 0, 1) := by decide +kernel
theorem dX1_longest_40 : decode cX1_longest 40 = .ok (.getfield 13, 3) := by decide +kernel
theorem dX1_longest_43 : decode cX1_longest 43 = .ok (.iload 4, 2) := by decide +kernel
theorem dX1_longest_45 : decode cX1_longest 45 = .ok (.iaload, 1) := by decide +kernel
theorem dX1_longest_46 : decode cX1_longest 46 = .ok (.aload_n 0, 1) := by decide +kernel
theorem dX1_longest_47 : decode cX1_longest 47 = .ok (.getfield 13, 3) := by decide +kernel
theorem dX1_longest_50 : decode cX1_longest 50 = .ok (.iload_n 3, 1) := by decide +kernel
theorem dX1_longest_51 : decode cX1_longest 51 = .ok (.iaload, 1) := by decide +kernel
theorem dX1_longest_52 : decode cX1_longest 52 = .ok (.if_icmp .le 6, 3) := by decide +kernel
theorem dX1_longest_55 : decode cX1_longest 55 = .ok (.iload 4, 2) := by decide +kernel
theorem dX1_longest_57 : decode cX1_longest 57 = .ok (.istore_n 3, 1) := by decide +kernel
theorem dX1_longest_58 : decode cX1_longest 58 = .ok (.iinc 4 1, 3) := by decide +kernel
theorem dX1_longest_61 : decode cX1_longest 61 = .ok (.goto (-56), 3) := by decide +kernel
theorem dX1_longest_64 : decode cX1_longest 64 = .ok (.iload_n 3, 1) := by decide +kernel
theorem dX1_longest_65 : decode cX1_longest 65 = .ok (.ireturn, 1) := by decide +kernel
abbrev cX1_covers : ByteArray := prog_3_method_10_code
def yX1_covers : MethodName := ⟨RX1, "covers", "(II)Z"⟩
theorem dX1_covers_0 : decode cX1_covers 0 = .ok (.iload_n 2, 1) := by decide +kernel
theorem dX1_covers_1 : decode cX1_covers 1 = .ok (.aload_n 0, 1) := by decide +kernel
theorem dX1_covers_2 : decode cX1_covers 2 = .ok (.getfield 7, 3) := by decide +kernel
theorem dX1_covers_5 : decode cX1_covers 5 = .ok (.iload_n 1, 1) := by decide +kernel
theorem dX1_covers_6 : decode cX1_covers 6 = .ok (.iaload, 1) := by decide +kernel
theorem dX1_covers_7 : decode cX1_covers 7 = .ok (.if_icmp .lt 27, 3) := by decide +kernel
theorem dX1_covers_10 : decode cX1_covers 10 = .ok (.iload_n 2, 1) := by decide +kernel
theorem dX1_covers_11 : decode cX1_covers 11 = .ok (.aload_n 0, 1) := by decide +kernel
theorem dX1_covers_12 : decode cX1_covers 12 = .ok (.getfield 7, 3) := by decide +kernel
theorem dX1_covers_15 : decode cX1_covers 15 = .ok (.iload_n 1, 1) := by decide +kernel
theorem dX1_covers_16 : decode cX1_covers 16 = .ok (.iaload, 1) := by decide +kernel
theorem dX1_covers_17 : decode cX1_covers 17 = .ok (.aload_n 0, 1) := by decide +kernel
theorem dX1_covers_18 : decode cX1_covers 18 = .ok (.getfield 13, 3) := by decide +kernel
theorem dX1_covers_21 : decode cX1_covers 21 = .ok (.iload_n 1, 1) := by decide +kernel
theorem dX1_covers_22 : decode cX1_covers 22 = .ok (.iaload, 1) := by decide +kernel
theorem dX1_covers_23 : decode cX1_covers 23 = .ok (.invokestatic 19, 3) := by decide +kernel
theorem dX1_covers_26 : decode cX1_covers 26 = .ok (.iadd, 1) := by decide +kernel
theorem dX1_covers_27 : decode cX1_covers 27 = .ok (.if_icmp .ge 7, 3) := by decide +kernel
theorem dX1_covers_30 : decode cX1_covers 30 = .ok (.iconst 1, 1) := by decide +kernel
theorem dX1_covers_31 : decode cX1_covers 31 = .ok (.goto 4, 3) := by decide +kernel
theorem dX1_covers_34 : decode cX1_covers 34 = .ok (.iconst 0, 1) := by decide +kernel
theorem dX1_covers_35 : decode cX1_covers 35 = .ok (.ireturn, 1) := by decide +kernel
abbrev cX1_length : ByteArray := prog_3_method_13_code
def yX1_length : MethodName := ⟨RX1, "length", "(I)I"⟩
theorem dX1_length_0 : decode cX1_length 0 = .ok (.aload_n 0, 1) := by decide +kernel
theorem dX1_length_1 : decode cX1_length 1 = .ok (.iload_n 1, 1) := by decide +kernel
theorem dX1_length_2 : decode cX1_length 2 = .ok (.ldc 23, 2) := by decide +kernel
theorem dX1_length_4 : decode cX1_length 4 = .ok (.iand, 1) := by decide +kernel
theorem dX1_length_5 : decode cX1_length 5 = .ok (.bipush 17, 2) := by decide +kernel
theorem dX1_length_7 : decode cX1_length 7 = .ok (.invokevirtual 47, 3) := by decide +kernel
theorem dX1_length_10 : decode cX1_length 10 = .ok (.istore_n 2, 1) := by decide +kernel
theorem dX1_length_11 : decode cX1_length 11 = .ok (.iload_n 2, 1) := by decide +kernel
theorem dX1_length_12 : decode cX1_length 12 = .ok (.ifCond .ge 7, 3) := by decide +kernel
theorem dX1_length_15 : decode cX1_length 15 = .ok (.iconst (-1), 1) := by decide +kernel
theorem dX1_length_16 : decode cX1_length 16 = .ok (.goto 9, 3) := by decide +kernel
theorem dX1_length_19 : decode cX1_length 19 = .ok (.aload_n 0, 1) := by decide +kernel
theorem dX1_length_20 : decode cX1_length 20 = .ok (.getfield 13, 3) := by decide +kernel
theorem dX1_length_23 : decode cX1_length 23 = .ok (.iload_n 2, 1) := by decide +kernel
theorem dX1_length_24 : decode cX1_length 24 = .ok (.iaload, 1) := by decide +kernel
theorem dX1_length_25 : decode cX1_length 25 = .ok (.ireturn, 1) := by decide +kernel
abbrev cX1_owned : ByteArray := prog_3_method_15_code
def yX1_owned : MethodName := ⟨RX1, "owned", "(I)I"⟩
theorem dX1_owned_0 : decode cX1_owned 0 = .ok (.iload_n 1, 1) := by decide +kernel
theorem dX1_owned_1 : decode cX1_owned 1 = .ok (.iconst (-1), 1) := by decide +kernel
theorem dX1_owned_2 : decode cX1_owned 2 = .ok (.if_icmp .lt 9, 3) := by decide +kernel
theorem dX1_owned_5 : decode cX1_owned 5 = .ok (.iload_n 1, 1) := by decide +kernel
theorem dX1_owned_6 : decode cX1_owned 6 = .ok (.bipush 7, 2) := by decide +kernel
theorem dX1_owned_8 : decode cX1_owned 8 = .ok (.if_icmp .le 6, 3) := by decide +kernel
theorem dX1_owned_11 : decode cX1_owned 11 = .ok (.bipush (-2), 2) := by decide +kernel
theorem dX1_owned_13 : decode cX1_owned 13 = .ok (.ireturn, 1) := by decide +kernel
theorem dX1_owned_14 : decode cX1_owned 14 = .ok (.iload_n 1, 1) := by decide +kernel
theorem dX1_owned_15 : decode cX1_owned 15 = .ok (.iconst (-1), 1) := by decide +kernel
theorem dX1_owned_16 : decode cX1_owned 16 = .ok (.if_icmp .ne 9, 3) := by decide +kernel
theorem dX1_owned_19 : decode cX1_owned 19 = .ok (.aload_n 0, 1) := by decide +kernel
theorem dX1_owned_20 : decode cX1_owned 20 = .ok (.iconst (-1), 1) := by decide +kernel
theorem dX1_owned_21 : decode cX1_owned 21 = .ok (.invokevirtual 51, 3) := by decide +kernel
theorem dX1_owned_24 : decode cX1_owned 24 = .ok (.ireturn, 1) := by decide +kernel
theorem dX1_owned_25 : decode cX1_owned 25 = .ok (.iconst 0, 1) := by decide +kernel
theorem dX1_owned_26 : decode cX1_owned 26 = .ok (.istore_n 2, 1) := by decide +kernel
theorem dX1_owned_27 : decode cX1_owned 27 = .ok (.iconst 0, 1) := by decide +kernel
theorem dX1_owned_28 : decode cX1_owned 28 = .ok (.istore_n 3, 1) := by decide +kernel
theorem dX1_owned_29 : decode cX1_owned 29 = .ok (.iload_n 3, 1) := by decide +kernel
theorem dX1_owned_30 : decode cX1_owned 30 = .ok (.aload_n 0, 1) := by decide +kernel
theorem dX1_owned_31 : decode cX1_owned 31 = .ok (.getfield 24, 3) := by decide +kernel
theorem dX1_owned_34 : decode cX1_owned 34 = .ok (.if_icmp .ge 27, 3) := by decide +kernel
theorem dX1_owned_37 : decode cX1_owned 37 = .ok (.aload_n 0, 1) := by decide +kernel
theorem dX1_owned_38 : decode cX1_owned 38 = .ok (.getfield 16, 3) := by decide +kernel
theorem dX1_owned_41 : decode cX1_owned 41 = .ok (.iload_n 3, 1) := by decide +kernel
theorem dX1_owned_42 : decode cX1_owned 42 = .ok (.iaload, 1) := by decide +kernel
theorem dX1_owned_43 : decode cX1_owned 43 = .ok (.iload_n 1, 1) := by decide +kernel
theorem dX1_owned_44 : decode cX1_owned 44 = .ok (.if_icmp .ne 11, 3) := by decide +kernel
theorem dX1_owned_47 : decode cX1_owned 47 = .ok (.iload_n 2, 1) := by decide +kernel
theorem dX1_owned_48 : decode cX1_owned 48 = .ok (.aload_n 0, 1) := by decide +kernel
theorem dX1_owned_49 : decode cX1_owned 49 = .ok (.iload_n 3, 1) := by decide +kernel
theorem dX1_owned_50 : decode cX1_owned 50 = .ok (.invokevirtual 51, 3) := by decide +kernel
theorem dX1_owned_53 : decode cX1_owned 53 = .ok (.iadd, 1) := by decide +kernel
theorem dX1_owned_54 : decode cX1_owned 54 = .ok (.istore_n 2, 1) := by decide +kernel
theorem dX1_owned_55 : decode cX1_owned 55 = .ok (.iinc 3 1, 3) := by decide +kernel
theorem dX1_owned_58 : decode cX1_owned 58 = .ok (.goto (-29), 3) := by decide +kernel
theorem dX1_owned_61 : decode cX1_owned 61 = .ok (.iload_n 2, 1) := by decide +kernel
theorem dX1_owned_62 : decode cX1_owned 62 = .ok (.ireturn, 1) := by decide +kernel
abbrev cX1_settled : ByteArray := prog_3_method_14_code
def yX1_settled : MethodName := ⟨RX1, "settled", "(I)I"⟩
theorem dX1_settled_0 : decode cX1_settled 0 = .ok (.iload_n 1, 1) := by decide +kernel
theorem dX1_settled_1 : decode cX1_settled 1 = .ok (.ifCond .ge 8, 3) := by decide +kernel
theorem dX1_settled_4 : decode cX1_settled 4 = .ok (.ldc 50, 2) := by decide +kernel
theorem dX1_settled_6 : decode cX1_settled 6 = .ok (.goto 12, 3) := by decide +kernel
theorem dX1_settled_9 : decode cX1_settled 9 = .ok (.aload_n 0, 1) := by decide +kernel
theorem dX1_settled_10 : decode cX1_settled 10 = .ok (.getfield 13, 3) := by decide +kernel
theorem dX1_settled_13 : decode cX1_settled 13 = .ok (.iload_n 1, 1) := by decide +kernel
theorem dX1_settled_14 : decode cX1_settled 14 = .ok (.iaload, 1) := by decide +kernel
theorem dX1_settled_15 : decode cX1_settled 15 = .ok (.invokestatic 19, 3) := by decide +kernel
theorem dX1_settled_18 : decode cX1_settled 18 = .ok (.istore_n 2, 1) := by decide +kernel
theorem dX1_settled_19 : decode cX1_settled 19 = .ok (.iconst 0, 1) := by decide +kernel
theorem dX1_settled_20 : decode cX1_settled 20 = .ok (.istore_n 3, 1) := by decide +kernel
theorem dX1_settled_21 : decode cX1_settled 21 = .ok (.iload_n 3, 1) := by decide +kernel
theorem dX1_settled_22 : decode cX1_settled 22 = .ok (.aload_n 0, 1) := by decide +kernel
theorem dX1_settled_23 : decode cX1_settled 23 = .ok (.getfield 24, 3) := by decide +kernel
theorem dX1_settled_26 : decode cX1_settled 26 = .ok (.if_icmp .ge 41, 3) := by decide +kernel
theorem dX1_settled_29 : decode cX1_settled 29 = .ok (.aload_n 0, 1) := by decide +kernel
theorem dX1_settled_30 : decode cX1_settled 30 = .ok (.aload_n 0, 1) := by decide +kernel
theorem dX1_settled_31 : decode cX1_settled 31 = .ok (.getfield 7, 3) := by decide +kernel
theorem dX1_settled_34 : decode cX1_settled 34 = .ok (.iload_n 3, 1) := by decide +kernel
theorem dX1_settled_35 : decode cX1_settled 35 = .ok (.iaload, 1) := by decide +kernel
theorem dX1_settled_36 : decode cX1_settled 36 = .ok (.aload_n 0, 1) := by decide +kernel
theorem dX1_settled_37 : decode cX1_settled 37 = .ok (.getfield 13, 3) := by decide +kernel
theorem dX1_settled_40 : decode cX1_settled 40 = .ok (.iload_n 3, 1) := by decide +kernel
theorem dX1_settled_41 : decode cX1_settled 41 = .ok (.iaload, 1) := by decide +kernel
theorem dX1_settled_42 : decode cX1_settled 42 = .ok (.invokevirtual 47, 3) := by decide +kernel
theorem dX1_settled_45 : decode cX1_settled 45 = .ok (.iload_n 1, 1) := by decide +kernel
theorem dX1_settled_46 : decode cX1_settled 46 = .ok (.if_icmp .ne 15, 3) := by decide +kernel
theorem dX1_settled_49 : decode cX1_settled 49 = .ok (.iload_n 2, 1) := by decide +kernel
theorem dX1_settled_50 : decode cX1_settled 50 = .ok (.aload_n 0, 1) := by decide +kernel
theorem dX1_settled_51 : decode cX1_settled 51 = .ok (.getfield 13, 3) := by decide +kernel
theorem dX1_settled_54 : decode cX1_settled 54 = .ok (.iload_n 3, 1) := by decide +kernel
theorem dX1_settled_55 : decode cX1_settled 55 = .ok (.iaload, 1) := by decide +kernel
theorem dX1_settled_56 : decode cX1_settled 56 = .ok (.invokestatic 19, 3) := by decide +kernel
theorem dX1_settled_59 : decode cX1_settled 59 = .ok (.isub, 1) := by decide +kernel
theorem dX1_settled_60 : decode cX1_settled 60 = .ok (.istore_n 2, 1) := by decide +kernel
theorem dX1_settled_61 : decode cX1_settled 61 = .ok (.iinc 3 1, 3) := by decide +kernel
theorem dX1_settled_64 : decode cX1_settled 64 = .ok (.goto (-43), 3) := by decide +kernel
theorem dX1_settled_67 : decode cX1_settled 67 = .ok (.iload_n 2, 1) := by decide +kernel
theorem dX1_settled_68 : decode cX1_settled 68 = .ok (.ireturn, 1) := by decide +kernel
abbrev cX1_next : ByteArray := prog_3_method_16_code
def yX1_next : MethodName := ⟨RX1, "next", "(II)I"⟩
theorem dX1_next_0 : decode cX1_next 0 = .ok (.iload_n 1, 1) := by decide +kernel
theorem dX1_next_1 : decode cX1_next 1 = .ok (.iconst (-1), 1) := by decide +kernel
theorem dX1_next_2 : decode cX1_next 2 = .ok (.if_icmp .lt 9, 3) := by decide +kernel
theorem dX1_next_5 : decode cX1_next 5 = .ok (.iload_n 1, 1) := by decide +kernel
theorem dX1_next_6 : decode cX1_next 6 = .ok (.bipush 7, 2) := by decide +kernel
theorem dX1_next_8 : decode cX1_next 8 = .ok (.if_icmp .le 6, 3) := by decide +kernel
theorem dX1_next_11 : decode cX1_next 11 = .ok (.bipush (-2), 2) := by decide +kernel
theorem dX1_next_13 : decode cX1_next 13 = .ok (.ireturn, 1) := by decide +kernel
theorem dX1_next_14 : decode cX1_next 14 = .ok (.iload_n 2, 1) := by decide +kernel
theorem dX1_next_15 : decode cX1_next 15 = .ok (.ifCond .ge 7, 3) := by decide +kernel
theorem dX1_next_18 : decode cX1_next 18 = .ok (.iconst 0, 1) := by decide +kernel
theorem dX1_next_19 : decode cX1_next 19 = .ok (.goto 4, 3) := by decide +kernel
theorem dX1_next_22 : decode cX1_next 22 = .ok (.iload_n 2, 1) := by decide +kernel
theorem dX1_next_23 : decode cX1_next 23 = .ok (.istore_n 3, 1) := by decide +kernel
theorem dX1_next_24 : decode cX1_next 24 = .ok (.iload_n 3, 1) := by decide +kernel
theorem dX1_next_25 : decode cX1_next 25 = .ok (.ldc 23, 2) := by decide +kernel
theorem dX1_next_27 : decode cX1_next 27 = .ok (.if_icmp .le 5, 3) := by decide +kernel
theorem dX1_next_30 : decode cX1_next 30 = .ok (.iconst (-1), 1) := by decide +kernel
theorem dX1_next_31 : decode cX1_next 31 = .ok (.ireturn, 1) := by decide +kernel
theorem dX1_next_32 : decode cX1_next 32 = .ok (.aload_n 0, 1) := by decide +kernel
theorem dX1_next_33 : decode cX1_next 33 = .ok (.iload_n 3, 1) := by decide +kernel
theorem dX1_next_34 : decode cX1_next 34 = .ok (.invokevirtual 54, 3) := by decide +kernel
theorem dX1_next_37 : decode cX1_next 37 = .ok (.iload_n 1, 1) := by decide +kernel
theorem dX1_next_38 : decode cX1_next 38 = .ok (.if_icmp .ne 5, 3) := by decide +kernel
theorem dX1_next_41 : decode cX1_next 41 = .ok (.iload_n 3, 1) := by decide +kernel
theorem dX1_next_42 : decode cX1_next 42 = .ok (.ireturn, 1) := by decide +kernel
theorem dX1_next_43 : decode cX1_next 43 = .ok (.iconst (-1), 1) := by decide +kernel
theorem dX1_next_44 : decode cX1_next 44 = .ok (.istore 4, 2) := by decide +kernel
theorem dX1_next_46 : decode cX1_next 46 = .ok (.iconst 0, 1) := by decide +kernel
theorem dX1_next_47 : decode cX1_next 47 = .ok (.istore 5, 2) := by decide +kernel
theorem dX1_next_49 : decode cX1_next 49 = .ok (.iload 5, 2) := by decide +kernel
theorem dX1_next_51 : decode cX1_next 51 = .ok (.aload_n 0, 1) := by decide +kernel
theorem dX1_next_52 : decode cX1_next 52 = .ok (.getfield 24, 3) := by decide +kernel
theorem dX1_next_55 : decode cX1_next 55 = .ok (.if_icmp .ge 104, 3) := by decide +kernel
theorem dX1_next_58 : decode cX1_next 58 = .ok (.aload_n 0, 1) := by decide +kernel
theorem dX1_next_59 : decode cX1_next 59 = .ok (.getfield 7, 3) := by decide +kernel
theorem dX1_next_62 : decode cX1_next 62 = .ok (.iload 5, 2) := by decide +kernel
theorem dX1_next_64 : decode cX1_next 64 = .ok (.iaload, 1) := by decide +kernel
theorem dX1_next_65 : decode cX1_next 65 = .ok (.istore 6, 2) := by decide +kernel
theorem dX1_next_67 : decode cX1_next 67 = .ok (.iload 6, 2) := by decide +kernel
theorem dX1_next_69 : decode cX1_next 69 = .ok (.aload_n 0, 1) := by decide +kernel
theorem dX1_next_70 : decode cX1_next 70 = .ok (.getfield 13, 3) := by decide +kernel
theorem dX1_next_73 : decode cX1_next 73 = .ok (.iload 5, 2) := by decide +kernel
theorem dX1_next_75 : decode cX1_next 75 = .ok (.iaload, 1) := by decide +kernel
theorem dX1_next_76 : decode cX1_next 76 = .ok (.invokestatic 19, 3) := by decide +kernel
theorem dX1_next_79 : decode cX1_next 79 = .ok (.iadd, 1) := by decide +kernel
theorem dX1_next_80 : decode cX1_next 80 = .ok (.istore 7, 2) := by decide +kernel
theorem dX1_next_82 : decode cX1_next 82 = .ok (.iload 6, 2) := by decide +kernel
theorem dX1_next_84 : decode cX1_next 84 = .ok (.iload_n 3, 1) := by decide +kernel
theorem dX1_next_85 : decode cX1_next 85 = .ok (.if_icmp .le 29, 3) := by decide +kernel
theorem dX1_next_88 : decode cX1_next 88 = .ok (.aload_n 0, 1) := by decide +kernel
theorem dX1_next_89 : decode cX1_next 89 = .ok (.iload 6, 2) := by decide +kernel
theorem dX1_next_91 : decode cX1_next 91 = .ok (.invokevirtual 54, 3) := by decide +kernel
theorem dX1_next_94 : decode cX1_next 94 = .ok (.iload_n 1, 1) := by decide +kernel
theorem dX1_next_95 : decode cX1_next 95 = .ok (.if_icmp .ne 19, 3) := by decide +kernel
theorem dX1_next_98 : decode cX1_next 98 = .ok (.iload 4, 2) := by decide +kernel
theorem dX1_next_100 : decode cX1_next 100 = .ok (.ifCond .lt 10, 3) := by decide +kernel
theorem dX1_next_103 : decode cX1_next 103 = .ok (.iload 6, 2) := by decide +kernel
theorem dX1_next_105 : decode cX1_next 105 = .ok (.iload 4, 2) := by decide +kernel
theorem dX1_next_107 : decode cX1_next 107 = .ok (.if_icmp .ge 7, 3) := by decide +kernel
theorem dX1_next_110 : decode cX1_next 110 = .ok (.iload 6, 2) := by decide +kernel
theorem dX1_next_112 : decode cX1_next 112 = .ok (.istore 4, 2) := by decide +kernel
theorem dX1_next_114 : decode cX1_next 114 = .ok (.iload 7, 2) := by decide +kernel
theorem dX1_next_116 : decode cX1_next 116 = .ok (.iload_n 3, 1) := by decide +kernel
theorem dX1_next_117 : decode cX1_next 117 = .ok (.if_icmp .le 36, 3) := by decide +kernel
theorem dX1_next_120 : decode cX1_next 120 = .ok (.iload 7, 2) := by decide +kernel
theorem dX1_next_122 : decode cX1_next 122 = .ok (.ldc 50, 2) := by decide +kernel
theorem dX1_next_124 : decode cX1_next 124 = .ok (.if_icmp .ge 29, 3) := by decide +kernel
theorem dX1_next_127 : decode cX1_next 127 = .ok (.aload_n 0, 1) := by decide +kernel
theorem dX1_next_128 : decode cX1_next 128 = .ok (.iload 7, 2) := by decide +kernel
theorem dX1_next_130 : decode cX1_next 130 = .ok (.invokevirtual 54, 3) := by decide +kernel
theorem dX1_next_133 : decode cX1_next 133 = .ok (.iload_n 1, 1) := by decide +kernel
theorem dX1_next_134 : decode cX1_next 134 = .ok (.if_icmp .ne 19, 3) := by decide +kernel
theorem dX1_next_137 : decode cX1_next 137 = .ok (.iload 4, 2) := by decide +kernel
theorem dX1_next_139 : decode cX1_next 139 = .ok (.ifCond .lt 10, 3) := by decide +kernel
theorem dX1_next_142 : decode cX1_next 142 = .ok (.iload 7, 2) := by decide +kernel
theorem dX1_next_144 : decode cX1_next 144 = .ok (.iload 4, 2) := by decide +kernel
theorem dX1_next_146 : decode cX1_next 146 = .ok (.if_icmp .ge 7, 3) := by decide +kernel
theorem dX1_next_149 : decode cX1_next 149 = .ok (.iload 7, 2) := by decide +kernel
theorem dX1_next_151 : decode cX1_next 151 = .ok (.istore 4, 2) := by decide +kernel
theorem dX1_next_153 : decode cX1_next 153 = .ok (.iinc 5 1, 3) := by decide +kernel
theorem dX1_next_156 : decode cX1_next 156 = .ok (.goto (-107), 3) := by decide +kernel
theorem dX1_next_159 : decode cX1_next 159 = .ok (.iload 4, 2) := by decide +kernel
theorem dX1_next_161 : decode cX1_next 161 = .ok (.ireturn, 1) := by decide +kernel
abbrev cX1_useless : ByteArray := prog_3_method_17_code
def yX1_useless : MethodName := ⟨RX1, "useless", "()I"⟩
theorem dX1_useless_0 : decode cX1_useless 0 = .ok (.iconst 0, 1) := by decide +kernel
theorem dX1_useless_1 : decode cX1_useless 1 = .ok (.istore_n 1, 1) := by decide +kernel
theorem dX1_useless_2 : decode cX1_useless 2 = .ok (.iconst 0, 1) := by decide +kernel
theorem dX1_useless_3 : decode cX1_useless 3 = .ok (.istore_n 2, 1) := by decide +kernel
theorem dX1_useless_4 : decode cX1_useless 4 = .ok (.iload_n 2, 1) := by decide +kernel
theorem dX1_useless_5 : decode cX1_useless 5 = .ok (.aload_n 0, 1) := by decide +kernel
theorem dX1_useless_6 : decode cX1_useless 6 = .ok (.getfield 24, 3) := by decide +kernel
theorem dX1_useless_9 : decode cX1_useless 9 = .ok (.if_icmp .ge 56, 3) := by decide +kernel
theorem dX1_useless_12 : decode cX1_useless 12 = .ok (.aload_n 0, 1) := by decide +kernel
theorem dX1_useless_13 : decode cX1_useless 13 = .ok (.aload_n 0, 1) := by decide +kernel
theorem dX1_useless_14 : decode cX1_useless 14 = .ok (.getfield 7, 3) := by decide +kernel
theorem dX1_useless_17 : decode cX1_useless 17 = .ok (.iload_n 2, 1) := by decide +kernel
theorem dX1_useless_18 : decode cX1_useless 18 = .ok (.iaload, 1) := by decide +kernel
theorem dX1_useless_19 : decode cX1_useless 19 = .ok (.aload_n 0, 1) := by decide +kernel
theorem dX1_useless_20 : decode cX1_useless 20 = .ok (.getfield 13, 3) := by decide +kernel
theorem dX1_useless_23 : decode cX1_useless 23 = .ok (.iload_n 2, 1) := by decide +kernel
theorem dX1_useless_24 : decode cX1_useless 24 = .ok (.iaload, 1) := by decide +kernel
theorem dX1_useless_25 : decode cX1_useless 25 = .ok (.invokevirtual 47, 3) := by decide +kernel
theorem dX1_useless_28 : decode cX1_useless 28 = .ok (.istore_n 3, 1) := by decide +kernel
theorem dX1_useless_29 : decode cX1_useless 29 = .ok (.aload_n 0, 1) := by decide +kernel
theorem dX1_useless_30 : decode cX1_useless 30 = .ok (.iload_n 2, 1) := by decide +kernel
theorem dX1_useless_31 : decode cX1_useless 31 = .ok (.invokevirtual 51, 3) := by decide +kernel
theorem dX1_useless_34 : decode cX1_useless 34 = .ok (.ifCond .eq 22, 3) := by decide +kernel
theorem dX1_useless_37 : decode cX1_useless 37 = .ok (.iload_n 3, 1) := by decide +kernel
theorem dX1_useless_38 : decode cX1_useless 38 = .ok (.ifCond .lt 21, 3) := by decide +kernel
theorem dX1_useless_41 : decode cX1_useless 41 = .ok (.aload_n 0, 1) := by decide +kernel
theorem dX1_useless_42 : decode cX1_useless 42 = .ok (.getfield 16, 3) := by decide +kernel
theorem dX1_useless_45 : decode cX1_useless 45 = .ok (.iload_n 3, 1) := by decide +kernel
theorem dX1_useless_46 : decode cX1_useless 46 = .ok (.iaload, 1) := by decide +kernel
theorem dX1_useless_47 : decode cX1_useless 47 = .ok (.aload_n 0, 1) := by decide +kernel
theorem dX1_useless_48 : decode cX1_useless 48 = .ok (.getfield 16, 3) := by decide +kernel
theorem dX1_useless_51 : decode cX1_useless 51 = .ok (.iload_n 2, 1) := by decide +kernel
theorem dX1_useless_52 : decode cX1_useless 52 = .ok (.iaload, 1) := by decide +kernel
theorem dX1_useless_53 : decode cX1_useless 53 = .ok (.if_icmp .ne 6, 3) := by decide +kernel
theorem dX1_useless_56 : decode cX1_useless 56 = .ok (.iinc 1 1, 3) := by decide +kernel
theorem dX1_useless_59 : decode cX1_useless 59 = .ok (.iinc 2 1, 3) := by decide +kernel
theorem dX1_useless_62 : decode cX1_useless 62 = .ok (.goto (-58), 3) := by decide +kernel
theorem dX1_useless_65 : decode cX1_useless 65 = .ok (.iload_n 1, 1) := by decide +kernel
theorem dX1_useless_66 : decode cX1_useless 66 = .ok (.ireturn, 1) := by decide +kernel
abbrev cX1_entries : ByteArray := prog_3_method_18_code
def yX1_entries : MethodName := ⟨RX1, "entries", "(I)I"⟩
theorem dX1_entries_0 : decode cX1_entries 0 = .ok (.iload_n 1, 1) := by decide +kernel
theorem dX1_entries_1 : decode cX1_entries 1 = .ok (.ifCond .lt 9, 3) := by decide +kernel
theorem dX1_entries_4 : decode cX1_entries 4 = .ok (.iload_n 1, 1) := by decide +kernel
theorem dX1_entries_5 : decode cX1_entries 5 = .ok (.bipush 7, 2) := by decide +kernel
theorem dX1_entries_7 : decode cX1_entries 7 = .ok (.if_icmp .le 5, 3) := by decide +kernel
theorem dX1_entries_10 : decode cX1_entries 10 = .ok (.iconst (-1), 1) := by decide +kernel
theorem dX1_entries_11 : decode cX1_entries 11 = .ok (.ireturn, 1) := by decide +kernel
theorem dX1_entries_12 : decode cX1_entries 12 = .ok (.iconst 0, 1) := by decide +kernel
theorem dX1_entries_13 : decode cX1_entries 13 = .ok (.istore_n 2, 1) := by decide +kernel
theorem dX1_entries_14 : decode cX1_entries 14 = .ok (.iconst 0, 1) := by decide +kernel
theorem dX1_entries_15 : decode cX1_entries 15 = .ok (.istore_n 3, 1) := by decide +kernel
theorem dX1_entries_16 : decode cX1_entries 16 = .ok (.iload_n 3, 1) := by decide +kernel
theorem dX1_entries_17 : decode cX1_entries 17 = .ok (.aload_n 0, 1) := by decide +kernel
theorem dX1_entries_18 : decode cX1_entries 18 = .ok (.getfield 24, 3) := by decide +kernel
theorem dX1_entries_21 : decode cX1_entries 21 = .ok (.if_icmp .ge 22, 3) := by decide +kernel
theorem dX1_entries_24 : decode cX1_entries 24 = .ok (.aload_n 0, 1) := by decide +kernel
theorem dX1_entries_25 : decode cX1_entries 25 = .ok (.getfield 16, 3) := by decide +kernel
theorem dX1_entries_28 : decode cX1_entries 28 = .ok (.iload_n 3, 1) := by decide +kernel
theorem dX1_entries_29 : decode cX1_entries 29 = .ok (.iaload, 1) := by decide +kernel
theorem dX1_entries_30 : decode cX1_entries 30 = .ok (.iload_n 1, 1) := by decide +kernel
theorem dX1_entries_31 : decode cX1_entries 31 = .ok (.if_icmp .ne 6, 3) := by decide +kernel
theorem dX1_entries_34 : decode cX1_entries 34 = .ok (.iinc 2 1, 3) := by decide +kernel
theorem dX1_entries_37 : decode cX1_entries 37 = .ok (.iinc 3 1, 3) := by decide +kernel
theorem dX1_entries_40 : decode cX1_entries 40 = .ok (.goto (-24), 3) := by decide +kernel
theorem dX1_entries_43 : decode cX1_entries 43 = .ok (.iload_n 2, 1) := by decide +kernel
theorem dX1_entries_44 : decode cX1_entries 44 = .ok (.ireturn, 1) := by decide +kernel
theorem q18 : (Jvm.Cond.initialized "PeerRoutesModel") ∈ lw_all := lw_g (lw_at lw_m0 2 rfl) rfl
theorem q165 : (Jvm.Cond.instantiable "PeerRoutesModel" (4 : Nat)) ∈ lw_all := lw_g (lw_at lw_m0 149 rfl) rfl
theorem q167 : (Jvm.Cond.instanceMethod ({ cls := "PeerRoutesModel", name := "<init>", desc := "()V" } : Jvm.MethodName)) ∈ lw_all := lw_g (lw_at lw_m0 151 rfl) rfl
theorem q168 : (Jvm.Cond.code ({ cls := "PeerRoutesModel", name := "<init>", desc := "()V" } : Jvm.MethodName) prog_3_method_1_code (1 : Nat) (Option.none : Option Jvm.ClassFile.FieldType)) ∈ lw_all := lw_g (lw_at lw_m0 152 rfl) rfl
theorem q169 : (Jvm.Cond.methodLink "PeerRoutesModel" (1 : Nat) ({ cls := "java/lang/Object", name := "<init>", desc := "()V" } : Jvm.MethodName)) ∈ lw_all := lw_g (lw_at lw_m0 153 rfl) rfl
theorem q170 : (Jvm.Cond.fieldLink "PeerRoutesModel" (24 : Nat) "PeerRoutesModel" "entries" "I") ∈ lw_all := lw_g (lw_at lw_m0 154 rfl) rfl
theorem q171 : (Jvm.Cond.fieldLink "PeerRoutesModel" (7 : Nat) "PeerRoutesModel" "starts" "[I") ∈ lw_all := lw_g (lw_at lw_m0 155 rfl) rfl
theorem q172 : (Jvm.Cond.fieldLink "PeerRoutesModel" (13 : Nat) "PeerRoutesModel" "lengths" "[I") ∈ lw_all := lw_g (lw_at lw_m0 156 rfl) rfl
theorem q173 : (Jvm.Cond.fieldLink "PeerRoutesModel" (16 : Nat) "PeerRoutesModel" "peers" "[I") ∈ lw_all := lw_g (lw_at lw_m0 157 rfl) rfl
theorem q174 : (Jvm.Cond.lays "PeerRoutesModel" "PeerRoutesModel" "entries" "I") ∈ lw_all := lw_g (lw_at lw_m0 158 rfl) rfl
theorem q175 : (Jvm.Cond.soleField "PeerRoutesModel" "entries") ∈ lw_all := lw_g (lw_at lw_m0 159 rfl) rfl
theorem q176 : (Jvm.Cond.laysFinal "PeerRoutesModel" "PeerRoutesModel" "starts" "[I") ∈ lw_all := lw_g (lw_at lw_m0 160 rfl) rfl
theorem q177 : (Jvm.Cond.soleField "PeerRoutesModel" "starts") ∈ lw_all := lw_g (lw_at lw_m0 161 rfl) rfl
theorem q178 : (Jvm.Cond.laysFinal "PeerRoutesModel" "PeerRoutesModel" "lengths" "[I") ∈ lw_all := lw_g (lw_at lw_m0 162 rfl) rfl
theorem q179 : (Jvm.Cond.soleField "PeerRoutesModel" "lengths") ∈ lw_all := lw_g (lw_at lw_m0 163 rfl) rfl
theorem q180 : (Jvm.Cond.laysFinal "PeerRoutesModel" "PeerRoutesModel" "peers" "[I") ∈ lw_all := lw_g (lw_at lw_m0 164 rfl) rfl
theorem q181 : (Jvm.Cond.soleField "PeerRoutesModel" "peers") ∈ lw_all := lw_g (lw_at lw_m0 165 rfl) rfl
theorem q182 : (Jvm.Cond.superclass "PeerRoutesModel" "java/lang/Object") ∈ lw_all := lw_g (lw_at lw_m0 166 rfl) rfl
theorem q184 : (Jvm.Cond.instanceMethod ({ cls := "PeerRoutesModel", name := "allow", desc := "(III)I" } : Jvm.MethodName)) ∈ lw_all := lw_g (lw_at lw_m0 168 rfl) rfl
theorem q185 : (Jvm.Cond.selects "PeerRoutesModel" ({ cls := "PeerRoutesModel", name := "allow", desc := "(III)I" } : Jvm.MethodName) ({ cls := "PeerRoutesModel", name := "allow", desc := "(III)I" } : Jvm.MethodName)) ∈ lw_all := lw_g (lw_at lw_m0 169 rfl) rfl
theorem q186 : (Jvm.Cond.code ({ cls := "PeerRoutesModel", name := "allow", desc := "(III)I" } : Jvm.MethodName) prog_3_method_6_code (5 : Nat) (Option.some Jvm.ClassFile.FieldType.int)) ∈ lw_all := lw_g (lw_at lw_m0 170 rfl) rfl
theorem q187 : (Jvm.Cond.methodLink "PeerRoutesModel" (32 : Nat) ({ cls := "PeerRoutesModel", name := "badLength", desc := "(I)Z" } : Jvm.MethodName)) ∈ lw_all := lw_g (lw_at lw_m0 171 rfl) rfl
theorem q188 : (Jvm.Cond.static ({ cls := "PeerRoutesModel", name := "badLength", desc := "(I)Z" } : Jvm.MethodName)) ∈ lw_all := lw_g (lw_at lw_m0 172 rfl) rfl
theorem q189 : (Jvm.Cond.code ({ cls := "PeerRoutesModel", name := "badLength", desc := "(I)Z" } : Jvm.MethodName) prog_3_method_5_code (1 : Nat) (Option.some Jvm.ClassFile.FieldType.boolean)) ∈ lw_all := lw_g (lw_at lw_m0 173 rfl) rfl
theorem q190 : (Jvm.Cond.methodLink "PeerRoutesModel" (36 : Nat) ({ cls := "PeerRoutesModel", name := "find", desc := "(II)I" } : Jvm.MethodName)) ∈ lw_all := lw_g (lw_at lw_m0 174 rfl) rfl
theorem q191 : (Jvm.Cond.privateMethod ({ cls := "PeerRoutesModel", name := "find", desc := "(II)I" } : Jvm.MethodName)) ∈ lw_tbl := lw_at lw_m0 175 rfl
theorem q192 : (Jvm.Cond.instanceMethod ({ cls := "PeerRoutesModel", name := "find", desc := "(II)I" } : Jvm.MethodName)) ∈ lw_all := lw_g (lw_at lw_m0 176 rfl) rfl
theorem q193 : (Jvm.Cond.code ({ cls := "PeerRoutesModel", name := "find", desc := "(II)I" } : Jvm.MethodName) prog_3_method_4_code (4 : Nat) (Option.some Jvm.ClassFile.FieldType.int)) ∈ lw_all := lw_g (lw_at lw_m0 177 rfl) rfl
theorem q194 : (Jvm.Cond.methodLink "PeerRoutesModel" (28 : Nat) ({ cls := "PeerRoutesModel", name := "start", desc := "(II)I" } : Jvm.MethodName)) ∈ lw_all := lw_g (lw_at lw_m0 178 rfl) rfl
theorem q195 : (Jvm.Cond.static ({ cls := "PeerRoutesModel", name := "start", desc := "(II)I" } : Jvm.MethodName)) ∈ lw_all := lw_g (lw_at lw_m0 179 rfl) rfl
theorem q196 : (Jvm.Cond.code ({ cls := "PeerRoutesModel", name := "start", desc := "(II)I" } : Jvm.MethodName) prog_3_method_3_code (3 : Nat) (Option.some Jvm.ClassFile.FieldType.int)) ∈ lw_all := lw_g (lw_at lw_m0 180 rfl) rfl
theorem q197 : (Jvm.Cond.methodLink "PeerRoutesModel" (19 : Nat) ({ cls := "PeerRoutesModel", name := "sizeOf", desc := "(I)I" } : Jvm.MethodName)) ∈ lw_all := lw_g (lw_at lw_m0 181 rfl) rfl
theorem q198 : (Jvm.Cond.static ({ cls := "PeerRoutesModel", name := "sizeOf", desc := "(I)I" } : Jvm.MethodName)) ∈ lw_all := lw_g (lw_at lw_m0 182 rfl) rfl
theorem q199 : (Jvm.Cond.code ({ cls := "PeerRoutesModel", name := "sizeOf", desc := "(I)I" } : Jvm.MethodName) prog_3_method_2_code (3 : Nat) (Option.some Jvm.ClassFile.FieldType.int)) ∈ lw_all := lw_g (lw_at lw_m0 183 rfl) rfl
theorem q200 : (Jvm.Cond.constant "PeerRoutesModel" (23 : Nat) (65535 : Int32)) ∈ lw_all := lw_g (lw_at lw_m0 184 rfl) rfl
theorem q202 : (Jvm.Cond.instanceMethod ({ cls := "PeerRoutesModel", name := "deny", desc := "(II)I" } : Jvm.MethodName)) ∈ lw_all := lw_g (lw_at lw_m0 186 rfl) rfl
theorem q203 : (Jvm.Cond.selects "PeerRoutesModel" ({ cls := "PeerRoutesModel", name := "deny", desc := "(II)I" } : Jvm.MethodName) ({ cls := "PeerRoutesModel", name := "deny", desc := "(II)I" } : Jvm.MethodName)) ∈ lw_all := lw_g (lw_at lw_m0 187 rfl) rfl
theorem q204 : (Jvm.Cond.code ({ cls := "PeerRoutesModel", name := "deny", desc := "(II)I" } : Jvm.MethodName) prog_3_method_8_code (4 : Nat) (Option.some Jvm.ClassFile.FieldType.int)) ∈ lw_all := lw_g (lw_at lw_m0 188 rfl) rfl
theorem q205 : (Jvm.Cond.methodLink "PeerRoutesModel" (39 : Nat) ({ cls := "PeerRoutesModel", name := "drop", desc := "(I)V" } : Jvm.MethodName)) ∈ lw_all := lw_g (lw_at lw_m0 189 rfl) rfl
theorem q206 : (Jvm.Cond.privateMethod ({ cls := "PeerRoutesModel", name := "drop", desc := "(I)V" } : Jvm.MethodName)) ∈ lw_tbl := lw_at lw_m0 190 rfl
theorem q207 : (Jvm.Cond.instanceMethod ({ cls := "PeerRoutesModel", name := "drop", desc := "(I)V" } : Jvm.MethodName)) ∈ lw_all := lw_g (lw_at lw_m0 191 rfl) rfl
theorem q208 : (Jvm.Cond.code ({ cls := "PeerRoutesModel", name := "drop", desc := "(I)V" } : Jvm.MethodName) prog_3_method_7_code (2 : Nat) (Option.none : Option Jvm.ClassFile.FieldType)) ∈ lw_all := lw_g (lw_at lw_m0 192 rfl) rfl
theorem q210 : (Jvm.Cond.instanceMethod ({ cls := "PeerRoutesModel", name := "forget", desc := "(I)I" } : Jvm.MethodName)) ∈ lw_all := lw_g (lw_at lw_m0 194 rfl) rfl
theorem q211 : (Jvm.Cond.selects "PeerRoutesModel" ({ cls := "PeerRoutesModel", name := "forget", desc := "(I)I" } : Jvm.MethodName) ({ cls := "PeerRoutesModel", name := "forget", desc := "(I)I" } : Jvm.MethodName)) ∈ lw_all := lw_g (lw_at lw_m0 195 rfl) rfl
theorem q212 : (Jvm.Cond.code ({ cls := "PeerRoutesModel", name := "forget", desc := "(I)I" } : Jvm.MethodName) prog_3_method_9_code (4 : Nat) (Option.some Jvm.ClassFile.FieldType.int)) ∈ lw_all := lw_g (lw_at lw_m0 196 rfl) rfl
theorem q214 : (Jvm.Cond.instanceMethod ({ cls := "PeerRoutesModel", name := "owner", desc := "(I)I" } : Jvm.MethodName)) ∈ lw_all := lw_g (lw_at lw_m0 198 rfl) rfl
theorem q215 : (Jvm.Cond.selects "PeerRoutesModel" ({ cls := "PeerRoutesModel", name := "owner", desc := "(I)I" } : Jvm.MethodName) ({ cls := "PeerRoutesModel", name := "owner", desc := "(I)I" } : Jvm.MethodName)) ∈ lw_all := lw_g (lw_at lw_m0 199 rfl) rfl
theorem q216 : (Jvm.Cond.code ({ cls := "PeerRoutesModel", name := "owner", desc := "(I)I" } : Jvm.MethodName) prog_3_method_12_code (3 : Nat) (Option.some Jvm.ClassFile.FieldType.int)) ∈ lw_all := lw_g (lw_at lw_m0 200 rfl) rfl
theorem q217 : (Jvm.Cond.methodLink "PeerRoutesModel" (47 : Nat) ({ cls := "PeerRoutesModel", name := "longest", desc := "(II)I" } : Jvm.MethodName)) ∈ lw_all := lw_g (lw_at lw_m0 201 rfl) rfl
theorem q218 : (Jvm.Cond.privateMethod ({ cls := "PeerRoutesModel", name := "longest", desc := "(II)I" } : Jvm.MethodName)) ∈ lw_tbl := lw_at lw_m0 202 rfl
theorem q219 : (Jvm.Cond.instanceMethod ({ cls := "PeerRoutesModel", name := "longest", desc := "(II)I" } : Jvm.MethodName)) ∈ lw_all := lw_g (lw_at lw_m0 203 rfl) rfl
theorem q220 : (Jvm.Cond.code ({ cls := "PeerRoutesModel", name := "longest", desc := "(II)I" } : Jvm.MethodName) prog_3_method_11_code (5 : Nat) (Option.some Jvm.ClassFile.FieldType.int)) ∈ lw_all := lw_g (lw_at lw_m0 204 rfl) rfl
theorem q221 : (Jvm.Cond.methodLink "PeerRoutesModel" (43 : Nat) ({ cls := "PeerRoutesModel", name := "covers", desc := "(II)Z" } : Jvm.MethodName)) ∈ lw_all := lw_g (lw_at lw_m0 205 rfl) rfl
theorem q222 : (Jvm.Cond.privateMethod ({ cls := "PeerRoutesModel", name := "covers", desc := "(II)Z" } : Jvm.MethodName)) ∈ lw_tbl := lw_at lw_m0 206 rfl
theorem q223 : (Jvm.Cond.instanceMethod ({ cls := "PeerRoutesModel", name := "covers", desc := "(II)Z" } : Jvm.MethodName)) ∈ lw_all := lw_g (lw_at lw_m0 207 rfl) rfl
theorem q224 : (Jvm.Cond.code ({ cls := "PeerRoutesModel", name := "covers", desc := "(II)Z" } : Jvm.MethodName) prog_3_method_10_code (3 : Nat) (Option.some Jvm.ClassFile.FieldType.boolean)) ∈ lw_all := lw_g (lw_at lw_m0 208 rfl) rfl
theorem q226 : (Jvm.Cond.instanceMethod ({ cls := "PeerRoutesModel", name := "length", desc := "(I)I" } : Jvm.MethodName)) ∈ lw_all := lw_g (lw_at lw_m0 210 rfl) rfl
theorem q227 : (Jvm.Cond.selects "PeerRoutesModel" ({ cls := "PeerRoutesModel", name := "length", desc := "(I)I" } : Jvm.MethodName) ({ cls := "PeerRoutesModel", name := "length", desc := "(I)I" } : Jvm.MethodName)) ∈ lw_all := lw_g (lw_at lw_m0 211 rfl) rfl
theorem q228 : (Jvm.Cond.code ({ cls := "PeerRoutesModel", name := "length", desc := "(I)I" } : Jvm.MethodName) prog_3_method_13_code (3 : Nat) (Option.some Jvm.ClassFile.FieldType.int)) ∈ lw_all := lw_g (lw_at lw_m0 212 rfl) rfl
theorem q230 : (Jvm.Cond.instanceMethod ({ cls := "PeerRoutesModel", name := "owned", desc := "(I)I" } : Jvm.MethodName)) ∈ lw_all := lw_g (lw_at lw_m0 214 rfl) rfl
theorem q231 : (Jvm.Cond.selects "PeerRoutesModel" ({ cls := "PeerRoutesModel", name := "owned", desc := "(I)I" } : Jvm.MethodName) ({ cls := "PeerRoutesModel", name := "owned", desc := "(I)I" } : Jvm.MethodName)) ∈ lw_all := lw_g (lw_at lw_m0 215 rfl) rfl
theorem q232 : (Jvm.Cond.code ({ cls := "PeerRoutesModel", name := "owned", desc := "(I)I" } : Jvm.MethodName) prog_3_method_15_code (4 : Nat) (Option.some Jvm.ClassFile.FieldType.int)) ∈ lw_all := lw_g (lw_at lw_m0 216 rfl) rfl
theorem q233 : (Jvm.Cond.methodLink "PeerRoutesModel" (51 : Nat) ({ cls := "PeerRoutesModel", name := "settled", desc := "(I)I" } : Jvm.MethodName)) ∈ lw_all := lw_g (lw_at lw_m0 217 rfl) rfl
theorem q234 : (Jvm.Cond.privateMethod ({ cls := "PeerRoutesModel", name := "settled", desc := "(I)I" } : Jvm.MethodName)) ∈ lw_tbl := lw_at lw_m0 218 rfl
theorem q235 : (Jvm.Cond.instanceMethod ({ cls := "PeerRoutesModel", name := "settled", desc := "(I)I" } : Jvm.MethodName)) ∈ lw_all := lw_g (lw_at lw_m0 219 rfl) rfl
theorem q236 : (Jvm.Cond.code ({ cls := "PeerRoutesModel", name := "settled", desc := "(I)I" } : Jvm.MethodName) prog_3_method_14_code (4 : Nat) (Option.some Jvm.ClassFile.FieldType.int)) ∈ lw_all := lw_g (lw_at lw_m0 220 rfl) rfl
theorem q237 : (Jvm.Cond.constant "PeerRoutesModel" (50 : Nat) (65536 : Int32)) ∈ lw_all := lw_g (lw_at lw_m0 221 rfl) rfl
theorem q239 : (Jvm.Cond.instanceMethod ({ cls := "PeerRoutesModel", name := "next", desc := "(II)I" } : Jvm.MethodName)) ∈ lw_all := lw_g (lw_at lw_m0 223 rfl) rfl
theorem q240 : (Jvm.Cond.selects "PeerRoutesModel" ({ cls := "PeerRoutesModel", name := "next", desc := "(II)I" } : Jvm.MethodName) ({ cls := "PeerRoutesModel", name := "next", desc := "(II)I" } : Jvm.MethodName)) ∈ lw_all := lw_g (lw_at lw_m0 224 rfl) rfl
theorem q241 : (Jvm.Cond.code ({ cls := "PeerRoutesModel", name := "next", desc := "(II)I" } : Jvm.MethodName) prog_3_method_16_code (8 : Nat) (Option.some Jvm.ClassFile.FieldType.int)) ∈ lw_all := lw_g (lw_at lw_m0 225 rfl) rfl
theorem q242 : (Jvm.Cond.methodLink "PeerRoutesModel" (54 : Nat) ({ cls := "PeerRoutesModel", name := "owner", desc := "(I)I" } : Jvm.MethodName)) ∈ lw_all := lw_g (lw_at lw_m0 226 rfl) rfl
theorem q244 : (Jvm.Cond.instanceMethod ({ cls := "PeerRoutesModel", name := "useless", desc := "()I" } : Jvm.MethodName)) ∈ lw_all := lw_g (lw_at lw_m0 228 rfl) rfl
theorem q245 : (Jvm.Cond.selects "PeerRoutesModel" ({ cls := "PeerRoutesModel", name := "useless", desc := "()I" } : Jvm.MethodName) ({ cls := "PeerRoutesModel", name := "useless", desc := "()I" } : Jvm.MethodName)) ∈ lw_all := lw_g (lw_at lw_m0 229 rfl) rfl
theorem q246 : (Jvm.Cond.code ({ cls := "PeerRoutesModel", name := "useless", desc := "()I" } : Jvm.MethodName) prog_3_method_17_code (4 : Nat) (Option.some Jvm.ClassFile.FieldType.int)) ∈ lw_all := lw_g (lw_at lw_m0 230 rfl) rfl
theorem q248 : (Jvm.Cond.instanceMethod ({ cls := "PeerRoutesModel", name := "entries", desc := "(I)I" } : Jvm.MethodName)) ∈ lw_all := lw_g (lw_at lw_m0 232 rfl) rfl
theorem q249 : (Jvm.Cond.selects "PeerRoutesModel" ({ cls := "PeerRoutesModel", name := "entries", desc := "(I)I" } : Jvm.MethodName) ({ cls := "PeerRoutesModel", name := "entries", desc := "(I)I" } : Jvm.MethodName)) ∈ lw_all := lw_g (lw_at lw_m0 233 rfl) rfl
theorem q250 : (Jvm.Cond.code ({ cls := "PeerRoutesModel", name := "entries", desc := "(I)I" } : Jvm.MethodName) prog_3_method_18_code (4 : Nat) (Option.some Jvm.ClassFile.FieldType.int)) ∈ lw_all := lw_g (lw_at lw_m0 234 rfl) rfl
theorem in_X1 : ∀ w ∈ wsX10, w ∈ lw_all := lw_in wsX10 [174, 176, 178, 180] (by decide +kernel) (by decide +kernel)
end
section
/-! java/lang/Object -/
set_option maxRecDepth 100000
def RJ0 : String := "java/lang/Object"
abbrev cJ0_init : ByteArray := object_method_1_code
def yJ0_init : MethodName := ⟨RJ0, "<init>", "()V"⟩
theorem dJ0_init_0 : decode cJ0_init 0 = .ok (.return_, 1) := by decide +kernel
theorem q25 : (Jvm.Cond.instanceMethod ({ cls := "java/lang/Object", name := "<init>", desc := "()V" } : Jvm.MethodName)) ∈ lw_all := lw_g (lw_at lw_m0 9 rfl) rfl
theorem q26 : (Jvm.Cond.code ({ cls := "java/lang/Object", name := "<init>", desc := "()V" } : Jvm.MethodName) object_method_1_code (1 : Nat) (Option.none : Option Jvm.ClassFile.FieldType)) ∈ lw_all := lw_g (lw_at lw_m0 10 rfl) rfl
theorem q70 : (Jvm.Cond.arrayClass Jvm.ClassFile.FieldType.boolean) ∈ lw_all := lw_g (lw_at lw_m0 54 rfl) rfl
set_option maxRecDepth 100000
theorem q71 : (Jvm.Cond.arrayClass Jvm.ClassFile.FieldType.int) ∈ lw_all := lw_g (lw_at lw_m0 55 rfl) rfl
theorem q16 : (Jvm.Cond.initialized "PeerRoutesLaw") ∈ lw_all := lw_g (lw_at lw_m0 0 rfl) rfl
set_option maxRecDepth 100000
theorem q19 : (Jvm.Cond.classLink "PeerRoutesLaw" (7 : Nat) "PeerRoutes") ∈ lw_all := lw_g (lw_at lw_m0 3 rfl) rfl
theorem q21 : (Jvm.Cond.methodLink "PeerRoutesLaw" (9 : Nat) ({ cls := "PeerRoutes", name := "<init>", desc := "()V" } : Jvm.MethodName)) ∈ lw_all := lw_g (lw_at lw_m0 5 rfl) rfl
theorem q72 : (Jvm.Cond.methodLink "PeerRoutesLaw" (13 : Nat) ({ cls := "PeerRoutes", name := "allow", desc := "(III)I" } : Jvm.MethodName)) ∈ lw_all := lw_g (lw_at lw_m0 56 rfl) rfl
theorem q106 : (Jvm.Cond.methodLink "PeerRoutesLaw" (18 : Nat) ({ cls := "PeerRoutes", name := "deny", desc := "(II)I" } : Jvm.MethodName)) ∈ lw_all := lw_g (lw_at lw_m0 90 rfl) rfl
theorem q118 : (Jvm.Cond.methodLink "PeerRoutesLaw" (23 : Nat) ({ cls := "PeerRoutes", name := "forget", desc := "(I)I" } : Jvm.MethodName)) ∈ lw_all := lw_g (lw_at lw_m0 102 rfl) rfl
theorem q122 : (Jvm.Cond.methodLink "PeerRoutesLaw" (28 : Nat) ({ cls := "PeerRoutes", name := "owner", desc := "(I)I" } : Jvm.MethodName)) ∈ lw_all := lw_g (lw_at lw_m0 106 rfl) rfl
theorem q130 : (Jvm.Cond.methodLink "PeerRoutesLaw" (32 : Nat) ({ cls := "PeerRoutes", name := "length", desc := "(I)I" } : Jvm.MethodName)) ∈ lw_all := lw_g (lw_at lw_m0 114 rfl) rfl
theorem q134 : (Jvm.Cond.methodLink "PeerRoutesLaw" (36 : Nat) ({ cls := "PeerRoutes", name := "owned", desc := "(I)I" } : Jvm.MethodName)) ∈ lw_all := lw_g (lw_at lw_m0 118 rfl) rfl
theorem q147 : (Jvm.Cond.methodLink "PeerRoutesLaw" (40 : Nat) ({ cls := "PeerRoutes", name := "next", desc := "(II)I" } : Jvm.MethodName)) ∈ lw_all := lw_g (lw_at lw_m0 131 rfl) rfl
theorem q156 : (Jvm.Cond.methodLink "PeerRoutesLaw" (44 : Nat) ({ cls := "PeerRoutes", name := "useless", desc := "()I" } : Jvm.MethodName)) ∈ lw_all := lw_g (lw_at lw_m0 140 rfl) rfl
theorem q160 : (Jvm.Cond.methodLink "PeerRoutesLaw" (49 : Nat) ({ cls := "PeerRoutes", name := "entries", desc := "(I)I" } : Jvm.MethodName)) ∈ lw_all := lw_g (lw_at lw_m0 144 rfl) rfl
theorem q164 : (Jvm.Cond.classLink "PeerRoutesLaw" (10 : Nat) "PeerRoutesModel") ∈ lw_all := lw_g (lw_at lw_m0 148 rfl) rfl
theorem q166 : (Jvm.Cond.methodLink "PeerRoutesLaw" (12 : Nat) ({ cls := "PeerRoutesModel", name := "<init>", desc := "()V" } : Jvm.MethodName)) ∈ lw_all := lw_g (lw_at lw_m0 150 rfl) rfl
theorem q183 : (Jvm.Cond.methodLink "PeerRoutesLaw" (17 : Nat) ({ cls := "PeerRoutesModel", name := "allow", desc := "(III)I" } : Jvm.MethodName)) ∈ lw_all := lw_g (lw_at lw_m0 167 rfl) rfl
theorem q201 : (Jvm.Cond.methodLink "PeerRoutesLaw" (22 : Nat) ({ cls := "PeerRoutesModel", name := "deny", desc := "(II)I" } : Jvm.MethodName)) ∈ lw_all := lw_g (lw_at lw_m0 185 rfl) rfl
theorem q209 : (Jvm.Cond.methodLink "PeerRoutesLaw" (27 : Nat) ({ cls := "PeerRoutesModel", name := "forget", desc := "(I)I" } : Jvm.MethodName)) ∈ lw_all := lw_g (lw_at lw_m0 193 rfl) rfl
theorem q213 : (Jvm.Cond.methodLink "PeerRoutesLaw" (31 : Nat) ({ cls := "PeerRoutesModel", name := "owner", desc := "(I)I" } : Jvm.MethodName)) ∈ lw_all := lw_g (lw_at lw_m0 197 rfl) rfl
theorem q225 : (Jvm.Cond.methodLink "PeerRoutesLaw" (35 : Nat) ({ cls := "PeerRoutesModel", name := "length", desc := "(I)I" } : Jvm.MethodName)) ∈ lw_all := lw_g (lw_at lw_m0 209 rfl) rfl
theorem q229 : (Jvm.Cond.methodLink "PeerRoutesLaw" (39 : Nat) ({ cls := "PeerRoutesModel", name := "owned", desc := "(I)I" } : Jvm.MethodName)) ∈ lw_all := lw_g (lw_at lw_m0 213 rfl) rfl
theorem q238 : (Jvm.Cond.methodLink "PeerRoutesLaw" (43 : Nat) ({ cls := "PeerRoutesModel", name := "next", desc := "(II)I" } : Jvm.MethodName)) ∈ lw_all := lw_g (lw_at lw_m0 222 rfl) rfl
theorem q243 : (Jvm.Cond.methodLink "PeerRoutesLaw" (48 : Nat) ({ cls := "PeerRoutesModel", name := "useless", desc := "()I" } : Jvm.MethodName)) ∈ lw_all := lw_g (lw_at lw_m0 227 rfl) rfl
theorem q247 : (Jvm.Cond.methodLink "PeerRoutesLaw" (52 : Nat) ({ cls := "PeerRoutesModel", name := "entries", desc := "(I)I" } : Jvm.MethodName)) ∈ lw_all := lw_g (lw_at lw_m0 231 rfl) rfl
end
section
/-! the law's own entry -/
set_option maxRecDepth 100000
abbrev cL_law : ByteArray := code
theorem dL_law_0 : decode cL_law 0 = .ok (.new 7, 3) := by decide +kernel
theorem dL_law_3 : decode cL_law 3 = .ok (.dup, 1) := by decide +kernel
theorem dL_law_4 : decode cL_law 4 = .ok (.invokespecial 9, 3) := by decide +kernel
theorem dL_law_7 : decode cL_law 7 = .ok (.astore_n 1, 1) := by decide +kernel
theorem dL_law_8 : decode cL_law 8 = .ok (.new 10, 3) := by decide +kernel
theorem dL_law_11 : decode cL_law 11 = .ok (.dup, 1) := by decide +kernel
theorem dL_law_12 : decode cL_law 12 = .ok (.invokespecial 12, 3) := by decide +kernel
theorem dL_law_15 : decode cL_law 15 = .ok (.astore_n 2, 1) := by decide +kernel
theorem dL_law_16 : decode cL_law 16 = .ok (.iconst 0, 1) := by decide +kernel
theorem dL_law_17 : decode cL_law 17 = .ok (.istore_n 3, 1) := by decide +kernel
theorem dL_law_18 : decode cL_law 18 = .ok (.iload_n 3, 1) := by decide +kernel
theorem dL_law_19 : decode cL_law 19 = .ok (.aload_n 0, 1) := by decide +kernel
theorem dL_law_20 : decode cL_law 20 = .ok (.arraylength, 1) := by decide +kernel
theorem dL_law_21 : decode cL_law 21 = .ok (.iconst 4, 1) := by decide +kernel
theorem dL_law_22 : decode cL_law 22 = .ok (.isub, 1) := by decide +kernel
theorem dL_law_23 : decode cL_law 23 = .ok (.if_icmp .gt 304, 3) := by decide +kernel
theorem dL_law_26 : decode cL_law 26 = .ok (.aload_n 0, 1) := by decide +kernel
theorem dL_law_27 : decode cL_law 27 = .ok (.iload_n 3, 1) := by decide +kernel
theorem dL_law_28 : decode cL_law 28 = .ok (.iaload, 1) := by decide +kernel
theorem dL_law_29 : decode cL_law 29 = .ok (.bipush 15, 2) := by decide +kernel
theorem dL_law_31 : decode cL_law 31 = .ok (.iand, 1) := by decide +kernel
theorem dL_law_32 : decode cL_law 32 = .ok (.tableswitch 289 0 8 #[52, 95, 128, 151, 174, 197, 220, 253, 266], 52) := by decide +kernel
theorem dL_law_84 : decode cL_law 84 = .ok (.aload_n 1, 1) := by decide +kernel
theorem dL_law_85 : decode cL_law 85 = .ok (.aload_n 0, 1) := by decide +kernel
theorem dL_law_86 : decode cL_law 86 = .ok (.iload_n 3, 1) := by decide +kernel
theorem dL_law_87 : decode cL_law 87 = .ok (.iconst 1, 1) := by decide +kernel
theorem dL_law_88 : decode cL_law 88 = .ok (.iadd, 1) := by decide +kernel
theorem dL_law_89 : decode cL_law 89 = .ok (.iaload, 1) := by decide +kernel
theorem dL_law_90 : decode cL_law 90 = .ok (.aload_n 0, 1) := by decide +kernel
theorem dL_law_91 : decode cL_law 91 = .ok (.iload_n 3, 1) := by decide +kernel
theorem dL_law_92 : decode cL_law 92 = .ok (.iconst 2, 1) := by decide +kernel
theorem dL_law_93 : decode cL_law 93 = .ok (.iadd, 1) := by decide +kernel
theorem dL_law_94 : decode cL_law 94 = .ok (.iaload, 1) := by decide +kernel
theorem dL_law_95 : decode cL_law 95 = .ok (.aload_n 0, 1) := by decide +kernel
theorem dL_law_96 : decode cL_law 96 = .ok (.iload_n 3, 1) := by decide +kernel
theorem dL_law_97 : decode cL_law 97 = .ok (.iconst 3, 1) := by decide +kernel
theorem dL_law_98 : decode cL_law 98 = .ok (.iadd, 1) := by decide +kernel
theorem dL_law_99 : decode cL_law 99 = .ok (.iaload, 1) := by decide +kernel
theorem dL_law_100 : decode cL_law 100 = .ok (.invokevirtual 13, 3) := by decide +kernel
theorem dL_law_103 : decode cL_law 103 = .ok (.aload_n 2, 1) := by decide +kernel
theorem dL_law_104 : decode cL_law 104 = .ok (.aload_n 0, 1) := by decide +kernel
theorem dL_law_105 : decode cL_law 105 = .ok (.iload_n 3, 1) := by decide +kernel
theorem dL_law_106 : decode cL_law 106 = .ok (.iconst 1, 1) := by decide +kernel
theorem dL_law_107 : decode cL_law 107 = .ok (.iadd, 1) := by decide +kernel
theorem dL_law_108 : decode cL_law 108 = .ok (.iaload, 1) := by decide +kernel
theorem dL_law_109 : decode cL_law 109 = .ok (.aload_n 0, 1) := by decide +kernel
theorem dL_law_110 : decode cL_law 110 = .ok (.iload_n 3, 1) := by decide +kernel
theorem dL_law_111 : decode cL_law 111 = .ok (.iconst 2, 1) := by decide +kernel
theorem dL_law_112 : decode cL_law 112 = .ok (.iadd, 1) := by decide +kernel
theorem dL_law_113 : decode cL_law 113 = .ok (.iaload, 1) := by decide +kernel
theorem dL_law_114 : decode cL_law 114 = .ok (.aload_n 0, 1) := by decide +kernel
theorem dL_law_115 : decode cL_law 115 = .ok (.iload_n 3, 1) := by decide +kernel
theorem dL_law_116 : decode cL_law 116 = .ok (.iconst 3, 1) := by decide +kernel
theorem dL_law_117 : decode cL_law 117 = .ok (.iadd, 1) := by decide +kernel
theorem dL_law_118 : decode cL_law 118 = .ok (.iaload, 1) := by decide +kernel
theorem dL_law_119 : decode cL_law 119 = .ok (.invokevirtual 17, 3) := by decide +kernel
theorem dL_law_122 : decode cL_law 122 = .ok (.if_icmp .eq 199, 3) := by decide +kernel
theorem dL_law_125 : decode cL_law 125 = .ok (.iconst 0, 1) := by decide +kernel
theorem dL_law_126 : decode cL_law 126 = .ok (.ireturn, 1) := by decide +kernel
theorem dL_law_127 : decode cL_law 127 = .ok (.aload_n 1, 1) := by decide +kernel
theorem dL_law_128 : decode cL_law 128 = .ok (.aload_n 0, 1) := by decide +kernel
theorem dL_law_129 : decode cL_law 129 = .ok (.iload_n 3, 1) := by decide +kernel
theorem dL_law_130 : decode cL_law 130 = .ok (.iconst 1, 1) := by decide +kernel
theorem dL_law_131 : decode cL_law 131 = .ok (.iadd, 1) := by decide +kernel
theorem dL_law_132 : decode cL_law 132 = .ok (.iaload, 1) := by decide +kernel
theorem dL_law_133 : decode cL_law 133 = .ok (.aload_n 0, 1) := by decide +kernel
theorem dL_law_134 : decode cL_law 134 = .ok (.iload_n 3, 1) := by decide +kernel
theorem dL_law_135 : decode cL_law 135 = .ok (.iconst 2, 1) := by decide +kernel
theorem dL_law_136 : decode cL_law 136 = .ok (.iadd, 1) := by decide +kernel
theorem dL_law_137 : decode cL_law 137 = .ok (.iaload, 1) := by decide +kernel
theorem dL_law_138 : decode cL_law 138 = .ok (.invokevirtual 18, 3) := by decide +kernel
theorem dL_law_141 : decode cL_law 141 = .ok (.aload_n 2, 1) := by decide +kernel
theorem dL_law_142 : decode cL_law 142 = .ok (.aload_n 0, 1) := by decide +kernel
theorem dL_law_143 : decode cL_law 143 = .ok (.iload_n 3, 1) := by decide +kernel
theorem dL_law_144 : decode cL_law 144 = .ok (.iconst 1, 1) := by decide +kernel
theorem dL_law_145 : decode cL_law 145 = .ok (.iadd, 1) := by decide +kernel
theorem dL_law_146 : decode cL_law 146 = .ok (.iaload, 1) := by decide +kernel
theorem dL_law_147 : decode cL_law 147 = .ok (.aload_n 0, 1) := by decide +kernel
theorem dL_law_148 : decode cL_law 148 = .ok (.iload_n 3, 1) := by decide +kernel
theorem dL_law_149 : decode cL_law 149 = .ok (.iconst 2, 1) := by decide +kernel
theorem dL_law_150 : decode cL_law 150 = .ok (.iadd, 1) := by decide +kernel
theorem dL_law_151 : decode cL_law 151 = .ok (.iaload, 1) := by decide +kernel
theorem dL_law_152 : decode cL_law 152 = .ok (.invokevirtual 22, 3) := by decide +kernel
theorem dL_law_155 : decode cL_law 155 = .ok (.if_icmp .eq 166, 3) := by decide +kernel
theorem dL_law_158 : decode cL_law 158 = .ok (.iconst 0, 1) := by decide +kernel
theorem dL_law_159 : decode cL_law 159 = .ok (.ireturn, 1) := by decide +kernel
theorem dL_law_160 : decode cL_law 160 = .ok (.aload_n 1, 1) := by decide +kernel
theorem dL_law_161 : decode cL_law 161 = .ok (.aload_n 0, 1) := by decide +kernel
theorem dL_law_162 : decode cL_law 162 = .ok (.iload_n 3, 1) := by decide +kernel
theorem dL_law_163 : decode cL_law 163 = .ok (.iconst 1, 1) := by decide +kernel
theorem dL_law_164 : decode cL_law 164 = .ok (.iadd, 1) := by decide +kernel
theorem dL_law_165 : decode cL_law 165 = .ok (.iaload, 1) := by decide +kernel
theorem dL_law_166 : decode cL_law 166 = .ok (.invokevirtual 23, 3) := by decide +kernel
theorem dL_law_169 : decode cL_law 169 = .ok (.aload_n 2, 1) := by decide +kernel
theorem dL_law_170 : decode cL_law 170 = .ok (.aload_n 0, 1) := by decide +kernel
theorem dL_law_171 : decode cL_law 171 = .ok (.iload_n 3, 1) := by decide +kernel
theorem dL_law_172 : decode cL_law 172 = .ok (.iconst 1, 1) := by decide +kernel
theorem dL_law_173 : decode cL_law 173 = .ok (.iadd, 1) := by decide +kernel
theorem dL_law_174 : decode cL_law 174 = .ok (.iaload, 1) := by decide +kernel
theorem dL_law_175 : decode cL_law 175 = .ok (.invokevirtual 27, 3) := by decide +kernel
theorem dL_law_178 : decode cL_law 178 = .ok (.if_icmp .eq 143, 3) := by decide +kernel
theorem dL_law_181 : decode cL_law 181 = .ok (.iconst 0, 1) := by decide +kernel
theorem dL_law_182 : decode cL_law 182 = .ok (.ireturn, 1) := by decide +kernel
theorem dL_law_183 : decode cL_law 183 = .ok (.aload_n 1, 1) := by decide +kernel
theorem dL_law_184 : decode cL_law 184 = .ok (.aload_n 0, 1) := by decide +kernel
theorem dL_law_185 : decode cL_law 185 = .ok (.iload_n 3, 1) := by decide +kernel
theorem dL_law_186 : decode cL_law 186 = .ok (.iconst 1, 1) := by decide +kernel
theorem dL_law_187 : decode cL_law 187 = .ok (.iadd, 1) := by decide +kernel
theorem dL_law_188 : decode cL_law 188 = .ok (.iaload, 1) := by decide +kernel
theorem dL_law_189 : decode cL_law 189 = .ok (.invokevirtual 28, 3) := by decide +kernel
theorem dL_law_192 : decode cL_law 192 = .ok (.aload_n 2, 1) := by decide +kernel
theorem dL_law_193 : decode cL_law 193 = .ok (.aload_n 0, 1) := by decide +kernel
theorem dL_law_194 : decode cL_law 194 = .ok (.iload_n 3, 1) := by decide +kernel
theorem dL_law_195 : decode cL_law 195 = .ok (.iconst 1, 1) := by decide +kernel
theorem dL_law_196 : decode cL_law 196 = .ok (.iadd, 1) := by decide +kernel
theorem dL_law_197 : decode cL_law 197 = .ok (.iaload, 1) := by decide +kernel
theorem dL_law_198 : decode cL_law 198 = .ok (.invokevirtual 31, 3) := by decide +kernel
theorem dL_law_201 : decode cL_law 201 = .ok (.if_icmp .eq 120, 3) := by decide +kernel
theorem dL_law_204 : decode cL_law 204 = .ok (.iconst 0, 1) := by decide +kernel
theorem dL_law_205 : decode cL_law 205 = .ok (.ireturn, 1) := by decide +kernel
theorem dL_law_206 : decode cL_law 206 = .ok (.aload_n 1, 1) := by decide +kernel
theorem dL_law_207 : decode cL_law 207 = .ok (.aload_n 0, 1) := by decide +kernel
theorem dL_law_208 : decode cL_law 208 = .ok (.iload_n 3, 1) := by decide +kernel
theorem dL_law_209 : decode cL_law 209 = .ok (.iconst 1, 1) := by decide +kernel
theorem dL_law_210 : decode cL_law 210 = .ok (.iadd, 1) := by decide +kernel
theorem dL_law_211 : decode cL_law 211 = .ok (.iaload, 1) := by decide +kernel
theorem dL_law_212 : decode cL_law 212 = .ok (.invokevirtual 32, 3) := by decide +kernel
theorem dL_law_215 : decode cL_law 215 = .ok (.aload_n 2, 1) := by decide +kernel
theorem dL_law_216 : decode cL_law 216 = .ok (.aload_n 0, 1) := by decide +kernel
theorem dL_law_217 : decode cL_law 217 = .ok (.iload_n 3, 1) := by decide +kernel
theorem dL_law_218 : decode cL_law 218 = .ok (.iconst 1, 1) := by decide +kernel
theorem dL_law_219 : decode cL_law 219 = .ok (.iadd, 1) := by decide +kernel
theorem dL_law_220 : decode cL_law 220 = .ok (.iaload, 1) := by decide +kernel
theorem dL_law_221 : decode cL_law 221 = .ok (.invokevirtual 35, 3) := by decide +kernel
theorem dL_law_224 : decode cL_law 224 = .ok (.if_icmp .eq 97, 3) := by decide +kernel
theorem dL_law_227 : decode cL_law 227 = .ok (.iconst 0, 1) := by decide +kernel
theorem dL_law_228 : decode cL_law 228 = .ok (.ireturn, 1) := by decide +kernel
theorem dL_law_229 : decode cL_law 229 = .ok (.aload_n 1, 1) := by decide +kernel
theorem dL_law_230 : decode cL_law 230 = .ok (.aload_n 0, 1) := by decide +kernel
theorem dL_law_231 : decode cL_law 231 = .ok (.iload_n 3, 1) := by decide +kernel
theorem dL_law_232 : decode cL_law 232 = .ok (.iconst 1, 1) := by decide +kernel
theorem dL_law_233 : decode cL_law 233 = .ok (.iadd, 1) := by decide +kernel
theorem dL_law_234 : decode cL_law 234 = .ok (.iaload, 1) := by decide +kernel
theorem dL_law_235 : decode cL_law 235 = .ok (.invokevirtual 36, 3) := by decide +kernel
theorem dL_law_238 : decode cL_law 238 = .ok (.aload_n 2, 1) := by decide +kernel
theorem dL_law_239 : decode cL_law 239 = .ok (.aload_n 0, 1) := by decide +kernel
theorem dL_law_240 : decode cL_law 240 = .ok (.iload_n 3, 1) := by decide +kernel
theorem dL_law_241 : decode cL_law 241 = .ok (.iconst 1, 1) := by decide +kernel
theorem dL_law_242 : decode cL_law 242 = .ok (.iadd, 1) := by decide +kernel
theorem dL_law_243 : decode cL_law 243 = .ok (.iaload, 1) := by decide +kernel
theorem dL_law_244 : decode cL_law 244 = .ok (.invokevirtual 39, 3) := by decide +kernel
theorem dL_law_247 : decode cL_law 247 = .ok (.if_icmp .eq 74, 3) := by decide +kernel
theorem dL_law_250 : decode cL_law 250 = .ok (.iconst 0, 1) := by decide +kernel
theorem dL_law_251 : decode cL_law 251 = .ok (.ireturn, 1) := by decide +kernel
theorem dL_law_252 : decode cL_law 252 = .ok (.aload_n 1, 1) := by decide +kernel
theorem dL_law_253 : decode cL_law 253 = .ok (.aload_n 0, 1) := by decide +kernel
theorem dL_law_254 : decode cL_law 254 = .ok (.iload_n 3, 1) := by decide +kernel
theorem dL_law_255 : decode cL_law 255 = .ok (.iconst 1, 1) := by decide +kernel
theorem dL_law_256 : decode cL_law 256 = .ok (.iadd, 1) := by decide +kernel
theorem dL_law_257 : decode cL_law 257 = .ok (.iaload, 1) := by decide +kernel
theorem dL_law_258 : decode cL_law 258 = .ok (.aload_n 0, 1) := by decide +kernel
theorem dL_law_259 : decode cL_law 259 = .ok (.iload_n 3, 1) := by decide +kernel
theorem dL_law_260 : decode cL_law 260 = .ok (.iconst 2, 1) := by decide +kernel
theorem dL_law_261 : decode cL_law 261 = .ok (.iadd, 1) := by decide +kernel
theorem dL_law_262 : decode cL_law 262 = .ok (.iaload, 1) := by decide +kernel
theorem dL_law_263 : decode cL_law 263 = .ok (.invokevirtual 40, 3) := by decide +kernel
theorem dL_law_266 : decode cL_law 266 = .ok (.aload_n 2, 1) := by decide +kernel
theorem dL_law_267 : decode cL_law 267 = .ok (.aload_n 0, 1) := by decide +kernel
theorem dL_law_268 : decode cL_law 268 = .ok (.iload_n 3, 1) := by decide +kernel
theorem dL_law_269 : decode cL_law 269 = .ok (.iconst 1, 1) := by decide +kernel
theorem dL_law_270 : decode cL_law 270 = .ok (.iadd, 1) := by decide +kernel
theorem dL_law_271 : decode cL_law 271 = .ok (.iaload, 1) := by decide +kernel
theorem dL_law_272 : decode cL_law 272 = .ok (.aload_n 0, 1) := by decide +kernel
theorem dL_law_273 : decode cL_law 273 = .ok (.iload_n 3, 1) := by decide +kernel
theorem dL_law_274 : decode cL_law 274 = .ok (.iconst 2, 1) := by decide +kernel
theorem dL_law_275 : decode cL_law 275 = .ok (.iadd, 1) := by decide +kernel
theorem dL_law_276 : decode cL_law 276 = .ok (.iaload, 1) := by decide +kernel
theorem dL_law_277 : decode cL_law 277 = .ok (.invokevirtual 43, 3) := by decide +kernel
theorem dL_law_280 : decode cL_law 280 = .ok (.if_icmp .eq 41, 3) := by decide +kernel
theorem dL_law_283 : decode cL_law 283 = .ok (.iconst 0, 1) := by decide +kernel
theorem dL_law_284 : decode cL_law 284 = .ok (.ireturn, 1) := by decide +kernel
theorem dL_law_285 : decode cL_law 285 = .ok (.aload_n 1, 1) := by decide +kernel
theorem dL_law_286 : decode cL_law 286 = .ok (.invokevirtual 44, 3) := by decide +kernel
theorem dL_law_289 : decode cL_law 289 = .ok (.aload_n 2, 1) := by decide +kernel
theorem dL_law_290 : decode cL_law 290 = .ok (.invokevirtual 48, 3) := by decide +kernel
theorem dL_law_293 : decode cL_law 293 = .ok (.if_icmp .eq 28, 3) := by decide +kernel
theorem dL_law_296 : decode cL_law 296 = .ok (.iconst 0, 1) := by decide +kernel
theorem dL_law_297 : decode cL_law 297 = .ok (.ireturn, 1) := by decide +kernel
theorem dL_law_298 : decode cL_law 298 = .ok (.aload_n 1, 1) := by decide +kernel
theorem dL_law_299 : decode cL_law 299 = .ok (.aload_n 0, 1) := by decide +kernel
theorem dL_law_300 : decode cL_law 300 = .ok (.iload_n 3, 1) := by decide +kernel
theorem dL_law_301 : decode cL_law 301 = .ok (.iconst 1, 1) := by decide +kernel
theorem dL_law_302 : decode cL_law 302 = .ok (.iadd, 1) := by decide +kernel
theorem dL_law_303 : decode cL_law 303 = .ok (.iaload, 1) := by decide +kernel
theorem dL_law_304 : decode cL_law 304 = .ok (.invokevirtual 49, 3) := by decide +kernel
theorem dL_law_307 : decode cL_law 307 = .ok (.aload_n 2, 1) := by decide +kernel
theorem dL_law_308 : decode cL_law 308 = .ok (.aload_n 0, 1) := by decide +kernel
theorem dL_law_309 : decode cL_law 309 = .ok (.iload_n 3, 1) := by decide +kernel
theorem dL_law_310 : decode cL_law 310 = .ok (.iconst 1, 1) := by decide +kernel
theorem dL_law_311 : decode cL_law 311 = .ok (.iadd, 1) := by decide +kernel
theorem dL_law_312 : decode cL_law 312 = .ok (.iaload, 1) := by decide +kernel
theorem dL_law_313 : decode cL_law 313 = .ok (.invokevirtual 52, 3) := by decide +kernel
theorem dL_law_316 : decode cL_law 316 = .ok (.if_icmp .eq 5, 3) := by decide +kernel
theorem dL_law_319 : decode cL_law 319 = .ok (.iconst 0, 1) := by decide +kernel
theorem dL_law_320 : decode cL_law 320 = .ok (.ireturn, 1) := by decide +kernel
theorem dL_law_321 : decode cL_law 321 = .ok (.iinc 3 4, 3) := by decide +kernel
theorem dL_law_324 : decode cL_law 324 = .ok (.goto (-306), 3) := by decide +kernel
theorem dL_law_327 : decode cL_law 327 = .ok (.iconst 1, 1) := by decide +kernel
theorem dL_law_328 : decode cL_law 328 = .ok (.ireturn, 1) := by decide +kernel
end
section
/-! ===== how many places have a property ===== -/
def fb_ct (p : Nat → Bool) : Nat → Nat
  | 0 => 0
  | n + 1 => fb_ct p n + (if p n then 1 else 0)
theorem fb_ct_succ (p : Nat → Bool) (n : Nat) : fb_ct p (n + 1) = fb_ct p n + (if p n then 1 else 0) := rfl
theorem fb_ct_le (p : Nat → Bool) : ∀ n, fb_ct p n ≤ n
  | 0 => Nat.le_refl _
  | n + 1 => by
    have h := fb_ct_le p n
    rw [fb_ct_succ]
    split <;> omega
theorem fb_ct_step (p : Nat → Bool) (m : Nat) : ∀ n, fb_ct p m ≤ fb_ct p (m + n)
  | 0 => Nat.le_refl _
  | n + 1 => by
    have h := fb_ct_step p m n
    show fb_ct p m ≤ fb_ct p (m + n + 1)
    rw [fb_ct_succ]
    omega
theorem fb_ct_mono (p : Nat → Bool) {m n : Nat} (h : m ≤ n) : fb_ct p m ≤ fb_ct p n := by
  have := fb_ct_step p m (n - m)
  rwa [Nat.add_sub_cancel' h] at this
theorem fb_ct_cong {p q : Nat → Bool} : ∀ {n : Nat}, (∀ k, k < n → p k = q k) → fb_ct p n = fb_ct q n
  | 0, _ => rfl
  | n + 1, h => by
    rw [fb_ct_succ, fb_ct_succ, fb_ct_cong (fun k hk => h k (by omega)), h n (by omega)]
/-- one place changed -/
theorem fb_ct_out (p : Nat → Bool) (b : Bool) {i n : Nat} (h : n ≤ i) : fb_ct (fun k => if k = i then b else p k) n = fb_ct p n :=
  fb_ct_cong fun k hk => if_neg (by omega)
theorem fb_ct_upd (p : Nat → Bool) (b : Bool) {i : Nat} : ∀ {n : Nat}, i < n → fb_ct (fun k => if k = i then b else p k) n + (if p i then 1 else 0) = fb_ct p n + (if b then 1 else 0)
  | 0, h => absurd h (Nat.not_lt_zero i)
  | n + 1, h => by
    rw [fb_ct_succ, fb_ct_succ]
    rcases Nat.lt_or_ge i n with q | q
    · have := fb_ct_upd p b q
      have e : (if n = i then b else p n) = p n := if_neg (by omega)
      rw [e]
      omega
    · have e : i = n := by omega
      subst e
      rw [fb_ct_out p b (Nat.le_refl _)]
      simp only [if_true]
      omega
theorem fb_ct_sub {p q : Nat → Bool} : ∀ {n : Nat}, (∀ k, k < n → p k = true → q k = true) → fb_ct p n ≤ fb_ct q n
  | 0, _ => Nat.le_refl _
  | n + 1, h => by
    have h1 := fb_ct_sub (n := n) (p := p) (q := q) (fun k hk => h k (by omega))
    have h2 := h n (by omega)
    rw [fb_ct_succ, fb_ct_succ]
    cases hp : p n <;> cases hq : q n <;> simp_all <;> omega
theorem fb_ct_or {p q : Nat → Bool} : ∀ {n : Nat}, (∀ k, k < n → ¬ (p k = true ∧ q k = true)) → fb_ct (fun k => p k || q k) n = fb_ct p n + fb_ct q n
  | 0, _ => rfl
  | n + 1, h => by
    have h1 := fb_ct_or (n := n) (p := p) (q := q) (fun k hk => h k (by omega))
    have h2 := h n (by omega)
    rw [fb_ct_succ, fb_ct_succ, fb_ct_succ, h1]
    cases hp : p n <;> cases hq : q n <;> simp_all <;> omega
theorem fb_ct_not (p : Nat → Bool) : ∀ n, fb_ct p n + fb_ct (fun k => !p k) n = n
  | 0 => rfl
  | n + 1 => by
    have h := fb_ct_not p n
    rw [fb_ct_succ, fb_ct_succ]
    cases p n <;> simp <;> omega
theorem fb_ct_split (p : Nat → Bool) (m : Nat) : ∀ n, fb_ct p (m + n) = fb_ct p m + fb_ct (fun k => p (m + k)) n
  | 0 => rfl
  | n + 1 => by
    have h := fb_ct_split p m n
    show fb_ct p (m + n + 1) = _
    rw [fb_ct_succ, fb_ct_succ, h, Nat.add_assoc]
theorem fb_ct_zero {p : Nat → Bool} : ∀ {n : Nat}, fb_ct p n = 0 ↔ ∀ k, k < n → p k = false
  | 0 => ⟨fun _ k hk => absurd hk (Nat.not_lt_zero k), fun _ => rfl⟩
  | n + 1 => by
    have h := fb_ct_zero (p := p) (n := n)
    rw [fb_ct_succ]
    constructor
    · intro e k hk
      have e1 : fb_ct p n = 0 := by omega
      rcases Nat.lt_or_ge k n with q | q
      · exact h.mp e1 k q
      · have ek : k = n := by omega
        subst ek
        cases hp : p k
        · rfl
        · simp [hp] at e
    · intro a
      rw [h.mpr (fun k hk => a k (by omega)), a n (by omega)]
      rfl
theorem fb_ct_pos {p : Nat → Bool} {n : Nat} : 0 < fb_ct p n ↔ ∃ k, k < n ∧ p k = true := by
  constructor
  · intro h
    refine Classical.byContradiction fun hx => ?_
    have := fb_ct_zero.mpr (fun k hk => by
      cases hp : p k
      · rfl
      · exact absurd ⟨k, hk, hp⟩ hx : ∀ k, k < n → p k = false)
    omega
  · rintro ⟨k, hk, hp⟩
    rcases Nat.eq_zero_or_pos (fb_ct p n) with e | e
    · have := fb_ct_zero.mp e k hk
      rw [this] at hp
      cases hp
    · exact e
theorem fb_ct_all {p : Nat → Bool} {n : Nat} : fb_ct p n = n ↔ ∀ k, k < n → p k = true := by
  have h := fb_ct_not p n
  constructor
  · intro e k hk
    have z : fb_ct (fun k => !p k) n = 0 := by omega
    have := fb_ct_zero.mp z k hk
    cases hp : p k
    · simp [hp] at this
    · rfl
  · intro a
    have z : fb_ct (fun k => !p k) n = 0 := fb_ct_zero.mpr (fun k hk => by simp [a k hk])
    omega
/-- the k-th place with the property -/
theorem fb_ct_kth {p : Nat → Bool} {k : Nat} : ∀ {n : Nat}, k < fb_ct p n → ∃ i, i < n ∧ p i = true ∧ fb_ct p i = k
  | 0, h => absurd h (Nat.not_lt_zero k)
  | n + 1, h => by
    rcases Nat.lt_or_ge k (fb_ct p n) with q | q
    · obtain ⟨i, h1, h2⟩ := fb_ct_kth q
      exact ⟨i, by omega, h2⟩
    · rw [fb_ct_succ] at h
      cases hp : p n
      · simp [hp] at h; omega
      · simp [hp] at h
        exact ⟨n, by omega, hp, by omega⟩
theorem fb_ct_kth_one {p : Nat → Bool} {i j : Nat} (hi : p i = true) (hj : p j = true) (e : fb_ct p i = fb_ct p j) : i = j := by
  have key : ∀ a b : Nat, a < b → p a = true → fb_ct p a < fb_ct p b := by
    intro a b hab ha
    have h := fb_ct_mono p (show a + 1 ≤ b from hab)
    rw [fb_ct_succ, ha] at h
    simp at h
    omega
  rcases Nat.lt_trichotomy i j with q | q | q
  · have := key i j q hi; omega
  · exact q
  · have := key j i q hj; omega
/-! ===== sums over a range: one place changed, parts, bounds ===== -/
def fb_sm (f : Nat → Nat) : Nat → Nat
  | 0 => 0
  | n + 1 => fb_sm f n + f n
theorem fb_sm_succ (f : Nat → Nat) (n : Nat) : fb_sm f (n + 1) = fb_sm f n + f n := rfl
theorem fb_sm_cong {f g : Nat → Nat} : ∀ {n : Nat}, (∀ k, k < n → f k = g k) → fb_sm f n = fb_sm g n
  | 0, _ => rfl
  | n + 1, h => by rw [fb_sm_succ, fb_sm_succ, fb_sm_cong (fun k hk => h k (by omega)), h n (by omega)]
theorem fb_sm_out (f : Nat → Nat) (v : Nat) {i n : Nat} (h : n ≤ i) : fb_sm (fun k => if k = i then v else f k) n = fb_sm f n :=
  fb_sm_cong fun k hk => if_neg (by omega)
theorem fb_sm_upd (f : Nat → Nat) (v : Nat) {i : Nat} : ∀ {n : Nat}, i < n → fb_sm (fun k => if k = i then v else f k) n + f i = fb_sm f n + v
  | 0, h => absurd h (Nat.not_lt_zero i)
  | n + 1, h => by
    rw [fb_sm_succ, fb_sm_succ]
    rcases Nat.lt_or_ge i n with q | q
    · have := fb_sm_upd f v q
      have e : (if n = i then v else f n) = f n := if_neg (by omega)
      rw [e]
      omega
    · have e : i = n := by omega
      subst e
      rw [fb_sm_out f v (Nat.le_refl _)]
      simp only [if_true]
      omega
theorem fb_sm_add (f g : Nat → Nat) : ∀ n, fb_sm (fun k => f k + g k) n = fb_sm f n + fb_sm g n
  | 0 => rfl
  | n + 1 => by
    have h := fb_sm_add f g n
    rw [fb_sm_succ, fb_sm_succ, fb_sm_succ, h]
    omega
theorem fb_sm_le {f g : Nat → Nat} : ∀ {n : Nat}, (∀ k, k < n → f k ≤ g k) → fb_sm f n ≤ fb_sm g n
  | 0, _ => Nat.le_refl _
  | n + 1, h => by
    have h1 := fb_sm_le (n := n) (f := f) (g := g) (fun k hk => h k (by omega))
    have h2 := h n (by omega)
    rw [fb_sm_succ, fb_sm_succ]
    omega
theorem fb_sm_const (c : Nat) : ∀ n, fb_sm (fun _ => c) n = n * c
  | 0 => by rw [Nat.zero_mul]; rfl
  | n + 1 => by rw [fb_sm_succ, fb_sm_const c n, Nat.succ_mul]
theorem fb_sm_bound {f : Nat → Nat} {c n : Nat} (h : ∀ k, k < n → f k ≤ c) : fb_sm f n ≤ n * c := by
  rw [← fb_sm_const c n]
  exact fb_sm_le h
theorem fb_sm_mono (f : Nat → Nat) (m : Nat) : ∀ n, fb_sm f m ≤ fb_sm f (m + n)
  | 0 => Nat.le_refl _
  | n + 1 => by
    have h := fb_sm_mono f m n
    show fb_sm f m ≤ fb_sm f (m + n + 1)
    rw [fb_sm_succ]
    omega
theorem fb_sm_part (f : Nat → Nat) {i n : Nat} (h : i < n) : fb_sm f i + f i ≤ fb_sm f n := by
  have := fb_sm_mono f (i + 1) (n - (i + 1))
  rw [fb_sm_succ, show i + 1 + (n - (i + 1)) = n by omega] at this
  exact this
theorem fb_sm_split (f : Nat → Nat) (m : Nat) : ∀ n, fb_sm f (m + n) = fb_sm f m + fb_sm (fun k => f (m + k)) n
  | 0 => rfl
  | n + 1 => by
    have h := fb_sm_split f m n
    show fb_sm f (m + n + 1) = _
    rw [fb_sm_succ, fb_sm_succ, h, Nat.add_assoc]
theorem fb_sm_zero {f : Nat → Nat} {n : Nat} (h : fb_sm f n = 0) : ∀ k, k < n → f k = 0 := fun k hk => by
  have := fb_sm_part f hk
  omega
/-- the same over whole numbers -/
def fb_si (f : Nat → Int) : Nat → Int
  | 0 => 0
  | n + 1 => fb_si f n + f n
theorem fb_si_succ (f : Nat → Int) (n : Nat) : fb_si f (n + 1) = fb_si f n + f n := rfl
theorem fb_si_cong {f g : Nat → Int} : ∀ {n : Nat}, (∀ k, k < n → f k = g k) → fb_si f n = fb_si g n
  | 0, _ => rfl
  | n + 1, h => by rw [fb_si_succ, fb_si_succ, fb_si_cong (fun k hk => h k (by omega)), h n (by omega)]
theorem fb_si_out (f : Nat → Int) (v : Int) {i n : Nat} (h : n ≤ i) : fb_si (fun k => if k = i then v else f k) n = fb_si f n :=
  fb_si_cong fun k hk => if_neg (by omega)
theorem fb_si_upd (f : Nat → Int) (v : Int) {i : Nat} : ∀ {n : Nat}, i < n → fb_si (fun k => if k = i then v else f k) n = fb_si f n - f i + v
  | 0, h => absurd h (Nat.not_lt_zero i)
  | n + 1, h => by
    rw [fb_si_succ, fb_si_succ]
    rcases Nat.lt_or_ge i n with q | q
    · have := fb_si_upd f v q
      have e : (if n = i then v else f n) = f n := if_neg (by omega)
      rw [e]
      omega
    · have e : i = n := by omega
      subst e
      rw [fb_si_out f v (Nat.le_refl _)]
      simp only [if_true]
      omega
theorem fb_si_add (f g : Nat → Int) : ∀ n, fb_si (fun k => f k + g k) n = fb_si f n + fb_si g n
  | 0 => rfl
  | n + 1 => by
    have h := fb_si_add f g n
    rw [fb_si_succ, fb_si_succ, fb_si_succ, h]
    omega
theorem fb_si_sub (f g : Nat → Int) : ∀ n, fb_si (fun k => f k - g k) n = fb_si f n - fb_si g n
  | 0 => rfl
  | n + 1 => by
    have h := fb_si_sub f g n
    rw [fb_si_succ, fb_si_succ, fb_si_succ, h]
    omega
theorem fb_si_mul (c : Int) (f : Nat → Int) : ∀ n, fb_si (fun k => c * f k) n = c * fb_si f n
  | 0 => (Int.mul_zero c).symm
  | n + 1 => by
    have h := fb_si_mul c f n
    rw [fb_si_succ, fb_si_succ, h, Int.mul_add]
theorem fb_si_split (f : Nat → Int) (m : Nat) : ∀ n, fb_si f (m + n) = fb_si f m + fb_si (fun k => f (m + k)) n
  | 0 => (Int.add_zero _).symm
  | n + 1 => by
    have h := fb_si_split f m n
    show fb_si f (m + n + 1) = _
    rw [fb_si_succ, fb_si_succ, h, Int.add_assoc]
theorem fb_si_nat (f : Nat → Nat) : ∀ n, fb_si (fun k => (f k : Int)) n = (fb_sm f n : Int)
  | 0 => rfl
  | n + 1 => by
    have h := fb_si_nat f n
    rw [fb_si_succ, fb_sm_succ, h]
    omega
theorem fb_si_bound {f : Nat → Int} {c : Int} (hc : 0 ≤ c) : ∀ {n : Nat}, (∀ k, k < n → -c ≤ f k ∧ f k ≤ c) → -(n * c) ≤ fb_si f n ∧ fb_si f n ≤ n * c
  | 0, _ => by simp [fb_si]
  | n + 1, h => by
    have h1 := fb_si_bound (n := n) (f := f) hc (fun k hk => h k (by omega))
    have h2 := h n (by omega)
    have e : ((n + 1 : Nat) : Int) * c = n * c + c := by rw [Int.natCast_add, Int.add_mul]; simp
    rw [fb_si_succ, e]
    omega
end
section
/-! plain arithmetic of prefixes: an address below 65536, cut to its first l bits; its bit at place i -/
def ct (a l : Nat) : Nat := a / 2 ^ (16 - l) * 2 ^ (16 - l)
def bt (a i : Nat) : Nat := a / 2 ^ (15 - i) % 2
theorem ct_le (a l : Nat) : ct a l ≤ a := Nat.div_mul_le_self _ _
theorem ct_lt {a : Nat} (l : Nat) (h : a < 65536) : ct a l < 65536 := Nat.lt_of_le_of_lt (ct_le a l) h
theorem bt_lt (a i : Nat) : bt a i < 2 := Nat.mod_lt _ (by decide)
theorem ct_core (a : Nat) {X Z : Nat} (hX : 0 < X) : a / X * X / (X * Z) = a / (X * Z) := by
  rw [← Nat.div_div_eq_div_mul, Nat.mul_div_cancel _ hX, Nat.div_div_eq_div_mul]
theorem pw_split {i j : Nat} (h : i ≤ j) : 2 ^ j = 2 ^ i * 2 ^ (j - i) := by
  rw [← Nat.pow_add]
  congr 1
  omega
theorem ct_ct (a : Nat) {l k : Nat} (h : l ≤ k) : ct (ct a k) l = ct a l := by
  unfold ct
  rw [pw_split (i := 16 - k) (j := 16 - l) (by omega), ct_core a (Nat.two_pow_pos _)]
theorem ct_16 (a : Nat) : ct a 16 = a := by simp [ct]
theorem ct_0 {a : Nat} (h : a < 65536) : ct a 0 = 0 := by
  unfold ct
  rw [Nat.div_eq_of_lt (by simpa using h), Nat.zero_mul]
theorem bt_ct (a : Nat) {i k : Nat} (h : i < k) (hk : k ≤ 16) : bt (ct a k) i = bt a i := by
  unfold bt ct
  rw [pw_split (i := 16 - k) (j := 15 - i) (by omega), ct_core a (Nat.two_pow_pos _)]
theorem ct_step (a : Nat) {l : Nat} (h : l < 16) : ct a (l + 1) = ct a l + bt a l * 2 ^ (15 - l) := by
  unfold ct bt
  have e1 : 16 - (l + 1) = 15 - l := by omega
  have e2 : 16 - l = (15 - l) + 1 := by omega
  rw [e1, e2, Nat.pow_succ, ← Nat.div_div_eq_div_mul]
  generalize 2 ^ (15 - l) = X
  generalize a / X = y
  have hy : y = y / 2 * 2 + y % 2 := by omega
  calc y * X = (y / 2 * 2 + y % 2) * X := by rw [← hy]
    _ = y / 2 * 2 * X + y % 2 * X := Nat.add_mul _ _ _
    _ = y / 2 * (X * 2) + y % 2 * X := by rw [Nat.mul_assoc, Nat.mul_comm 2 X]
theorem ct_ext {a b l : Nat} (h : l < 16) : ct a (l + 1) = ct b (l + 1) ↔ ct a l = ct b l ∧ bt a l = bt b l := by
  constructor
  · intro e
    refine ⟨?_, ?_⟩
    · rw [← ct_ct a (Nat.le_succ l), e, ct_ct b (Nat.le_succ l)]
    · rw [← bt_ct a (Nat.lt_succ_self l) h, e, bt_ct b (Nat.lt_succ_self l) h]
  · rintro ⟨e1, e2⟩
    rw [ct_step a h, ct_step b h, e1, e2]
theorem ct_common {a b : Nat} (ha : a < 65536) (hb : b < 65536) : ∀ n, n ≤ 16 → (∀ j, j < n → bt a j = bt b j) → ct a n = ct b n
  | 0, _, _ => by rw [ct_0 ha, ct_0 hb]
  | n + 1, h, hj => (ct_ext (by omega)).mpr ⟨ct_common ha hb n (by omega) (fun j q => hj j (by omega)), hj n (by omega)⟩
theorem ct_hi (a l : Nat) : a < ct a l + 2 ^ (16 - l) := Nat.lt_div_mul_add (Nat.two_pow_pos _)
/-- a prefix covers just the addresses from its first one on -/
theorem ct_iff {a p l : Nat} (hp : ct p l = p) : ct a l = p ↔ p ≤ a ∧ a < p + 2 ^ (16 - l) := by
  constructor
  · intro e
    rw [← e]
    exact ⟨ct_le a l, ct_hi a l⟩
  · rintro ⟨h1, h2⟩
    unfold ct at hp ⊢
    have hX : 0 < 2 ^ (16 - l) := Nat.two_pow_pos _
    generalize 2 ^ (16 - l) = X at hp h2 hX ⊢
    have e : a / X = p / X := by
      rw [← hp] at h1 h2
      generalize p / X = c at h1 h2 ⊢
      refine Nat.div_eq_of_lt_le h1 ?_
      rw [Nat.succ_mul]
      exact h2
    rw [e, hp]
/-- the place behind an address, cut: the same, or it begins there and the one before has ended -/
theorem ct_next (a l : Nat) : ct (a + 1) l = ct a l ∨ (ct (a + 1) l = a + 1 ∧ ct a l + 2 ^ (16 - l) = a + 1) := by
  unfold ct
  have hX : 0 < 2 ^ (16 - l) := Nat.two_pow_pos _
  generalize 2 ^ (16 - l) = X at hX ⊢
  have h1 : a < a / X * X + X := Nat.lt_div_mul_add hX
  have h2 : a / X * X ≤ a := Nat.div_mul_le_self _ _
  rcases Nat.lt_or_ge (a + 1) (a / X * X + X) with h | h
  · left
    have e : (a + 1) / X = a / X := Nat.div_eq_of_lt_le (by omega) (by rw [Nat.succ_mul]; exact h)
    rw [e]
  · right
    have e0 : a / X * X + X = a + 1 := by omega
    have e : (a + 1) / X = a / X + 1 := by
      rw [← e0]
      rw [Nat.add_div_right _ hX, Nat.mul_div_cancel _ hX]
    rw [e, Nat.add_mul, Nat.one_mul]
    exact ⟨e0, e0⟩
/-- the size of a prefix, and where it ends -/
theorem ct_end {p l : Nat} (hl : l ≤ 16) (hp : ct p l = p) (h : p < 65536) : p + 2 ^ (16 - l) ≤ 65536 := by
  unfold ct at hp
  have e : 65536 = 2 ^ (16 - l) * 2 ^ l := by
    rw [← Nat.pow_add]
    have : 16 - l + l = 16 := by omega
    rw [this]
  have hX : 0 < 2 ^ (16 - l) := Nat.two_pow_pos _
  rw [e] at h ⊢
  generalize 2 ^ (16 - l) = X at hp h hX ⊢
  generalize 2 ^ l = Y at h ⊢
  have h1 : p / X < Y := Nat.div_lt_of_lt_mul h
  rw [← hp]
  generalize p / X = c at h1 ⊢
  calc c * X + X = (c + 1) * X := by rw [Nat.succ_mul]
    _ ≤ Y * X := Nat.mul_le_mul_right X h1
    _ = X * Y := Nat.mul_comm _ _
theorem sz_pos (l : Nat) : 0 < 2 ^ (16 - l) := Nat.two_pow_pos _
theorem sz_le (l : Nat) : 2 ^ (16 - l) ≤ 65536 := by
  have h : 2 ^ (16 - l) ≤ 2 ^ 16 := Nat.pow_le_pow_right (by decide) (by omega)
  simpa using h
/-! one prefix in another: (p, l) in front of (q, k) -/
def pf (p l q k : Nat) : Prop := l ≤ k ∧ ct q l = p
theorem pf_trans {p l q k r j : Nat} (h1 : pf p l q k) (h2 : pf q k r j) : pf p l r j := by
  refine ⟨Nat.le_trans h1.1 h2.1, ?_⟩
  rw [← ct_ct r h1.1, h2.2]
  exact h1.2
/-- two fronts of one prefix: the shorter is in front of the longer -/
theorem pf_cmp {p l p' l' q k : Nat} (h1 : pf p l q k) (h2 : pf p' l' q k) (h : l ≤ l') : pf p l p' l' := by
  refine ⟨h, ?_⟩
  rw [← h2.2, ct_ct q h]
  exact h1.2
theorem pf_same {p l q k : Nat} (h1 : pf p l q k) (h : l = k) (hq : ct q k = q) : p = q := by
  subst h
  rw [← h1.2]
  exact hq
theorem pf_bt {p l q k i : Nat} (h : pf p l q k) (hi : i < l) (hl : l ≤ 16) : bt p i = bt q i := by
  rw [← h.2]
  exact bt_ct q hi hl
end
section
/-! the tree of prefixes, as the arrays hold it: us (used), bi (bits), le (length), pe (peer, none: a fork), ch (children: 2n, 2n+1), ro (root) -/
def ud (us : Nat → Bool) (n : Nat) : Prop := n < 64 ∧ us n = true
/-- a place that leads to a node: the root's (none), or a child's (some (2n + b)) -/
def sv (ro : Option Nat) (ch : Nat → Option Nat) : Option Nat → Option Nat
  | none => ro
  | some i => ch i
/-- which prefixes belong below a place -/
def rg (bi le : Nat → Nat) : Option Nat → Nat → Nat → Prop
  | none, _, _ => True
  | some i, p, l => le (i / 2) < l ∧ ct p (le (i / 2)) = bi (i / 2) ∧ bt p (le (i / 2)) = i % 2
def vs (us : Nat → Bool) : Option Nat → Prop
  | none => True
  | some i => ud us (i / 2)
/-- the tree is in order -/
def TW (us : Nat → Bool) (bi le : Nat → Nat) (ro : Option Nat) (ch : Nat → Option Nat) : Prop :=
  (∀ n, ud us n → le n ≤ 16 ∧ bi n < 65536 ∧ ct (bi n) (le n) = bi n) ∧
  (∀ n m, ud us n → ud us m → le n = le m → bi n = bi m → n = m) ∧
  (∀ x, vs us x → sv ro ch x = none → ∀ m, ud us m → ¬ rg bi le x (bi m) (le m)) ∧
  (∀ x c, vs us x → sv ro ch x = some c → ud us c ∧ rg bi le x (bi c) (le c) ∧ ∀ m, ud us m → rg bi le x (bi m) (le m) → pf (bi c) (le c) (bi m) (le m))
section TREE
variable {us us' : Nat → Bool} {bi le bi' le' : Nat → Nat} {ro ro' : Option Nat} {ch ch' : Nat → Option Nat}
theorem rg_up {x : Option Nat} {p l q k : Nat} (h : rg bi le x p l) (hp : pf p l q k) (hl : l ≤ 16) : rg bi le x q k := by
  cases x with
  | none => trivial
  | some i =>
    obtain ⟨h1, h2, h3⟩ := h
    refine ⟨Nat.lt_of_lt_of_le h1 hp.1, ?_, ?_⟩
    · rw [← ct_ct q (Nat.le_of_lt h1), hp.2]
      exact h2
    · rw [← pf_bt hp h1 hl]
      exact h3
theorem rg_own {i p l : Nat} (h : rg bi le (some i) p l) : pf (bi (i / 2)) (le (i / 2)) p l := ⟨Nat.le_of_lt h.1, h.2.1⟩
theorem rg_mid {i p l q k : Nat} (h : rg bi le (some i) p l) (hq : pf q k p l) (hk : le (i / 2) < k) (h16 : k ≤ 16) : rg bi le (some i) q k := by
  refine ⟨hk, ?_, ?_⟩
  · rw [← hq.2, ct_ct p (Nat.le_of_lt hk)]
    exact h.2.1
  · rw [pf_bt hq hk h16]
    exact h.2.2
/-- two places above one prefix: the one higher up leads to something in front of it -/
theorem tw_sep (hT : TW us bi le ro ch) {z y : Option Nat} (hz : vs us z) (hy : vs us y) (hne : z ≠ y) {p l : Nat} (hrz : rg bi le z p l) (hry : rg bi le y p l) (hc : ∀ c, sv ro ch y = some c → l ≤ le c) : ∃ d, sv ro ch z = some d ∧ pf (bi d) (le d) p l ∧ le d < l := by
  obtain ⟨t1, t2, t3, t4⟩ := hT
  cases z with
  | none =>
    cases y with
    | none => exact absurd rfl hne
    | some j =>
      cases hr : sv ro ch none with
      | none => exact absurd trivial (t3 none trivial hr _ hy)
      | some d =>
        have h1 := (t4 none d trivial hr).2.2 _ hy trivial
        exact ⟨d, rfl, pf_trans h1 (rg_own hry), Nat.lt_of_le_of_lt h1.1 hry.1⟩
  | some i =>
    cases y with
    | none =>
      cases hr : sv ro ch none with
      | none => exact absurd trivial (t3 none trivial hr _ hz)
      | some c =>
        have h1 := ((t4 none c trivial hr).2.2 _ hz trivial).1
        have h2 := hc c hr
        have h3 := hrz.1
        omega
    | some j =>
      rcases Nat.lt_trichotomy (le (i / 2)) (le (j / 2)) with h | h | h
      · have hr : rg bi le (some i) (bi (j / 2)) (le (j / 2)) := rg_mid hrz (rg_own hry) h (t1 _ hy).1
        cases hv : sv ro ch (some i) with
        | none => exact absurd hr (t3 _ hz hv _ hy)
        | some d =>
          have h1 := (t4 _ d hz hv).2.2 _ hy hr
          exact ⟨d, rfl, pf_trans h1 (rg_own hry), Nat.lt_of_le_of_lt h1.1 hry.1⟩
      · have e : i / 2 = j / 2 := t2 _ _ hz hy h (by rw [← hrz.2.1, ← hry.2.1, h])
        have e2 : i % 2 = j % 2 := by rw [← hrz.2.2, ← hry.2.2, e]
        exact absurd (congrArg some (by omega)) hne
      · have hr : rg bi le (some j) (bi (i / 2)) (le (i / 2)) := rg_mid hry (rg_own hrz) h (t1 _ hz).1
        cases hv : sv ro ch (some j) with
        | none => exact absurd hr (t3 _ hy hv _ hz)
        | some c =>
          have h1 := ((t4 _ c hy hv).2.2 _ hz hr).1
          have h2 := hc c hv
          have h3 := hrz.1
          omega
/-- one place alone leads to a node -/
theorem tw_one (hT : TW us bi le ro ch) {x y : Option Nat} (hx : vs us x) (hy : vs us y) {n : Nat} (h1 : sv ro ch x = some n) (h2 : sv ro ch y = some n) : x = y := by
  rcases Classical.em (x = y) with h | h
  · exact h
  · obtain ⟨d, e, -, hlt⟩ := tw_sep hT hx hy h (hT.2.2.2 x n hx h1).2.1 (hT.2.2.2 y n hy h2).2.1 (fun c hc => by
      have e2 : n = c := Option.some.inj (h2.symm.trans hc)
      rw [e2]; exact Nat.le_refl _)
    have e2 : n = d := Option.some.inj (h1.symm.trans e)
    rw [e2] at hlt
    exact absurd hlt (Nat.lt_irrefl _)
/-- strictly in front: it lies below one of the two children's places -/
theorem rg_kid {n q k : Nat} (hp : pf (bi n) (le n) q k) (h : le n < k) : rg bi le (some (2 * n + bt q (le n))) q k := by
  have h2 := bt_lt q (le n)
  have e1 : (2 * n + bt q (le n)) / 2 = n := by omega
  have e2 : (2 * n + bt q (le n)) % 2 = bt q (le n) := by omega
  refine ⟨?_, ?_, ?_⟩
  · rw [e1]; exact h
  · rw [e1]; exact hp.2
  · rw [e1, e2]
theorem vs_kid {n b : Nat} (hn : ud us n) (hb : b < 2) : vs us (some (2 * n + b)) := by
  show ud us ((2 * n + b) / 2)
  have e : (2 * n + b) / 2 = n := by omega
  rw [e]
  exact hn
theorem tw_strict (hT : TW us bi le ro ch) {n m : Nat} (hn : ud us n) (hm : ud us m) (h : pf (bi n) (le n) (bi m) (le m)) (hne : m ≠ n) : le n < le m := by
  rcases Nat.lt_or_ge (le n) (le m) with q | q
  · exact q
  · have e : le n = le m := Nat.le_antisymm h.1 q
    exact absurd (hT.2.1 n m hn hm e (pf_same h e (hT.1 m hm).2.2)).symm hne
/-- a node with one child at most is taken out: what led to it leads to that child -/
theorem tw_rm (hT : TW us bi le ro ch) {n : Nat} (hn : ud us n) {x : Option Nat} (hx : vs us x) (hv : sv ro ch x = some n) {r : Option Nat} (hr : (ch (2 * n) = none ∧ ch (2 * n + 1) = r) ∨ (ch (2 * n + 1) = none ∧ ch (2 * n) = r))
    (hus : ∀ m, ud us' m ↔ ud us m ∧ m ≠ n) (h1 : sv ro' ch' x = r) (h2 : ∀ y, vs us' y → y ≠ x → sv ro' ch' y = sv ro ch y) : TW us' bi le ro' ch' := by
  have hT0 := hT
  obtain ⟨t1, t2, t3, t4⟩ := hT
  have hvs : ∀ y, vs us' y → vs us y := fun y h => by
    cases y with
    | none => trivial
    | some i => exact ((hus _).mp h).1
  obtain ⟨-, hrn, hmin⟩ := t4 x n hx hv
  have kid : ∀ m, ud us' m → rg bi le x (bi m) (le m) → ∃ c, r = some c ∧ rg bi le (some (2 * n + bt (bi m) (le n))) (bi c) (le c) ∧ ud us c ∧ pf (bi c) (le c) (bi m) (le m) := by
    intro m hm hrm
    obtain ⟨hm1, hm2⟩ := (hus m).mp hm
    have hp := hmin m hm1 hrm
    have hk := rg_kid hp (tw_strict hT0 hn hm1 hp hm2)
    have hb := bt_lt (bi m) (le n)
    have hvk : vs us (some (2 * n + bt (bi m) (le n))) := vs_kid hn hb
    cases hc : ch (2 * n + bt (bi m) (le n)) with
    | none => exact absurd hk (t3 _ hvk hc m hm1)
    | some c =>
      obtain ⟨c1, c2, c3⟩ := t4 _ c hvk hc
      refine ⟨c, ?_, c2, c1, c3 m hm1 hk⟩
      rcases hr with ⟨e1, e2⟩ | ⟨e1, e2⟩
      · rcases (show bt (bi m) (le n) = 0 ∨ bt (bi m) (le n) = 1 by omega) with e | e
        · rw [e, Nat.add_zero, e1] at hc; cases hc
        · rw [e] at hc; rw [← e2]; exact hc
      · rcases (show bt (bi m) (le n) = 0 ∨ bt (bi m) (le n) = 1 by omega) with e | e
        · rw [e, Nat.add_zero] at hc; rw [← e2]; exact hc
        · rw [e, e1] at hc; cases hc
  refine ⟨fun m hm => t1 m ((hus m).mp hm).1, fun a b ha hb => t2 a b ((hus a).mp ha).1 ((hus b).mp hb).1, ?_, ?_⟩
  · intro y hy hy0 m hm hrm
    rcases Classical.em (y = x) with e | e
    · subst e
      obtain ⟨c, hc, -⟩ := kid m hm hrm
      rw [h1, hc] at hy0
      cases hy0
    · rw [h2 y hy e] at hy0
      exact t3 y (hvs y hy) hy0 m ((hus m).mp hm).1 hrm
  · intro y c hy hyc
    rcases Classical.em (y = x) with e | e
    · subst e
      rw [h1] at hyc
      have hk : ∃ b, b < 2 ∧ ch (2 * n + b) = some c := by
        rcases hr with ⟨-, e2⟩ | ⟨-, e2⟩
        · exact ⟨1, by decide, e2.trans hyc⟩
        · exact ⟨0, by decide, e2.trans hyc⟩
      obtain ⟨b, hb, hcb⟩ := hk
      obtain ⟨c1, c2, c3⟩ := t4 (some (2 * n + b)) c (vs_kid hn hb) hcb
      have en : (2 * n + b) / 2 = n := by omega
      have hown := rg_own c2
      have hlt := c2.1
      rw [en] at hown hlt
      have hcn : c ≠ n := fun e => by rw [e] at hlt; exact Nat.lt_irrefl _ hlt
      refine ⟨(hus c).mpr ⟨c1, hcn⟩, rg_up hrn hown (t1 n hn).1, ?_⟩
      intro m hm hrm
      obtain ⟨d, hd, -, -, hpd⟩ := kid m hm hrm
      have e : c = d := Option.some.inj (hyc.symm.trans hd)
      rw [e]
      exact hpd
    · rw [h2 y hy e] at hyc
      obtain ⟨c1, c2, c3⟩ := t4 y c (hvs y hy) hyc
      have hcn : c ≠ n := fun e2 => e (tw_one hT0 (hvs y hy) hx (by rw [← e2]; exact hyc) hv)
      exact ⟨(hus c).mpr ⟨c1, hcn⟩, c2, fun m hm => c3 m ((hus m).mp hm).1⟩
/-- a new node comes in between a place and what it led to -/
theorem tw_add (hT : TW us bi le ro ch) {x : Nat} (hxu : ¬ ud us x) {y : Option Nat} (hy : vs us y) {p l : Nat} (hl : l ≤ 16) (hp : p < 65536) (hpl : ct p l = p) (hry : rg bi le y p l) (hc : ∀ c, sv ro ch y = some c → l < le c ∧ ct (bi c) l = p)
    (hus : ∀ m, ud us' m ↔ ud us m ∨ m = x) (hbi : ∀ m, m ≠ x → bi' m = bi m) (hle : ∀ m, m ≠ x → le' m = le m) (hbx : bi' x = p) (hlx : le' x = l) (h1 : sv ro' ch' y = some x) (h2 : ∀ z, vs us z → z ≠ y → sv ro' ch' z = sv ro ch z)
    (h3 : ∀ b, b < 2 → (∀ c, sv ro ch y = some c → b = bt (bi c) l → ch' (2 * x + b) = some c) ∧ ((∀ c, sv ro ch y = some c → b ≠ bt (bi c) l) → ch' (2 * x + b) = none)) : TW us' bi' le' ro' ch' := by
  have hT0 := hT
  obtain ⟨t1, t2, t3, t4⟩ := hT
  have old : ∀ m, ud us m → m ≠ x := fun m hm e => hxu (by rw [← e]; exact hm)
  have rgo : ∀ z, vs us z → ∀ a k, rg bi' le' z a k ↔ rg bi le z a k := by
    intro z hz a k
    cases z with
    | none => exact Iff.rfl
    | some i =>
      have hi := old _ hz
      show (le' (i / 2) < k ∧ ct a (le' (i / 2)) = bi' (i / 2) ∧ bt a (le' (i / 2)) = i % 2) ↔ _
      rw [hbi _ hi, hle _ hi]
      exact Iff.rfl
  have same : ∀ m, ud us m → bi' m = bi m ∧ le' m = le m := fun m hm => ⟨hbi m (old m hm), hle m (old m hm)⟩
  -- no old node has the new prefix
  have fresh : ∀ m, ud us m → le m = l → bi m = p → False := by
    intro m hm e1 e2
    cases hs : sv ro ch y with
    | none => exact t3 y hy hs m hm (by rw [e1, e2]; exact hry)
    | some c =>
      have h := ((t4 y c hy hs).2.2 m hm (by rw [e1, e2]; exact hry)).1
      have h' := (hc c hs).1
      omega
  -- an old node behind the new prefix lies behind what the place led to
  have behind : ∀ m, ud us m → pf p l (bi m) (le m) → ∃ c, sv ro ch y = some c ∧ ud us c ∧ pf (bi c) (le c) (bi m) (le m) ∧ l < le c ∧ ct (bi c) l = p := by
    intro m hm hpm
    have hrm := rg_up hry hpm hl
    cases hs : sv ro ch y with
    | none => exact absurd hrm (t3 y hy hs m hm)
    | some c => exact ⟨c, rfl, (t4 y c hy hs).1, (t4 y c hy hs).2.2 m hm hrm, hc c hs⟩
  refine ⟨?_, ?_, ?_, ?_⟩
  · intro n hn
    rcases (hus n).mp hn with h | h
    · rw [(same n h).1, (same n h).2]; exact t1 n h
    · rw [h, hbx, hlx]; exact ⟨hl, hp, hpl⟩
  · intro n m hn hm e1 e2
    rcases (hus n).mp hn with h | h <;> rcases (hus m).mp hm with g | g
    · rw [(same n h).1, (same m g).1] at e2
      rw [(same n h).2, (same m g).2] at e1
      exact t2 n m h g e1 e2
    · rw [g, hlx, (same n h).2] at e1
      rw [g, hbx, (same n h).1] at e2
      exact (fresh n h e1 e2).elim
    · rw [h, hlx, (same m g).2] at e1
      rw [h, hbx, (same m g).1] at e2
      exact (fresh m g e1.symm e2.symm).elim
    · rw [h, g]
  · intro z hz hz0 m hm
    rcases Classical.em (vs us z) with ho | ho
    · rw [rgo z ho]
      rcases Classical.em (z = y) with e | e
      · rw [e, h1] at hz0; cases hz0
      · rw [h2 z ho e] at hz0
        rcases (hus m).mp hm with h | h
        · rw [(same m h).1, (same m h).2]
          exact t3 z ho hz0 m h
        · rw [h, hbx, hlx]
          intro hr
          obtain ⟨d, hd, -⟩ := tw_sep hT0 ho hy e hr hry (fun c hs => Nat.le_of_lt (hc c hs).1)
          rw [hz0] at hd
          cases hd
    · cases z with
      | none => exact absurd trivial ho
      | some i =>
        have hi : i / 2 = x := by
          rcases (hus _).mp hz with h | h
          · exact absurd h ho
          · exact h
        have ei : i = 2 * x + i % 2 := by omega
        have hb : i % 2 < 2 := Nat.mod_lt _ (by decide)
        intro hr
        obtain ⟨r1, r2, r3⟩ := hr
        rw [hi, hlx] at r1 r2 r3
        rw [hbx] at r2
        have hmx : m ≠ x := fun e => by rw [e, hlx] at r1; exact Nat.lt_irrefl _ r1
        have hmo : ud us m := by
          rcases (hus m).mp hm with h | h
          · exact h
          · exact absurd h hmx
        rw [(same m hmo).1] at r2 r3
        rw [(same m hmo).2] at r1
        obtain ⟨c, c1, c2, c3, c4, c5⟩ := behind m hmo ⟨Nat.le_of_lt r1, r2⟩
        have e : i % 2 = bt (bi c) l := by rw [← r3, pf_bt c3 c4 (t1 c c2).1]
        have hx := (h3 (i % 2) hb).1 c c1 e
        rw [← ei] at hx
        rw [show sv ro' ch' (some i) = ch' i from rfl, hx] at hz0
        cases hz0
  · intro z c hz hzc
    rcases Classical.em (vs us z) with ho | ho
    · rcases Classical.em (z = y) with e | e
      · rw [e, h1] at hzc
        have ex : x = c := Option.some.inj hzc
        subst ex
        refine ⟨(hus x).mpr (Or.inr rfl), ?_, ?_⟩
        · rw [rgo z ho, hbx, hlx, e]; exact hry
        · intro m hm hr
          rw [rgo z ho] at hr
          rw [hbx, hlx]
          rcases (hus m).mp hm with h | h
          · rw [(same m h).1, (same m h).2] at hr ⊢
            rw [e] at hr
            cases hs : sv ro ch y with
            | none => exact absurd hr (t3 y hy hs m h)
            | some d => exact pf_trans ⟨Nat.le_of_lt (hc d hs).1, (hc d hs).2⟩ ((t4 y d hy hs).2.2 m h hr)
          · rw [h, hbx, hlx]; exact ⟨Nat.le_refl _, hpl⟩
      · rw [h2 z ho e] at hzc
        obtain ⟨c1, c2, c3⟩ := t4 z c ho hzc
        refine ⟨(hus c).mpr (Or.inl c1), ?_, ?_⟩
        · rw [rgo z ho, (same c c1).1, (same c c1).2]; exact c2
        · intro m hm hr
          rw [rgo z ho] at hr
          rw [(same c c1).1, (same c c1).2]
          rcases (hus m).mp hm with h | h
          · rw [(same m h).1, (same m h).2] at hr ⊢
            exact c3 m h hr
          · rw [h, hbx, hlx] at hr ⊢
            obtain ⟨d, hd, hpd, -⟩ := tw_sep hT0 ho hy e hr hry (fun c hs => Nat.le_of_lt (hc c hs).1)
            have ed : c = d := Option.some.inj (hzc.symm.trans hd)
            rw [ed]
            exact hpd
    · cases z with
      | none => exact absurd trivial ho
      | some i =>
        have hi : i / 2 = x := by
          rcases (hus _).mp hz with h | h
          · exact absurd h ho
          · exact h
        have ei : i = 2 * x + i % 2 := by omega
        have hb : i % 2 < 2 := Nat.mod_lt _ (by decide)
        have hzc2 : ch' (2 * x + i % 2) = some c := by rw [← ei]; exact hzc
        have hex : ∃ d, sv ro ch y = some d ∧ i % 2 = bt (bi d) l := by
          rcases Classical.em (∃ d, sv ro ch y = some d ∧ i % 2 = bt (bi d) l) with q | q
          · exact q
          · have := (h3 (i % 2) hb).2 (fun d h e => q ⟨d, h, e⟩)
            rw [this] at hzc2
            cases hzc2
        obtain ⟨d, d1, d2⟩ := hex
        have hdc := (h3 (i % 2) hb).1 d d1 d2
        have ed : c = d := Option.some.inj (hzc2.symm.trans hdc)
        subst ed
        obtain ⟨c1, c2, c3⟩ := t4 y c hy d1
        refine ⟨(hus c).mpr (Or.inl c1), ?_, ?_⟩
        · show le' (i / 2) < le' c ∧ ct (bi' c) (le' (i / 2)) = bi' (i / 2) ∧ bt (bi' c) (le' (i / 2)) = i % 2
          rw [hi, hlx, hbx, (same c c1).1, (same c c1).2]
          exact ⟨(hc c d1).1, (hc c d1).2, d2.symm⟩
        · intro m hm hr
          obtain ⟨r1, r2, r3⟩ := hr
          rw [hi, hlx] at r1 r2
          rw [hbx] at r2
          have hmx : m ≠ x := fun e => by rw [e, hlx] at r1; exact Nat.lt_irrefl _ r1
          have hmo : ud us m := by
            rcases (hus m).mp hm with h | h
            · exact h
            · exact absurd h hmx
          rw [(same m hmo).1] at r2
          rw [(same m hmo).2] at r1
          rw [(same m hmo).1, (same m hmo).2, (same c c1).1, (same c c1).2]
          obtain ⟨e, e1, -, e3, -⟩ := behind m hmo ⟨Nat.le_of_lt r1, r2⟩
          have ee : c = e := Option.some.inj (d1.symm.trans e1)
          rw [ee]
          exact e3
end TREE
end
section
/-! the free nodes' list, linked over the first child; how many nodes there can be -/
def chn (ch : Nat → Option Nat) : Option Nat → List Nat → Prop
  | x, [] => x = none
  | x, n :: t => x = some n ∧ chn ch (ch (2 * n)) t
theorem chn_cong {ch ch' : Nat → Option Nat} : ∀ {t : List Nat} {x : Option Nat}, (∀ n ∈ t, ch' (2 * n) = ch (2 * n)) → chn ch x t → chn ch' x t
  | [], _, _, h => h
  | n :: t, x, hc, h => by
    refine ⟨h.1, ?_⟩
    rw [hc n List.mem_cons_self]
    exact chn_cong (fun m hm => hc m (List.mem_cons_of_mem _ hm)) h.2
def FL (us : Nat → Bool) (fr : Option Nat) (ch : Nat → Option Nat) : Prop := ∃ fl : List Nat, fl.Nodup ∧ (∀ n, n ∈ fl ↔ n < 64 ∧ us n = false) ∧ chn ch fr fl
/-- a node is there as long as not all are used -/
theorem fl_some {us : Nat → Bool} {fr : Option Nat} {ch : Nat → Option Nat} (h : FL us fr ch) (hc : fb_ct us 64 < 64) : ∃ x, fr = some x ∧ x < 64 ∧ us x = false := by
  obtain ⟨fl, -, hm, hch⟩ := h
  cases fl with
  | nil =>
    exfalso
    have : fb_ct us 64 = 64 := fb_ct_all.mpr (fun k hk => by
      cases hu : us k with
      | true => rfl
      | false => exact absurd ((hm k).mpr ⟨hk, hu⟩) List.not_mem_nil)
    omega
  | cons x t => exact ⟨x, hch.1, (hm x).mp List.mem_cons_self⟩
/-- a node is taken from the list -/
theorem fl_pop {us us' : Nat → Bool} {x : Nat} {ch ch' : Nat → Option Nat} (h : FL us (some x) ch) (hu : ∀ n, n < 64 → us' n = if n = x then true else us n) (hc : ∀ n, n < 64 → n ≠ x → us n = false → ch' (2 * n) = ch (2 * n)) : FL us' (ch (2 * x)) ch' := by
  obtain ⟨fl, hn, hm, hch⟩ := h
  cases fl with
  | nil => cases hch
  | cons y t =>
    obtain ⟨e, hch⟩ := hch
    have e : x = y := Option.some.inj e
    subst e
    rw [List.nodup_cons] at hn
    refine ⟨t, hn.2, ?_, chn_cong ?_ hch⟩
    · intro n
      constructor
      · intro h
        have h1 := (hm n).mp (List.mem_cons_of_mem _ h)
        refine ⟨h1.1, ?_⟩
        rw [hu n h1.1, if_neg (fun e => hn.1 (by rw [← e]; exact h))]
        exact h1.2
      · rintro ⟨h1, h2⟩
        rw [hu n h1] at h2
        rcases Classical.em (n = x) with e | e
        · rw [if_pos e] at h2; cases h2
        · rw [if_neg e] at h2
          rcases List.mem_cons.mp ((hm n).mpr ⟨h1, h2⟩) with q | q
          · exact absurd q e
          · exact q
    · intro n h
      have h1 := (hm n).mp (List.mem_cons_of_mem _ h)
      exact hc n h1.1 (fun e => hn.1 (by rw [← e]; exact h)) h1.2
/-- a node goes back to the list -/
theorem fl_push {us us' : Nat → Bool} {fr : Option Nat} {n : Nat} {ch ch' : Nat → Option Nat} (h : FL us fr ch) (hn : ud us n) (hu : ∀ m, m < 64 → us' m = if m = n then false else us m) (hc0 : ch' (2 * n) = fr) (hc : ∀ m, m < 64 → us m = false → ch' (2 * m) = ch (2 * m)) : FL us' (some n) ch' := by
  obtain ⟨fl, hnd, hm, hch⟩ := h
  have hni : n ∉ fl := fun h => by
    have := ((hm n).mp h).2
    rw [hn.2] at this
    cases this
  refine ⟨n :: fl, List.nodup_cons.mpr ⟨hni, hnd⟩, ?_, rfl, ?_⟩
  · intro m
    constructor
    · intro h
      rcases List.mem_cons.mp h with e | e
      · rw [e]
        exact ⟨hn.1, by rw [hu n hn.1, if_pos rfl]⟩
      · have h1 := (hm m).mp e
        refine ⟨h1.1, ?_⟩
        rw [hu m h1.1, if_neg (fun q => hni (by rw [← q]; exact e))]
        exact h1.2
    · rintro ⟨h1, h2⟩
      rcases Classical.em (m = n) with e | e
      · rw [e]; exact List.mem_cons_self
      · rw [hu m h1, if_neg e] at h2
        exact List.mem_cons_of_mem _ ((hm m).mpr ⟨h1, h2⟩)
  · rw [hc0]
    exact chn_cong (fun m h => hc m ((hm m).mp h).1 ((hm m).mp h).2) hch
/-! how many nodes: the forks are fewer than the held ones -/
section CNT
variable {us : Nat → Bool} {bi le : Nat → Nat} {ro : Option Nat} {ch : Nat → Option Nat}
def cS (us : Nat → Bool) (bi le : Nat → Nat) (P : Nat → Bool) (p l : Nat) : Nat := fb_ct (fun n => us n && P n && decide (l ≤ le n ∧ ct (bi n) l = p)) 64
def cE (us : Nat → Bool) (bi le : Nat → Nat) (P : Nat → Bool) (p l : Nat) : Nat := fb_ct (fun n => us n && P n && decide (le n = l ∧ bi n = p)) 64
def cR (us : Nat → Bool) (bi le : Nat → Nat) (P : Nat → Bool) (p l b : Nat) : Nat := fb_ct (fun n => us n && P n && decide (l < le n ∧ ct (bi n) l = p ∧ bt (bi n) l = b)) 64
theorem cnt_one (e : Nat) : ∀ n, fb_ct (fun k => decide (k = e)) n ≤ 1 ∧ (n ≤ e → fb_ct (fun k => decide (k = e)) n = 0)
  | 0 => ⟨by simp [fb_ct], fun _ => by simp [fb_ct]⟩
  | n + 1 => by
    obtain ⟨h1, h2⟩ := cnt_one e n
    rw [fb_ct_succ]
    by_cases h : n = e
    · have := h2 (by omega)
      subst h
      simp only [decide_true, if_true]
      omega
    · simp only [h, decide_false]
      refine ⟨by simpa using h1, fun q => ?_⟩
      have := h2 (by omega)
      simpa using this
theorem cS_split (hT : TW us bi le ro ch) (P : Nat → Bool) (p l : Nat) : cS us bi le P p l = cE us bi le P p l + (cR us bi le P p l 0 + cR us bi le P p l 1) := by
  unfold cS cE cR
  rw [← fb_ct_or, ← fb_ct_or]
  · refine fb_ct_cong (fun n hn => ?_)
    cases hu : us n with
    | false => simp
    | true =>
      cases hP : P n with
      | false => simp
      | true =>
        have ht := hT.1 n ⟨hn, hu⟩
        have hb := bt_lt (bi n) l
        simp only [Bool.true_and]
        rw [Bool.eq_iff_iff]
        simp only [Bool.or_eq_true, decide_eq_true_eq]
        constructor
        · rintro ⟨h1, h2⟩
          rcases Nat.lt_or_ge l (le n) with q | q
          · rcases (show bt (bi n) l = 0 ∨ bt (bi n) l = 1 by omega) with e | e
            · exact Or.inr (Or.inl ⟨q, h2, e⟩)
            · exact Or.inr (Or.inr ⟨q, h2, e⟩)
          · have e : le n = l := by omega
            refine Or.inl ⟨e, ?_⟩
            rw [← ht.2.2, e]
            exact h2
        · rintro (⟨h1, h2⟩ | ⟨h1, h2, -⟩ | ⟨h1, h2, -⟩)
          · refine ⟨by omega, ?_⟩
            rw [← h2, ← h1]
            exact ht.2.2
          · exact ⟨by omega, h2⟩
          · exact ⟨by omega, h2⟩
  · intro k _ h
    simp only [Bool.and_eq_true, Bool.or_eq_true, decide_eq_true_eq] at h
    omega
  · intro k _ h
    simp only [Bool.and_eq_true, decide_eq_true_eq] at h
    omega
theorem cnt_main (hT : TW us bi le ro ch) {pe : Nat → Option Nat} (hf : ∀ n, ud us n → pe n = none → ch (2 * n) ≠ none ∧ ch (2 * n + 1) ≠ none) : ∀ (j p l : Nat), l + j = 16 → (∃ n, ud us n ∧ pf p l (bi n) (le n)) → cS us bi le (fun n => (pe n).isNone) p l + 1 ≤ cS us bi le (fun n => (pe n).isSome) p l := by
  intro j
  induction j with
  | zero =>
    intro p l hj hex
    have hl : l = 16 := by omega
    obtain ⟨n, hn, hp⟩ := hex
    have hno : ∀ m, ud us m → pf p l (bi m) (le m) → pe m ≠ none := by
      intro m hm hpm hnone
      have hk := (hf m hm hnone).1
      cases hc : ch (2 * m) with
      | none => exact hk hc
      | some c =>
        have h := hT.2.2.2 (some (2 * m + 0)) c (vs_kid hm (by decide)) hc
        have h1 := h.2.1.1
        rw [show (2 * m + 0) / 2 = m by omega] at h1
        have h2 := (hT.1 c h.1).1
        have h3 := hpm.1
        omega
    have e0 : cS us bi le (fun n => (pe n).isNone) p l = 0 := by
      refine fb_ct_zero.mpr (fun k hk => ?_)
      rcases Classical.em ((us k && (pe k).isNone && decide (l ≤ le k ∧ ct (bi k) l = p)) = true) with q | q
      · simp only [Bool.and_eq_true, decide_eq_true_eq, Option.isNone_iff_eq_none] at q
        exact absurd q.1.2 (hno k ⟨hk, q.1.1⟩ q.2)
      · simpa using q
    have e1 : 0 < cS us bi le (fun n => (pe n).isSome) p l := by
      refine fb_ct_pos.mpr ⟨n, hn.1, ?_⟩
      have := hno n hn hp
      simp only [Bool.and_eq_true, decide_eq_true_eq]
      refine ⟨⟨hn.2, ?_⟩, hp⟩
      cases h : pe n with
      | none => exact absurd h this
      | some q => rfl
    omega
  | succ j ih =>
    intro p l hj hex
    have hl : l < 16 := by omega
    have sub : ∀ b, (cR us bi le (fun n => (pe n).isNone) p l b ≤ cR us bi le (fun n => (pe n).isSome) p l b) ∧ ((∃ n, ud us n ∧ l < le n ∧ ct (bi n) l = p ∧ bt (bi n) l = b) → cR us bi le (fun n => (pe n).isNone) p l b + 1 ≤ cR us bi le (fun n => (pe n).isSome) p l b) := by
      intro b
      have hne : (∃ n, ud us n ∧ l < le n ∧ ct (bi n) l = p ∧ bt (bi n) l = b) → cR us bi le (fun n => (pe n).isNone) p l b + 1 ≤ cR us bi le (fun n => (pe n).isSome) p l b := by
        rintro ⟨n, hn, h1, h2, h3⟩
        have key : ∀ P : Nat → Bool, cR us bi le P p l b = cS us bi le P (ct (bi n) (l + 1)) (l + 1) := by
          intro P
          refine fb_ct_cong (fun k _ => ?_)
          congr 1
          rw [Bool.eq_iff_iff]
          simp only [decide_eq_true_eq]
          rw [ct_ext hl, h2, h3]
          constructor
          · rintro ⟨a, b, c⟩; exact ⟨a, b, c⟩
          · rintro ⟨a, b, c⟩; exact ⟨a, b, c⟩
        rw [key, key]
        exact ih _ (l + 1) (by omega) ⟨n, hn, h1, rfl⟩
      refine ⟨?_, hne⟩
      rcases Classical.em (∃ n, ud us n ∧ l < le n ∧ ct (bi n) l = p ∧ bt (bi n) l = b) with q | q
      · have := hne q; omega
      · have e0 : cR us bi le (fun n => (pe n).isNone) p l b = 0 := by
          refine fb_ct_zero.mpr (fun k hk => ?_)
          rcases Classical.em ((us k && (pe k).isNone && decide (l < le k ∧ ct (bi k) l = p ∧ bt (bi k) l = b)) = true) with q2 | q2
          · simp only [Bool.and_eq_true, decide_eq_true_eq] at q2
            exact absurd ⟨k, ⟨hk, q2.1.1⟩, q2.2⟩ q
          · simpa using q2
        omega
    rw [cS_split hT, cS_split hT]
    have s0 := sub 0
    have s1 := sub 1
    rcases Classical.em (∃ e, ud us e ∧ le e = l ∧ bi e = p) with ⟨e, he, e1, e2⟩ | hno
    · have uniq : ∀ k, ud us k → le k = l → bi k = p → k = e := fun k hk h1 h2 => hT.2.1 k e hk he (by rw [h1, e1]) (by rw [h2, e2])
      cases hpe : pe e with
      | none =>
        have hle1 : cE us bi le (fun n => (pe n).isNone) p l ≤ 1 := by
          refine Nat.le_trans (fb_ct_sub (q := fun k => decide (k = e)) (fun k hk h => ?_)) (cnt_one e 64).1
          simp only [Bool.and_eq_true, decide_eq_true_eq] at h ⊢
          exact uniq k ⟨hk, h.1.1⟩ h.2.1 h.2.2
        obtain ⟨k0, k1⟩ := hf e he hpe
        have kid : ∀ b, b < 2 → ch (2 * e + b) ≠ none → ∃ n, ud us n ∧ l < le n ∧ ct (bi n) l = p ∧ bt (bi n) l = b := by
          intro b hb hk
          cases hc : ch (2 * e + b) with
          | none => exact absurd hc hk
          | some c =>
            have h := hT.2.2.2 (some (2 * e + b)) c (vs_kid he hb) hc
            obtain ⟨h1, h2, h3⟩ := h.2.1
            rw [show (2 * e + b) / 2 = e by omega, e1] at h1 h2 h3
            rw [e2] at h2
            rw [show (2 * e + b) % 2 = b by omega] at h3
            exact ⟨c, h.1, h1, h2, h3⟩
        have := s0.2 (kid 0 (by decide) k0)
        have := s1.2 (kid 1 (by decide) k1)
        omega
      | some q =>
        have h0 : cE us bi le (fun n => (pe n).isNone) p l = 0 := by
          refine fb_ct_zero.mpr (fun k hk => ?_)
          rcases Classical.em ((us k && (pe k).isNone && decide (le k = l ∧ bi k = p)) = true) with q2 | q2
          · simp only [Bool.and_eq_true, decide_eq_true_eq, Option.isNone_iff_eq_none] at q2
            have := uniq k ⟨hk, q2.1.1⟩ q2.2.1 q2.2.2
            rw [this, hpe] at q2
            cases q2.1.2
          · simpa using q2
        have h1 : 0 < cE us bi le (fun n => (pe n).isSome) p l := by
          refine fb_ct_pos.mpr ⟨e, he.1, ?_⟩
          simp only [Bool.and_eq_true, decide_eq_true_eq]
          exact ⟨⟨he.2, by rw [hpe]; rfl⟩, e1, e2⟩
        omega
    · have h0 : cE us bi le (fun n => (pe n).isNone) p l = 0 := by
        refine fb_ct_zero.mpr (fun k hk => ?_)
        rcases Classical.em ((us k && (pe k).isNone && decide (le k = l ∧ bi k = p)) = true) with q2 | q2
        · simp only [Bool.and_eq_true, decide_eq_true_eq] at q2
          exact absurd ⟨k, ⟨hk, q2.1.1⟩, q2.2⟩ hno
        · simpa using q2
      obtain ⟨n, hn, hp1, hp2⟩ := hex
      have hlt : l < le n := by
        rcases Nat.lt_or_ge l (le n) with q | q
        · exact q
        · exact absurd ⟨n, hn, by omega, by rw [← (hT.1 n hn).2.2, show le n = l by omega]; exact hp2⟩ hno
      have hb := bt_lt (bi n) l
      rcases (show bt (bi n) l = 0 ∨ bt (bi n) l = 1 by omega) with e | e
      · have := s0.2 ⟨n, hn, hlt, hp2, e⟩
        omega
      · have := s1.2 ⟨n, hn, hlt, hp2, e⟩
        omega
/-- used nodes: fewer than two for each held one -/
theorem cnt_used (hT : TW us bi le ro ch) {pe : Nat → Option Nat} (hf : ∀ n, ud us n → pe n = none → ch (2 * n) ≠ none ∧ ch (2 * n + 1) ≠ none) : fb_ct us 64 ≤ 2 * fb_ct (fun n => us n && (pe n).isSome) 64 := by
  have hall : ∀ P : Nat → Bool, cS us bi le P 0 0 = fb_ct (fun n => us n && P n) 64 := by
    intro P
    refine fb_ct_cong (fun k hk => ?_)
    cases hu : us k with
    | false => simp
    | true =>
      have := ct_0 (hT.1 k ⟨hk, hu⟩).2.1
      simp [this]
  have e : fb_ct us 64 = fb_ct (fun n => us n && (pe n).isNone) 64 + fb_ct (fun n => us n && (pe n).isSome) 64 := by
    rw [← fb_ct_or]
    · refine fb_ct_cong (fun k _ => ?_)
      cases us k <;> cases pe k <;> rfl
    · intro k _ h
      cases hp : pe k <;> simp [hp] at h
  rcases Classical.em (∃ n, ud us n) with ⟨n, hn⟩ | hno
  · have h := cnt_main hT hf 16 0 0 rfl ⟨n, hn, Nat.zero_le _, ct_0 (hT.1 n hn).2.1⟩
    rw [hall, hall] at h
    omega
  · have : fb_ct us 64 = 0 := fb_ct_zero.mpr (fun k hk => by
      cases hu : us k with
      | false => rfl
      | true => exact absurd ⟨k, hk, hu⟩ hno)
    omega
end CNT
end
section
/-! what the tree holds: D p l is the peer of the prefix (p, l); the longest prefix around an address -/
def CT (us : Nat → Bool) (bi le : Nat → Nat) (pe : Nat → Option Nat) (D : Nat → Nat → Option Nat) : Prop := ∀ pp l r, D pp l = some r ↔ ∃ n, ud us n ∧ bi n = pp ∧ le n = l ∧ pe n = some r
def look (D : Nat → Nat → Option Nat) (a : Nat) : Nat → Option Nat
  | 0 => none
  | l + 1 => if (D (ct a l) l).isSome then some l else look D a l
def ownD (D : Nat → Nat → Option Nat) (a : Nat) : Option Nat := (look D a 17).bind (fun l => D (ct a l) l)
section CONT
variable {us : Nat → Bool} {bi le : Nat → Nat} {ro : Option Nat} {ch pe : Nat → Option Nat} {D : Nat → Nat → Option Nat}
theorem ct_node (hT : TW us bi le ro ch) (hC : CT us bi le pe D) {n : Nat} (hn : ud us n) : D (bi n) (le n) = pe n := by
  cases hp : pe n with
  | some r => exact (hC _ _ r).mpr ⟨n, hn, rfl, rfl, hp⟩
  | none =>
    cases hd : D (bi n) (le n) with
    | none => rfl
    | some r =>
      obtain ⟨m, hm, e1, e2, e3⟩ := (hC _ _ r).mp hd
      have e := hT.2.1 m n hm hn e2 e1
      rw [e, hp] at e3
      cases e3
theorem look_range {a lo : Nat} : ∀ {hi : Nat}, lo ≤ hi → (∀ l, lo ≤ l → l < hi → D (ct a l) l = none) → look D a hi = look D a lo
  | 0, h, _ => by rw [show lo = 0 by omega]
  | hi + 1, h, hn => by
    rcases Nat.lt_or_ge lo (hi + 1) with q | q
    · rw [look, hn hi (by omega) (by omega)]
      simp only [Option.isSome_none, Bool.false_eq_true, if_false]
      exact look_range (by omega) (fun l h1 h2 => hn l h1 (by omega))
    · rw [show lo = hi + 1 by omega]
theorem look_some {a l : Nat} : ∀ {k : Nat}, look D a k = some l → l < k ∧ (D (ct a l) l).isSome = true ∧ ∀ j, l < j → j < k → D (ct a j) j = none
  | 0, h => by cases h
  | k + 1, h => by
    rw [look] at h
    by_cases hd : (D (ct a k) k).isSome = true
    · rw [if_pos hd] at h
      cases h
      exact ⟨Nat.lt_succ_self _, hd, fun j h1 h2 => absurd h1 (by omega)⟩
    · rw [if_neg hd] at h
      obtain ⟨h1, h2, h3⟩ := look_some h
      refine ⟨by omega, h2, fun j g1 g2 => ?_⟩
      rcases Nat.lt_or_ge j k with q | q
      · exact h3 j g1 q
      · rw [show j = k by omega]
        simpa using hd
theorem look_none {a : Nat} : ∀ {k : Nat}, look D a k = none → ∀ j, j < k → D (ct a j) j = none
  | 0, _, j, hj => absurd hj (Nat.not_lt_zero j)
  | k + 1, h, j, hj => by
    rw [look] at h
    by_cases hd : (D (ct a k) k).isSome = true
    · rw [if_pos hd] at h
      cases h
    · rw [if_neg hd] at h
      rcases Nat.lt_or_ge j k with q | q
      · exact look_none h j q
      · rw [show j = k by omega]
        simpa using hd
/-- the longest one, told by what it is -/
theorem look_is {a l k : Nat} (h1 : l < k) (h2 : (D (ct a l) l).isSome = true) (h3 : ∀ j, l < j → j < k → D (ct a j) j = none) : look D a k = some l := by
  rw [look_range (lo := l + 1) (by omega) (fun j g1 g2 => h3 j (by omega) g2), look, if_pos h2]
theorem look_is0 {a k : Nat} (h3 : ∀ j, j < k → D (ct a j) j = none) : look D a k = none := by
  rw [look_range (lo := 0) (Nat.zero_le _) (fun j _ g2 => h3 j g2)]
  rfl
theorem look_cong {a b : Nat} (k : Nat) (h : ∀ j, j < k → D (ct a j) j = D (ct b j) j) : look D a k = look D b k := by
  cases hb : look D b k with
  | none => exact look_is0 (fun j hj => by rw [h j hj]; exact look_none hb j hj)
  | some l =>
    obtain ⟨h1, h2, h3⟩ := look_some hb
    exact look_is h1 (by rw [h l h1]; exact h2) (fun j g1 g2 => by rw [h j g2]; exact h3 j g1 g2)
/-- where no prefix begins and none has ended, the owner is the one of the address before -/
theorem own_step {a : Nat} (hne : ∀ pp l, (D pp l).isSome = true → l ≤ 16 → a + 1 ≠ pp ∧ a + 1 ≠ pp + 2 ^ (16 - l)) : ownD D (a + 1) = ownD D a := by
  have key : ∀ j, j < 17 → D (ct (a + 1) j) j = D (ct a j) j := by
    intro j hj
    rcases ct_next a j with h | ⟨h1, h2⟩
    · rw [h]
    · have e1 : D (ct (a + 1) j) j = none := by
        cases hd : D (ct (a + 1) j) j with
        | none => rfl
        | some r => exact absurd h1.symm (hne _ j (by rw [hd]; rfl) (by omega)).1
      have e2 : D (ct a j) j = none := by
        cases hd : D (ct a j) j with
        | none => rfl
        | some r => exact absurd h2.symm (hne _ j (by rw [hd]; rfl) (by omega)).2
      rw [e1, e2]
  unfold ownD
  rw [look_cong 17 key]
  cases hl : look D a 17 with
  | none => rfl
  | some l => exact key l (look_some hl).1
/-! find: the walk down to a prefix (pp, k) -/
def so (le : Nat → Nat) (pp : Nat) : Option Nat → Option Nat
  | none => none
  | some f => some (2 * f + bt pp (le f))
def FAB (us : Nat → Bool) (bi le : Nat → Nat) (ro : Option Nat) (ch : Nat → Option Nat) (pp k : Nat) (ab fu : Option Nat) : Prop :=
  (∀ f, ab = some f → ud us f ∧ le f < k ∧ ct pp (le f) = bi f ∧ sv ro ch (so le pp fu) = some f ∧ ∀ h, fu = some h → ud us h ∧ le h < le f ∧ ct pp (le h) = bi h) ∧ (ab = none → fu = none)
def FI (us : Nat → Bool) (bi le : Nat → Nat) (ro : Option Nat) (ch : Nat → Option Nat) (pp k : Nat) (x ab fu : Option Nat) (t : Nat) : Prop :=
  FAB us bi le ro ch pp k ab fu ∧ x = sv ro ch (so le pp ab) ∧ (∀ f, ab = some f → t ≤ le f + 1) ∧ (ab = none → t = 0)
def FP (us : Nat → Bool) (bi le : Nat → Nat) (ro : Option Nat) (ch : Nat → Option Nat) (pp k : Nat) (x ab fu : Option Nat) : Prop :=
  FAB us bi le ro ch pp k ab fu ∧ (∀ n, x = some n → ud us n ∧ bi n = pp ∧ le n = k ∧ sv ro ch (so le pp ab) = some n) ∧ (x = none → ∀ d, sv ro ch (so le pp ab) = some d → ¬ (le d ≤ k ∧ ct pp (le d) = bi d))
theorem so_vs {pp k : Nat} {ab fu : Option Nat} (h : FAB us bi le ro ch pp k ab fu) : vs us (so le pp ab) := by
  cases ab with
  | none => trivial
  | some f => exact vs_kid (h.1 f rfl).1 (bt_lt _ _)
theorem so_rg {pp k : Nat} {ab fu : Option Nat} (h : FAB us bi le ro ch pp k ab fu) : rg bi le (so le pp ab) pp k := by
  cases ab with
  | none => trivial
  | some f =>
    obtain ⟨-, h1, h2, -⟩ := h.1 f rfl
    exact rg_kid ⟨Nat.le_of_lt h1, h2⟩ h1
theorem fi_0 (pp k : Nat) : FI us bi le ro ch pp k ro none none 0 := ⟨⟨fun f h => (by cases h), fun _ => rfl⟩, rfl, fun f h => (by cases h), fun _ => rfl⟩
theorem fi_ud (hT : TW us bi le ro ch) {pp k d t : Nat} {ab fu : Option Nat} (h : FI us bi le ro ch pp k (some d) ab fu t) : ud us d := (hT.2.2.2 _ d (so_vs h.1) h.2.1.symm).1
theorem fi_t {pp k t : Nat} {x ab fu : Option Nat} (h : FI us bi le ro ch pp k x ab fu t) (hk : k ≤ 16) : t < 18 := by
  cases ab with
  | none => have := h.2.2.2 rfl; omega
  | some f =>
    have h1 := h.2.2.1 f rfl
    have h2 := (h.1.1 f rfl).2.1
    omega
theorem fi_end {pp k t : Nat} {ab fu : Option Nat} (h : FI us bi le ro ch pp k none ab fu t) : FP us bi le ro ch pp k none ab fu := ⟨h.1, fun n e => (by cases e), fun _ d e => by rw [← h.2.1] at e; cases e⟩
theorem fi_no {pp k t d : Nat} {ab fu : Option Nat} (h : FI us bi le ro ch pp k (some d) ab fu t) (hd : ¬ (le d ≤ k ∧ ct pp (le d) = bi d)) : FP us bi le ro ch pp k none ab fu := by
  refine ⟨h.1, fun n e => (by cases e), fun _ d' e => ?_⟩
  have : d = d' := Option.some.inj (h.2.1.trans e)
  rw [← this]
  exact hd
theorem fi_yes (hT : TW us bi le ro ch) {pp k t d : Nat} {ab fu : Option Nat} (h : FI us bi le ro ch pp k (some d) ab fu t) (h1 : le d = k) (h2 : ct pp (le d) = bi d) (hp : ct pp k = pp) : FP us bi le ro ch pp k (some d) ab fu := by
  refine ⟨h.1, fun n e => ?_, fun e => by cases e⟩
  cases e
  exact ⟨fi_ud hT h, by rw [← h2, h1]; exact hp, h1, h.2.1.symm⟩
theorem fi_next (hT : TW us bi le ro ch) {pp k t d : Nat} {ab fu : Option Nat} (h : FI us bi le ro ch pp k (some d) ab fu t) (h1 : le d < k) (h2 : ct pp (le d) = bi d) : FI us bi le ro ch pp k (ch (2 * d + bt pp (le d))) (some d) ab (t + 1) := by
  have hd := fi_ud hT h
  have hr := (hT.2.2.2 _ d (so_vs h.1) h.2.1.symm).2.1
  refine ⟨⟨fun f e => ?_, fun e => by cases e⟩, rfl, fun f e => ?_, fun e => by cases e⟩
  · cases e
    refine ⟨hd, h1, h2, h.2.1.symm, fun f e => ?_⟩
    obtain ⟨g1, -, g3, -⟩ := h.1.1 f e
    refine ⟨g1, ?_, g3⟩
    subst e
    have := hr.1
    have hb := bt_lt pp (le f)
    rw [show (2 * f + bt pp (le f)) / 2 = f by omega] at this
    exact this
  · cases e
    cases ab with
    | none => have := h.2.2.2 rfl; omega
    | some f =>
      have g := h.2.2.1 f rfl
      have := hr.1
      have hb := bt_lt pp (le f)
      rw [show (2 * f + bt pp (le f)) / 2 = f by omega] at this
      omega
/-! settling: the deepest held node that covers an address -/
def BO (D : Nat → Nat → Option Nat) (us : Nat → Bool) (bi le : Nat → Nat) (pe : Nat → Option Nat) (a : Nat) (x : Option Nat) (k : Nat) : Prop :=
  (∀ n, x = some n → ud us n ∧ ct a (le n) = bi n ∧ (pe n).isSome = true ∧ look D a k = some (le n)) ∧ (x = none → look D a k = none)
def SI (D : Nat → Nat → Option Nat) (us : Nat → Bool) (bi le : Nat → Nat) (pe : Nat → Option Nat) (a : Nat) (best x : Option Nat) (t : Nat) : Prop :=
  ∃ lb, lb ≤ 17 ∧ BO D us bi le pe a best lb ∧ t ≤ lb ∧ (∀ d, x = some d → ud us d ∧ lb ≤ le d) ∧ ∀ m, ud us m → ct a (le m) = bi m → lb ≤ le m → ∃ d, x = some d ∧ pf (bi d) (le d) (bi m) (le m)
theorem si_0 (hT : TW us bi le ro ch) (a : Nat) : SI D us bi le pe a none ro 0 := by
  refine ⟨0, by decide, ⟨fun n e => (by cases e), fun _ => rfl⟩, Nat.le_refl _, fun d e => ⟨(hT.2.2.2 none d trivial e).1, Nat.zero_le _⟩, fun m hm _ _ => ?_⟩
  cases hr : ro with
  | none => exact absurd trivial (hT.2.2.1 none trivial hr m hm)
  | some d => exact ⟨d, rfl, (hT.2.2.2 none d trivial hr).2.2 m hm trivial⟩
theorem si_end (hT : TW us bi le ro ch) (hC : CT us bi le pe D) {a t : Nat} {best x : Option Nat} (h : SI D us bi le pe a best x t) (hx : ∀ d, x = some d → ct a (le d) ≠ bi d) : BO D us bi le pe a best 17 := by
  obtain ⟨lb, h1, h2, -, -, h3⟩ := h
  have e : look D a 17 = look D a lb := by
    refine look_range h1 (fun l g1 g2 => ?_)
    cases hd : D (ct a l) l with
    | none => rfl
    | some r =>
      obtain ⟨m, hm, e1, e2, -⟩ := (hC _ _ r).mp hd
      subst e2
      obtain ⟨d, hd2, hp⟩ := h3 m hm e1.symm g1
      exact absurd (by rw [← hp.2, e1]; exact (ct_ct a hp.1).symm) (hx d hd2)
  refine ⟨fun n e2 => ?_, fun e2 => ?_⟩
  · rw [e]; exact h2.1 n e2
  · rw [e]; exact h2.2 e2
theorem si_next (hT : TW us bi le ro ch) (hC : CT us bi le pe D) {a t d : Nat} {best best' x' : Option Nat} (h : SI D us bi le pe a best (some d) t) (hd : ct a (le d) = bi d) (hb : ((pe d).isSome = true ∧ best' = some d) ∨ (pe d = none ∧ best' = best)) (hx : (le d = 16 ∧ x' = none) ∨ (le d ≠ 16 ∧ x' = ch (2 * d + bt a (le d)))) : SI D us bi le pe a best' x' (t + 1) := by
  obtain ⟨lb, h1, h2, h3, h4, h5⟩ := h
  obtain ⟨hud, hlb⟩ := h4 d rfl
  have hl16 := (hT.1 d hud).1
  have hnode := ct_node hT hC hud
  have e : look D a (le d) = look D a lb := by
    refine look_range hlb (fun l g1 g2 => ?_)
    cases hdl : D (ct a l) l with
    | none => rfl
    | some r =>
      obtain ⟨m, hm, e1, e2, -⟩ := (hC _ _ r).mp hdl
      subst e2
      obtain ⟨d', hd2, hp⟩ := h5 m hm e1.symm g1
      cases hd2
      have := hp.1
      omega
  refine ⟨le d + 1, by omega, ?_, by omega, ?_, ?_⟩
  · rcases hb with ⟨p1, p2⟩ | ⟨p1, p2⟩
    · have el : look D a (le d + 1) = some (le d) := by rw [look, hd, hnode, if_pos p1]
      subst p2
      exact ⟨fun n e2 => by cases e2; exact ⟨hud, hd, p1, el⟩, fun e2 => by cases e2⟩
    · have el : look D a (le d + 1) = look D a lb := by
        rw [look, hd, hnode, p1, ← e]
        rfl
      subst p2
      exact ⟨fun n e2 => by rw [el]; exact h2.1 n e2, fun e2 => by rw [el]; exact h2.2 e2⟩
  · intro d' hd'
    rcases hx with ⟨-, p2⟩ | ⟨p1, p2⟩
    · rw [p2] at hd'; cases hd'
    · rw [p2] at hd'
      have hb := bt_lt a (le d)
      obtain ⟨g1, g2, -⟩ := hT.2.2.2 (some (2 * d + bt a (le d))) d' (vs_kid hud hb) hd'
      have := g2.1
      rw [show (2 * d + bt a (le d)) / 2 = d by omega] at this
      exact ⟨g1, this⟩
  · intro m hm hma hlm
    obtain ⟨d', hd2, hp⟩ := h5 m hm hma (by omega)
    cases hd2
    have hm16 := (hT.1 m hm).1
    have hr := rg_kid hp (show le d < le m by omega)
    have ebt : bt (bi m) (le d) = bt a (le d) := by
      rw [← hma]
      exact bt_ct a (by omega) hm16
    rw [ebt] at hr
    have hb := bt_lt a (le d)
    rcases hx with ⟨p1, -⟩ | ⟨p1, p2⟩
    · omega
    · rw [p2]
      cases hc : ch (2 * d + bt a (le d)) with
      | none => exact absurd hr (hT.2.2.1 _ (vs_kid hud hb) hc m hm)
      | some y => exact ⟨y, rfl, (hT.2.2.2 _ y (vs_kid hud hb) hc).2.2 m hm hr⟩
/-- what owner and length make of it -/
theorem bo_own (hT : TW us bi le ro ch) (hC : CT us bi le pe D) {a : Nat} {x : Option Nat} (h : BO D us bi le pe a x 17) : ownD D a = x.bind pe ∧ look D a 17 = x.map le := by
  unfold ownD
  cases x with
  | none => rw [h.2 rfl]; exact ⟨rfl, rfl⟩
  | some n =>
    obtain ⟨h1, h2, -, h4⟩ := h.1 n rfl
    rw [h4]
    refine ⟨?_, rfl⟩
    show D (ct a (le n)) (le n) = pe n
    rw [h2]
    exact ct_node hT hC h1
/-! the next edge behind an address -/
def NEg (E : Nat → Prop) (a g : Nat) : Prop := a < g ∧ g ≤ 65536 ∧ (∀ x, E x → a < x → g ≤ x) ∧ (g = 65536 ∨ E g)
theorem neg_0 {a : Nat} (ha : a < 65536) : NEg (fun _ => False) a 65536 := ⟨ha, Nat.le_refl _, fun _ h => h.elim, Or.inl rfl⟩
theorem neg_in {E : Nat → Prop} {a g x : Nat} (h : NEg E a g) (h1 : a < x) (h2 : x < g) : NEg (fun y => E y ∨ y = x) a x := by
  refine ⟨h1, by have := h.2.1; omega, fun y hy hay => ?_, Or.inr (Or.inr rfl)⟩
  rcases hy with q | q
  · have := h.2.2.1 y q hay; omega
  · omega
theorem neg_out {E : Nat → Prop} {a g x : Nat} (h : NEg E a g) (h1 : ¬ (a < x ∧ x < g)) : NEg (fun y => E y ∨ y = x) a g := by
  refine ⟨h.1, h.2.1, fun y hy hay => ?_, ?_⟩
  · rcases hy with q | q
    · exact h.2.2.1 y q hay
    · omega
  · rcases h.2.2.2 with q | q
    · exact Or.inl q
    · exact Or.inr (Or.inl q)
theorem neg_cong {E E' : Nat → Prop} {a g : Nat} (h : NEg E a g) (he : ∀ x, E x ↔ E' x) : NEg E' a g := by
  refine ⟨h.1, h.2.1, fun y hy => h.2.2.1 y ((he y).mpr hy), ?_⟩
  rcases h.2.2.2 with q | q
  · exact Or.inl q
  · exact Or.inr ((he g).mp q)
/-- the edges of the nodes below k -/
def eds (us : Nat → Bool) (bi le : Nat → Nat) (k x : Nat) : Prop := ∃ n, n < k ∧ us n = true ∧ (x = bi n ∨ x = bi n + 2 ^ (16 - le n))
theorem eds_no {k : Nat} (h : us k = false) (x : Nat) : eds us bi le k x ↔ eds us bi le (k + 1) x := by
  constructor
  · rintro ⟨n, h1, h2⟩
    exact ⟨n, by omega, h2⟩
  · rintro ⟨n, h1, h2, h3⟩
    refine ⟨n, ?_, h2, h3⟩
    rcases Nat.lt_or_ge n k with q | q
    · exact q
    · rw [show n = k by omega, h] at h2; cases h2
theorem eds_yes {k : Nat} (h : us k = true) (x : Nat) : ((eds us bi le k x ∨ x = bi k) ∨ x = bi k + 2 ^ (16 - le k)) ↔ eds us bi le (k + 1) x := by
  constructor
  · rintro ((⟨n, h1, h2⟩ | h1) | h1)
    · exact ⟨n, by omega, h2⟩
    · exact ⟨k, Nat.lt_succ_self _, h, Or.inl h1⟩
    · exact ⟨k, Nat.lt_succ_self _, h, Or.inr h1⟩
  · rintro ⟨n, h1, h2, h3⟩
    rcases Nat.lt_or_ge n k with q | q
    · exact Or.inl (Or.inl ⟨n, q, h2, h3⟩)
    · have e : n = k := by omega
      subst e
      rcases h3 with g | g
      · exact Or.inl (Or.inr g)
      · exact Or.inr g
/-- how many edges lie behind an address -/
def ec (us : Nat → Bool) (bi le : Nat → Nat) (a : Nat) : Nat := fb_ct (fun i => us (i / 2) && decide (a < if i % 2 = 0 then bi (i / 2) else bi (i / 2) + 2 ^ (16 - le (i / 2)))) 128
theorem fb_ct_lt {f g : Nat → Bool} : ∀ {n : Nat} (i : Nat), i < n → (∀ k, k < n → f k = true → g k = true) → f i = false → g i = true → fb_ct f n < fb_ct g n
  | 0, i, h, _, _, _ => absurd h (Nat.not_lt_zero i)
  | n + 1, i, h, hs, h1, h2 => by
    rw [fb_ct_succ, fb_ct_succ]
    rcases Nat.lt_or_ge i n with q | q
    · have := fb_ct_lt i q (fun k hk => hs k (by omega)) h1 h2
      have hn := hs n (by omega)
      cases hf : f n
      · simp; omega
      · rw [hn hf]; simp; omega
    · have e : i = n := by omega
      subst e
      have := fb_ct_sub (n := i) (fun k hk => hs k (by omega))
      rw [h1, h2]
      simp
      omega
theorem ec_le (a : Nat) : ec us bi le a ≤ 128 := fb_ct_le _ _
theorem ec_lt {a g : Nat} (h : NEg (eds us bi le 64) a g) (hg : g < 65536) : ec us bi le g < ec us bi le a := by
  rcases h.2.2.2 with q | ⟨n, h1, h2, h3⟩
  · omega
  · have hag := h.1
    have hmono : ∀ k, k < 128 → (us (k / 2) && decide (g < if k % 2 = 0 then bi (k / 2) else bi (k / 2) + 2 ^ (16 - le (k / 2)))) = true → (us (k / 2) && decide (a < if k % 2 = 0 then bi (k / 2) else bi (k / 2) + 2 ^ (16 - le (k / 2)))) = true := by
      intro k _ hk
      simp only [Bool.and_eq_true, decide_eq_true_eq] at hk ⊢
      exact ⟨hk.1, by omega⟩
    rcases h3 with h3 | h3
    · refine fb_ct_lt (2 * n) (by omega) hmono ?_ ?_
      · rw [show 2 * n / 2 = n by omega, show 2 * n % 2 = 0 by omega]
        simp
        intro; omega
      · rw [show 2 * n / 2 = n by omega, show 2 * n % 2 = 0 by omega, h2]
        simp
        omega
    · refine fb_ct_lt (2 * n + 1) (by omega) hmono ?_ ?_
      · rw [show (2 * n + 1) / 2 = n by omega, show (2 * n + 1) % 2 = 1 by omega]
        simp
        intro; omega
      · rw [show (2 * n + 1) / 2 = n by omega, show (2 * n + 1) % 2 = 1 by omega, h2]
        simp
        omega
/-- the first address from f on that is of y -/
def NX (D : Nat → Nat → Option Nat) (y : Option Nat) (f : Nat) (r : Option Nat) : Prop :=
  (∀ x, r = some x → f ≤ x ∧ x < 65536 ∧ ownD D x = y ∧ ∀ b, f ≤ b → b < x → ownD D b ≠ y) ∧ (r = none → ∀ b, f ≤ b → b < 65536 → ownD D b ≠ y)
theorem nx_one {y : Option Nat} {f : Nat} {r r' : Option Nat} (h : NX D y f r) (h' : NX D y f r') : r = r' := by
  cases r with
  | none =>
    cases r' with
    | none => rfl
    | some x =>
      obtain ⟨h1, h2, h3, -⟩ := h'.1 x rfl
      exact absurd h3 (h.2 rfl x h1 h2)
  | some x =>
    obtain ⟨h1, h2, h3, h4⟩ := h.1 x rfl
    cases r' with
    | none => exact absurd h3 (h'.2 rfl x h1 h2)
    | some x' =>
      obtain ⟨g1, g2, g3, g4⟩ := h'.1 x' rfl
      rcases Nat.lt_trichotomy x x' with q | q | q
      · exact absurd h3 (g4 x h1 q)
      · rw [q]
      · exact absurd g3 (h4 x' g1 q)
/-- between two edges the owner stays -/
theorem own_flat {a g : Nat} (hE : ∀ pp l, (D pp l).isSome = true → l ≤ 16 → (a < pp → g ≤ pp) ∧ (a < pp + 2 ^ (16 - l) → g ≤ pp + 2 ^ (16 - l))) : ∀ j, a + j < g → ownD D (a + j) = ownD D a
  | 0, _ => rfl
  | j + 1, h => by
    have e := own_flat hE j (by omega)
    have : ownD D (a + j + 1) = ownD D (a + j) := own_step (fun pp l hd hl => by
      have := hE pp l hd hl
      constructor
      · intro q; have := this.1 (by omega); omega
      · intro q; have := this.2 (by omega); omega)
    rw [show a + (j + 1) = a + j + 1 by omega, this, e]
theorem eds_D (hT : TW us bi le ro ch) (hC : CT us bi le pe D) {a g : Nat} (h : NEg (eds us bi le 64) a g) : ∀ pp l, (D pp l).isSome = true → l ≤ 16 → (a < pp → g ≤ pp) ∧ (a < pp + 2 ^ (16 - l) → g ≤ pp + 2 ^ (16 - l)) := by
  intro pp l hd _
  cases hx : D pp l with
  | none => rw [hx] at hd; cases hd
  | some r =>
    obtain ⟨n, hn, e1, e2, -⟩ := (hC _ _ r).mp hx
    subst e1
    subst e2
    exact ⟨h.2.2.1 _ ⟨n, hn.1, hn.2, Or.inl rfl⟩, h.2.2.1 _ ⟨n, hn.1, hn.2, Or.inr rfl⟩⟩
end CONT
end
section
/-! the tree and what it holds, kept by every change -/
def FK (us : Nat → Bool) (pe ch : Nat → Option Nat) : Prop := ∀ n, ud us n → pe n = none → ch (2 * n) ≠ none ∧ ch (2 * n + 1) ≠ none
def PB (us : Nat → Bool) (pe : Nat → Option Nat) : Prop := ∀ n r, ud us n → pe n = some r → r < 8
def hc (us : Nat → Bool) (pe : Nat → Option Nat) : Nat := fb_ct (fun n => us n && (pe n).isSome) 64
def TOK (he : Nat) (ro fr : Option Nat) (us : Nat → Bool) (bi le : Nat → Nat) (pe ch : Nat → Option Nat) (D : Nat → Nat → Option Nat) : Prop :=
  TW us bi le ro ch ∧ FL us fr ch ∧ FK us pe ch ∧ PB us pe ∧ he = hc us pe ∧ he ≤ 32 ∧ CT us bi le pe D
def dset (D : Nat → Nat → Option Nat) (pp k y : Nat) : Nat → Nat → Option Nat := fun p' l' => if p' = pp ∧ l' = k then some y else D p' l'
def ddel (D : Nat → Nat → Option Nat) (pp k : Nat) : Nat → Nat → Option Nat := fun p' l' => if p' = pp ∧ l' = k then none else D p' l'
def ldR (x to ro : Option Nat) : Option Nat := match x with
  | none => to
  | some _ => ro
def ldC (le : Nat → Nat) (pp : Nat) (x to : Option Nat) (ch : Nat → Option Nat) : Nat → Option Nat := match x with
  | none => ch
  | some f => va_up ch (2 * f + bt pp (le f)) to
theorem up_s {α : Type} (f : Nat → α) (k : Nat) (v : α) : va_up f k v k = v := by simp [va_up]
theorem up_n {α : Type} (f : Nat → α) {k j : Nat} (v : α) (h : j ≠ k) : va_up f k v j = f j := by simp [va_up, h]
section CHG
variable {us us' : Nat → Bool} {bi le bi' le' : Nat → Nat} {ro ro' fr fr' : Option Nat} {ch ch' pe pe' : Nat → Option Nat} {D : Nat → Nat → Option Nat}
theorem sv_ld (pp : Nat) (x to : Option Nat) (y : Option Nat) : sv (ldR x to ro) (ldC le pp x to ch) y = if y = so le pp x then to else sv ro ch y := by
  cases x with
  | none =>
    cases y with
    | none => simp [sv, ldR, so]
    | some i => simp [sv, ldR, ldC, so]
  | some f =>
    cases y with
    | none => simp [sv, ldR, so]
    | some i =>
      by_cases h : i = 2 * f + bt pp (le f)
      · simp [sv, ldC, so, va_up, h]
      · simp [sv, ldC, so, va_up, h]
theorem ldC_at (pp : Nat) (x to : Option Nat) (i : Nat) : ldC le pp x to ch i = if some i = so le pp x then to else ch i := sv_ld (ro := none) pp x to (some i)
theorem hc_up (n : Nat) (hn : n < 64) (v : Bool) (x : Option Nat) (hus : ∀ m, m < 64 → us' m = if m = n then v else us m) (hpe : ∀ m, m < 64 → m ≠ n → us m = true → pe' m = pe m) (hx : pe' n = x) : hc us' pe' + (if (us n && (pe n).isSome) = true then 1 else 0) = hc us pe + (if (v && x.isSome) = true then 1 else 0) := by
  have h := fb_ct_upd (fun m => us m && (pe m).isSome) (v && x.isSome) hn
  unfold hc
  rw [← h]
  congr 1
  refine fb_ct_cong (fun m hm => ?_)
  by_cases e : m = n
  · subst e
    simp only [if_true]
    rw [hus m hm, if_pos rfl, hx]
  · simp only [if_neg e]
    rw [hus m hm, if_neg e]
    cases hu : us m with
    | false => simp
    | true => rw [hpe m hm e hu]
/-- the peer of a node that is there -/
theorem tok_set {he he' n y : Nat} (h : TOK he ro fr us bi le pe ch D) (hn : ud us n) (hy : y < 8) (hhe : he' = if (pe n).isSome = true then he else he + 1) (h32 : he' ≤ 32) : TOK he' ro fr us bi le (va_up pe n (some y)) ch (dset D (bi n) (le n) y) := by
  obtain ⟨h1, h2, h3, h4, h5, h6, h7⟩ := h
  refine ⟨h1, h2, ?_, ?_, ?_, h32, ?_⟩
  · intro m hm e
    by_cases q : m = n
    · rw [q, up_s] at e; cases e
    · rw [up_n _ _ q] at e; exact h3 m hm e
  · intro m r hm e
    by_cases q : m = n
    · rw [q, up_s] at e; cases e; exact hy
    · rw [up_n _ _ q] at e; exact h4 m r hm e
  · have := hc_up (us := us) (us' := us) (pe := pe) (pe' := va_up pe n (some y)) n hn.1 true (some y) (fun m _ => by by_cases q : m = n; rw [q, if_pos rfl]; exact hn.2; rw [if_neg q]) (fun m _ q _ => up_n _ _ q) (up_s _ _ _)
    rw [hn.2] at this
    simp only [Bool.true_and, Option.isSome_some, if_true] at this
    rw [hhe]
    by_cases q : (pe n).isSome = true
    · rw [if_pos q] at this ⊢; omega
    · rw [if_neg q] at this ⊢; omega
  · intro pp l r
    unfold dset
    by_cases q : pp = bi n ∧ l = le n
    · rw [if_pos q]
      constructor
      · intro e; cases e; exact ⟨n, hn, q.1.symm, q.2.symm, up_s _ _ _⟩
      · rintro ⟨m, hm, e1, e2, e3⟩
        have : m = n := h1.2.1 m n hm hn (by rw [e2, q.2]) (by rw [e1, q.1])
        rw [this, up_s] at e3
        exact e3
    · rw [if_neg q, h7 pp l r]
      constructor
      · rintro ⟨m, hm, e1, e2, e3⟩
        exact ⟨m, hm, e1, e2, by rw [up_n _ _ (fun e => q (by rw [← e1, ← e2, e]; exact ⟨rfl, rfl⟩))]; exact e3⟩
      · rintro ⟨m, hm, e1, e2, e3⟩
        exact ⟨m, hm, e1, e2, by rw [up_n _ _ (fun e => q (by rw [← e1, ← e2, e]; exact ⟨rfl, rfl⟩))] at e3; exact e3⟩
theorem ud_add {x : Nat} (hx : x < 64) (m : Nat) : ud (va_up us x true) m ↔ ud us m ∨ m = x := by
  unfold ud
  by_cases e : m = x
  · subst e; rw [up_s]; simp [hx]
  · rw [up_n _ _ e]; simp [e]
theorem ud_rm {n : Nat} (m : Nat) : ud (va_up us n false) m ↔ ud us m ∧ m ≠ n := by
  unfold ud
  by_cases e : m = n
  · subst e; rw [up_s]; simp
  · rw [up_n _ _ e]; simp [e]
theorem so_cong {pp : Nat} {x : Option Nat} (h : ∀ f, x = some f → le' f = le f) : so le' pp x = so le pp x := by
  cases x with
  | none => rfl
  | some f => show some (2 * f + bt pp (le' f)) = some (2 * f + bt pp (le f)); rw [h f rfl]
/-- what a new node does to what is held -/
theorem ct_add {x pp k y : Nat} (hC : CT us bi le pe D) (hno : ∀ m, ud us m → bi m = pp → le m = k → False) (hus : ∀ m, ud us' m → ud us m ∨ m = x ∨ pe' m = none) (hk : ∀ m, ud us m → ud us' m ∧ bi' m = bi m ∧ le' m = le m ∧ pe' m = pe m) (hx : ud us' x ∧ bi' x = pp ∧ le' x = k ∧ pe' x = some y) : CT us' bi' le' pe' (dset D pp k y) := by
  intro p2 l2 r
  unfold dset
  by_cases q : p2 = pp ∧ l2 = k
  · rw [if_pos q]
    constructor
    · intro e; cases e; exact ⟨x, hx.1, by rw [q.1]; exact hx.2.1, by rw [q.2]; exact hx.2.2.1, hx.2.2.2⟩
    · rintro ⟨m, hm, e1, e2, e3⟩
      rcases hus m hm with g | g | g
      · obtain ⟨-, g1, g2, g3⟩ := hk m g
        exact (hno m g (by rw [← g1, e1, q.1]) (by rw [← g2, e2, q.2])).elim
      · rw [g, hx.2.2.2] at e3; exact e3
      · rw [g] at e3; cases e3
  · rw [if_neg q, hC p2 l2 r]
    constructor
    · rintro ⟨m, hm, e1, e2, e3⟩
      obtain ⟨g0, g1, g2, g3⟩ := hk m hm
      exact ⟨m, g0, by rw [g1]; exact e1, by rw [g2]; exact e2, by rw [g3]; exact e3⟩
    · rintro ⟨m, hm, e1, e2, e3⟩
      rcases hus m hm with g | g | g
      · obtain ⟨-, g1, g2, g3⟩ := hk m g
        exact ⟨m, g, by rw [← g1]; exact e1, by rw [← g2]; exact e2, by rw [← g3]; exact e3⟩
      · exact absurd ⟨by rw [← e1, g]; exact hx.2.1, by rw [← e2, g]; exact hx.2.2.1⟩ q
      · rw [g] at e3; cases e3
/-- insert, one new node: nothing below the place, or what is there lies below the new prefix -/
theorem tok_ins1 {he pp k y x : Nat} {ab fu w : Option Nat} (h : TOK he ro (some x) us bi le pe ch D) (h32 : he < 32) (hy : y < 8) (hp : pp < 65536) (hk : k ≤ 16) (hpk : ct pp k = pp) (hF : FAB us bi le ro ch pp k ab fu) (hw : sv ro ch (so le pp ab) = w) (hc : ∀ d, w = some d → k < le d ∧ ct (bi d) k = pp)
    {ch1 : Nat → Option Nat} (e1 : ∀ i, i / 2 ≠ x → ch1 i = ch i) (e2 : ∀ b, b < 2 → (∀ d, w = some d → b = bt (bi d) k → ch1 (2 * x + b) = some d) ∧ ((∀ d, w = some d → b ≠ bt (bi d) k) → ch1 (2 * x + b) = none)) :
    TOK (he + 1) (ldR ab (some x) ro) (ch (2 * x)) (va_up us x true) (va_up bi x pp) (va_up le x k) (va_up pe x (some y)) (ldC (va_up le x k) pp ab (some x) ch1) (dset D pp k y) := by
  obtain ⟨h1, h2, h3, h4, h5, h6, h7⟩ := h
  have hx : x < 64 ∧ us x = false := by
    obtain ⟨fl, -, hm, hch⟩ := h2
    cases fl with
    | nil => cases hch
    | cons a t => have e : x = a := Option.some.inj hch.1; rw [e]; exact (hm a).mp List.mem_cons_self
  have hxu : ¬ ud us x := fun q => by have := q.2; rw [hx.2] at this; cases this
  have old : ∀ m, ud us m → m ≠ x := fun m hm e => hxu (by rw [← e]; exact hm)
  have hab : ∀ f, ab = some f → f ≠ x := fun f e => old f (hF.1 f e).1
  have hso : so (va_up le x k) pp ab = so le pp ab := so_cong (fun f e => up_n _ _ (hab f e))
  have hsv : ∀ z, sv (ldR ab (some x) ro) (ldC (va_up le x k) pp ab (some x) ch1) z = if z = so le pp ab then some x else sv ro ch1 z := fun z => by rw [sv_ld, hso]
  have hne : ∀ b, b < 2 → some (2 * x + b) ≠ so le pp ab := by
    intro b hb e
    cases ab with
    | none => cases e
    | some f =>
      have e : 2 * x + b = 2 * f + bt pp (le f) := Option.some.inj e
      have := bt_lt pp (le f)
      exact hab f rfl (by omega)
  have hchx : ∀ b, b < 2 → ldC (va_up le x k) pp ab (some x) ch1 (2 * x + b) = ch1 (2 * x + b) := fun b hb => by rw [ldC_at, hso, if_neg (hne b hb)]
  have hsv1 : ∀ z, vs us z → sv ro ch1 z = sv ro ch z := by
    intro z hz
    cases z with
    | none => rfl
    | some i => exact e1 i (old _ hz)
  have hT : TW (va_up us x true) (va_up bi x pp) (va_up le x k) (ldR ab (some x) ro) (ldC (va_up le x k) pp ab (some x) ch1) := by
    refine tw_add h1 hxu (so_vs hF) hk hp hpk (so_rg hF) (by rw [hw]; exact hc) (ud_add hx.1) (fun m e => up_n _ _ e) (fun m e => up_n _ _ e) (up_s _ _ _) (up_s _ _ _) ?_ ?_ ?_
    · rw [hsv, if_pos rfl]
    · intro z hz e
      rw [hsv, if_neg e, hsv1 z hz]
    · intro b hb
      rw [hchx b hb, hw]
      exact e2 b hb
  have hno : ∀ m, ud us m → bi m = pp → le m = k → False := by
    intro m hm g1 g2
    cases hs : w with
    | none => exact h1.2.2.1 _ (so_vs hF) (hw.trans hs) m hm (by rw [g1, g2]; exact so_rg hF)
    | some d =>
      have q := ((h1.2.2.2 _ d (so_vs hF) (hw.trans hs)).2.2 m hm (by rw [g1, g2]; exact so_rg hF)).1
      have := (hc d hs).1
      omega
  refine ⟨hT, ?_, ?_, ?_, ?_, by omega, ?_⟩
  · refine fl_pop h2 (fun n _ => rfl) (fun n hn e hu => ?_)
    rw [ldC_at, hso, if_neg, e1 _ (by omega)]
    intro q
    cases ab with
    | none => cases q
    | some f =>
      have q : 2 * n = 2 * f + bt pp (le f) := Option.some.inj q
      have := bt_lt pp (le f)
      have hf := (hF.1 f rfl).1.2
      rw [show f = n by omega, hu] at hf
      cases hf
  · intro m hm e
    rcases (ud_add hx.1 m).mp hm with g | g
    · have hmx := old m g
      rw [up_n _ _ hmx] at e
      obtain ⟨k0, k1⟩ := h3 m g e
      have side : ∀ b, b < 2 → ch (2 * m + b) ≠ none → ldC (va_up le x k) pp ab (some x) ch1 (2 * m + b) ≠ none := by
        intro b hb hh
        rw [ldC_at, hso]
        by_cases q : some (2 * m + b) = so le pp ab
        · rw [if_pos q]; intro z; cases z
        · rw [if_neg q, e1 _ (by omega)]; exact hh
      exact ⟨side 0 (by decide) k0, side 1 (by decide) k1⟩
    · rw [g, up_s] at e; cases e
  · intro m r hm e
    rcases (ud_add hx.1 m).mp hm with g | g
    · rw [up_n _ _ (old m g)] at e; exact h4 m r g e
    · rw [g, up_s] at e; cases e; exact hy
  · have := hc_up (us := us) (us' := va_up us x true) (pe := pe) (pe' := va_up pe x (some y)) x hx.1 true (some y) (fun m _ => rfl) (fun m _ q _ => up_n _ _ q) (up_s _ _ _)
    rw [hx.2] at this
    simp at this
    omega
  · refine ct_add (x := x) h7 hno (fun m hm => ?_) (fun m hm => ⟨(ud_add hx.1 m).mpr (Or.inl hm), up_n _ _ (old m hm), up_n _ _ (old m hm), up_n _ _ (old m hm)⟩) ⟨(ud_add hx.1 x).mpr (Or.inr rfl), up_s _ _ _, up_s _ _ _, up_s _ _ _⟩
    rcases (ud_add hx.1 m).mp hm with g | g
    · exact Or.inl g
    · exact Or.inr (Or.inl g)
theorem fl_hd {x : Nat} (h : FL us (some x) ch) : x < 64 ∧ us x = false := by
  obtain ⟨fl, -, hm, hch⟩ := h
  cases fl with
  | nil => cases hch
  | cons a t => have e : x = a := Option.some.inj hch.1; rw [e]; exact (hm a).mp List.mem_cons_self
/-- insert, with a fork z above the new node x and what the place led to (d) -/
theorem tok_ins2 {he pp k y x z d sh : Nat} {ab fu : Option Nat} (h : TOK he ro (some x) us bi le pe ch D) (h32 : he < 32) (hy : y < 8) (hp : pp < 65536) (hk : k ≤ 16) (hpk : ct pp k = pp) (hF : FAB us bi le ro ch pp k ab fu) (hw : sv ro ch (so le pp ab) = some d)
    (hz : ch (2 * x) = some z) (hs1 : sh < k) (hs2 : sh < le d) (hj : ∀ j, j < sh → bt pp j = bt (bi d) j) (hd : bt pp sh ≠ bt (bi d) sh)
    {ch2 : Nat → Option Nat} (e1 : ∀ i, i / 2 ≠ x → i / 2 ≠ z → ch2 i = ch i) (e2 : ∀ b, b < 2 → ch2 (2 * x + b) = none) (e3 : ch2 (2 * z + bt pp sh) = some x) (e4 : ch2 (2 * z + bt (bi d) sh) = some d) :
    z < 64 ∧ us z = false ∧ z ≠ x ∧ TOK (he + 1) (ldR ab (some z) ro) (ch (2 * z)) (va_up (va_up us x true) z true) (va_up (va_up bi x pp) z (ct pp sh)) (va_up (va_up le x k) z sh) (va_up (va_up pe x (some y)) z none) (ldC (va_up (va_up le x k) z sh) pp ab (some z) ch2) (dset D pp k y) := by
  obtain ⟨h1, h2, h3, h4, h5, h6, h7⟩ := h
  have hx := fl_hd h2
  have hF1 := fl_pop (us' := va_up us x true) (ch' := ch) h2 (fun n _ => rfl) (fun n _ _ _ => rfl)
  rw [hz] at hF1
  have hz1 := fl_hd hF1
  have hzx : z ≠ x := fun e => by have := hz1.2; rw [e, up_s] at this; cases this
  have hzu : us z = false := by have := hz1.2; rw [up_n _ _ hzx] at this; exact this
  refine ⟨hz1.1, hzu, hzx, ?_⟩
  have hxu : ¬ ud us x := fun q => by have := q.2; rw [hx.2] at this; cases this
  have hzu2 : ¬ ud us z := fun q => by have := q.2; rw [hzu] at this; cases this
  have old : ∀ m, ud us m → m ≠ x ∧ m ≠ z := fun m hm => ⟨fun e => hxu (by rw [← e]; exact hm), fun e => hzu2 (by rw [← e]; exact hm)⟩
  have hab : ∀ f, ab = some f → f ≠ x ∧ f ≠ z := fun f e => old f (hF.1 f e).1
  obtain ⟨hdu, hdr, hdm⟩ := h1.2.2.2 _ d (so_vs hF) hw
  obtain ⟨hd1, hd2, hd3⟩ := h1.1 d hdu
  have hdx := old d hdu
  have hcom : ct pp sh = ct (bi d) sh := ct_common hp hd2 sh (by omega) hj
  have hbp := bt_lt pp sh
  have hbd := bt_lt (bi d) sh
  have hup := so_rg hF
  -- the fork's prefix lies below the place
  have hpf : pf (ct pp sh) sh pp k := ⟨by omega, rfl⟩
  have hrz : rg bi le (so le pp ab) (ct pp sh) sh := by
    cases ab with
    | none => trivial
    | some f =>
      refine rg_mid hup hpf ?_ (by omega)
      have hb := bt_lt pp (le f)
      rw [show (2 * f + bt pp (le f)) / 2 = f by omega]
      -- the bits up to the place's node are common
      have hr := hdr.1
      rw [show (2 * f + bt pp (le f)) / 2 = f by omega] at hr
      have hr2 := hdr.2.1
      have hr3 := hdr.2.2
      rw [show (2 * f + bt pp (le f)) / 2 = f by omega] at hr2 hr3
      rw [show (2 * f + bt pp (le f)) % 2 = bt pp (le f) by omega] at hr3
      obtain ⟨-, g1, g2, -⟩ := hF.1 f rfl
      rcases Nat.lt_or_ge (le f) sh with q | q
      · exact q
      · exfalso
        rcases Nat.lt_or_ge sh (le f) with q2 | q2
        · have : bt pp sh = bt (bi d) sh := by
            rw [← bt_ct pp q2 (by omega), g2, ← hr2, bt_ct (bi d) q2 (by omega)]
          exact hd this
        · have e : sh = le f := by omega
          rw [e] at hd
          exact hd hr3.symm
  let ch1 : Nat → Option Nat := va_up (va_up ch (2 * z + bt pp sh) none) (2 * z + bt (bi d) sh) (some d)
  have hch1 : ∀ i, i / 2 ≠ z → ch1 i = ch i := fun i hi => by
    show va_up _ _ _ i = _
    rw [up_n _ _ (by omega), up_n _ _ (by omega)]
  have hsoz : so (va_up le z sh) pp ab = so le pp ab := so_cong (fun f e => up_n _ _ (hab f e).2)
  have hnz : ∀ b, b < 2 → some (2 * z + b) ≠ so le pp ab := by
    intro b hb e
    cases ab with
    | none => cases e
    | some f =>
      have e : 2 * z + b = 2 * f + bt pp (le f) := Option.some.inj e
      have := bt_lt pp (le f)
      exact (hab f rfl).2 (by omega)
  have hnx : ∀ b, b < 2 → some (2 * x + b) ≠ so le pp ab := by
    intro b hb e
    cases ab with
    | none => cases e
    | some f =>
      have e : 2 * x + b = 2 * f + bt pp (le f) := Option.some.inj e
      have := bt_lt pp (le f)
      exact (hab f rfl).1 (by omega)
  -- first the fork alone
  have hT1 : TW (va_up us z true) (va_up bi z (ct pp sh)) (va_up le z sh) (ldR ab (some z) ro) (ldC (va_up le z sh) pp ab (some z) ch1) := by
    refine tw_add h1 hzu2 (so_vs hF) (by omega) (ct_lt sh hp) (ct_ct pp (Nat.le_refl _)) hrz ?_ (ud_add hz1.1) (fun m e => up_n _ _ e) (fun m e => up_n _ _ e) (up_s _ _ _) (up_s _ _ _) ?_ ?_ ?_
    · intro c hc
      have e : d = c := Option.some.inj (hw.symm.trans hc)
      subst e
      exact ⟨hs2, hcom.symm⟩
    · rw [sv_ld, hsoz, if_pos rfl]
    · intro w hv e
      rw [sv_ld, hsoz, if_neg e]
      cases w with
      | none => rfl
      | some i => exact hch1 i (old _ hv).2
    · intro b hb
      rw [ldC_at, hsoz, if_neg (hnz b hb)]
      constructor
      · intro c hc e
        have e0 : d = c := Option.some.inj (hw.symm.trans hc)
        subst e0
        show va_up _ _ _ _ = _
        rw [e, up_s]
      · intro hh
        have hb2 := hh d hw
        show va_up _ _ _ _ = _
        rw [up_n _ _ (by omega), show b = bt pp sh by omega, up_s]
  -- then the new node below it
  have hsox : so (va_up (va_up le x k) z sh) pp ab = so le pp ab := so_cong (fun f e => by rw [up_n _ _ (hab f e).2, up_n _ _ (hab f e).1])
  have husz : ∀ m, ud (va_up (va_up us x true) z true) m ↔ (ud us m ∨ m = x) ∨ m = z := fun m => by rw [ud_add hz1.1, ud_add hx.1]
  have hT2 : TW (va_up (va_up us x true) z true) (va_up (va_up bi x pp) z (ct pp sh)) (va_up (va_up le x k) z sh) (ldR ab (some z) ro) (ldC (va_up (va_up le x k) z sh) pp ab (some z) ch2) := by
    have hvz : vs (va_up us z true) (some (2 * z + bt pp sh)) := vs_kid ((ud_add hz1.1 z).mpr (Or.inr rfl)) hbp
    have hnone : sv (ldR ab (some z) ro) (ldC (va_up le z sh) pp ab (some z) ch1) (some (2 * z + bt pp sh)) = none := by
      rw [sv_ld, hsoz, if_neg (hnz _ hbp)]
      show va_up _ _ _ _ = _
      rw [up_n _ _ (by omega), up_s]
    refine tw_add (x := x) hT1 ?_ hvz hk hp hpk ?_ ?_ ?_ (fun m e => ?_) (fun m e => ?_) ?_ ?_ ?_ ?_ ?_
    · intro q
      rcases (ud_add hz1.1 x).mp q with g | g
      · exact hxu g
      · exact hzx g.symm
    · refine ⟨?_, ?_, ?_⟩
      · rw [show (2 * z + bt pp sh) / 2 = z by omega, up_s]; exact hs1
      · rw [show (2 * z + bt pp sh) / 2 = z by omega, up_s, up_s]
      · rw [show (2 * z + bt pp sh) / 2 = z by omega, up_s]; omega
    · intro c hc
      rw [hnone] at hc
      cases hc
    · intro m
      rw [husz, ud_add hz1.1]
      constructor
      · rintro ((q | q) | q)
        · exact Or.inl (Or.inl q)
        · exact Or.inr q
        · exact Or.inl (Or.inr q)
      · rintro ((q | q) | q)
        · exact Or.inl (Or.inl q)
        · exact Or.inr q
        · exact Or.inl (Or.inr q)
    · by_cases q : m = z
      · rw [q, up_s, up_s]
      · rw [up_n _ _ q, up_n _ _ e, up_n _ _ q]
    · by_cases q : m = z
      · rw [q, up_s, up_s]
      · rw [up_n _ _ q, up_n _ _ e, up_n _ _ q]
    · rw [up_n _ _ hzx.symm, up_s]
    · rw [up_n _ _ hzx.symm, up_s]
    · rw [sv_ld, hsox, if_neg (hnz _ hbp)]
      exact e3
    · intro w hv e
      rw [sv_ld, sv_ld, hsox, hsoz]
      by_cases q : w = so le pp ab
      · rw [if_pos q, if_pos q]
      · rw [if_neg q, if_neg q]
        cases w with
        | none => rfl
        | some i =>
          show ch2 i = ch1 i
          rcases (ud_add hz1.1 _).mp hv with g | g
          · rw [e1 i (old _ g).1 (old _ g).2, hch1 i (old _ g).2]
          · have hi : i = 2 * z + bt (bi d) sh := by
              have : i ≠ 2 * z + bt pp sh := fun e2 => e (by rw [e2])
              omega
            rw [hi, e4]
            show _ = va_up _ _ _ _
            rw [up_s]
    · intro b hb
      rw [ldC_at, hsox, if_neg (hnx b hb), hnone]
      exact ⟨fun c hc => (by cases hc), fun _ => e2 b hb⟩
  have hno : ∀ m, ud us m → bi m = pp → le m = k → False := by
    intro m hm g1 g2
    have q := hdm m hm (by rw [g1, g2]; exact hup)
    rw [g1, g2] at q
    exact hd ((pf_bt q hs2 hd1)).symm
  refine ⟨hT2, ?_, ?_, ?_, ?_, by omega, ?_⟩
  · refine fl_pop (us := va_up us x true) (ch := ch) hF1 (fun n _ => rfl) (fun n hn e hu => ?_)
    have hnx' : n ≠ x := fun e2 => by rw [e2, up_s] at hu; cases hu
    rw [up_n _ _ hnx'] at hu
    rw [ldC_at, hsox, if_neg, e1 _ (by omega) (by omega)]
    intro q
    cases ab with
    | none => cases q
    | some f =>
      have q : 2 * n = 2 * f + bt pp (le f) := Option.some.inj q
      have := bt_lt pp (le f)
      have hf := (hF.1 f rfl).1.2
      rw [show f = n by omega, hu] at hf
      cases hf
  · intro m hm e
    rcases (husz m).mp hm with (g | g) | g
    · have hmo := old m g
      rw [up_n _ _ hmo.2, up_n _ _ hmo.1] at e
      obtain ⟨k0, k1⟩ := h3 m g e
      have side : ∀ b, b < 2 → ch (2 * m + b) ≠ none → ldC (va_up (va_up le x k) z sh) pp ab (some z) ch2 (2 * m + b) ≠ none := by
        intro b hb hh
        rw [ldC_at, hsox]
        by_cases q : some (2 * m + b) = so le pp ab
        · rw [if_pos q]; intro w; cases w
        · rw [if_neg q, e1 _ (by omega) (by omega)]; exact hh
      exact ⟨side 0 (by decide) k0, side 1 (by decide) k1⟩
    · rw [g, up_n _ _ hzx.symm, up_s] at e; cases e
    · rw [g]
      have side : ∀ b, b < 2 → ldC (va_up (va_up le x k) z sh) pp ab (some z) ch2 (2 * z + b) ≠ none := by
        intro b hb
        rw [ldC_at, hsox, if_neg (hnz b hb)]
        rcases (show b = bt pp sh ∨ b = bt (bi d) sh by omega) with q | q
        · rw [q, e3]; intro w; cases w
        · rw [q, e4]; intro w; cases w
      exact ⟨side 0 (by decide), side 1 (by decide)⟩
  · intro m r hm e
    rcases (husz m).mp hm with (g | g) | g
    · rw [up_n _ _ (old m g).2, up_n _ _ (old m g).1] at e; exact h4 m r g e
    · rw [g, up_n _ _ hzx.symm, up_s] at e; cases e; exact hy
    · rw [g, up_s] at e; cases e
  · have a1 := hc_up (us := us) (us' := va_up us x true) (pe := pe) (pe' := va_up pe x (some y)) x hx.1 true (some y) (fun m _ => rfl) (fun m _ q _ => up_n _ _ q) (up_s _ _ _)
    have a2 := hc_up (us := va_up us x true) (us' := va_up (va_up us x true) z true) (pe := va_up pe x (some y)) (pe' := va_up (va_up pe x (some y)) z none) z hz1.1 true none (fun m _ => rfl) (fun m _ q _ => up_n _ _ q) (up_s _ _ _)
    rw [hx.2] at a1
    rw [up_n _ _ hzx, hzu] at a2
    simp at a1 a2
    omega
  · refine ct_add (x := x) h7 hno (fun m hm => ?_) (fun m hm => ?_) ⟨(husz x).mpr (Or.inl (Or.inr rfl)), ?_, ?_, ?_⟩
    · rcases (husz m).mp hm with (g | g) | g
      · exact Or.inl g
      · exact Or.inr (Or.inl g)
      · exact Or.inr (Or.inr (by rw [g, up_s]))
    · have hmo := old m hm
      exact ⟨(husz m).mpr (Or.inl (Or.inl hm)), by rw [up_n _ _ hmo.2, up_n _ _ hmo.1], by rw [up_n _ _ hmo.2, up_n _ _ hmo.1], by rw [up_n _ _ hmo.2, up_n _ _ hmo.1]⟩
    · rw [up_n _ _ hzx.symm, up_s]
    · rw [up_n _ _ hzx.symm, up_s]
    · rw [up_n _ _ hzx.symm, up_s]
end CHG
end
section
/-! a node goes out of the tree -/
section RMV
variable {us us' : Nat → Bool} {bi le : Nat → Nat} {ro ro' fr fr' : Option Nat} {ch ch' pe pe' : Nat → Option Nat} {D : Nat → Nat → Option Nat}
theorem rm_core {n pp : Nat} {ab r : Option Nat} (hT : TW us bi le ro ch) (hL : FL us fr ch) (hn : ud us n) (hab : ∀ f, ab = some f → ud us f ∧ f ≠ n) (hv : sv ro ch (so le pp ab) = some n) (hr : (ch (2 * n) = none ∧ ch (2 * n + 1) = r) ∨ (ch (2 * n + 1) = none ∧ ch (2 * n) = r)) :
    TW (va_up us n false) bi le (ldR ab r ro) (va_up (ldC le pp ab r ch) (2 * n) fr) ∧ FL (va_up us n false) (some n) (va_up (ldC le pp ab r ch) (2 * n) fr) ∧ ∀ i, i / 2 ≠ n → va_up (ldC le pp ab r ch) (2 * n) fr i = if some i = so le pp ab then r else ch i := by
  have hvs : vs us (so le pp ab) := by
    cases ab with
    | none => trivial
    | some f => exact vs_kid (hab f rfl).1 (bt_lt _ _)
  have hat : ∀ i, i / 2 ≠ n → va_up (ldC le pp ab r ch) (2 * n) fr i = if some i = so le pp ab then r else ch i := fun i hi => by
    rw [up_n _ _ (by omega), ldC_at]
  have hown : ∀ i, some i = so le pp ab → i / 2 ≠ n := by
    intro i e
    cases ab with
    | none => cases e
    | some f =>
      have e : i = 2 * f + bt pp (le f) := Option.some.inj e
      have := bt_lt pp (le f)
      have := (hab f rfl).2
      omega
  have hsv : ∀ y, vs (va_up us n false) y → sv (ldR ab r ro) (va_up (ldC le pp ab r ch) (2 * n) fr) y = if y = so le pp ab then r else sv ro ch y := by
    intro y hy
    cases y with
    | none =>
      have := sv_ld (ro := ro) (le := le) (ch := ch) pp ab r none
      exact this
    | some i => exact hat i ((ud_rm _).mp hy).2
  refine ⟨?_, ?_, hat⟩
  · refine tw_rm hT hn hvs hv hr (fun m => ud_rm m) ?_ ?_
    · have : vs (va_up us n false) (so le pp ab) := by
        cases hs : so le pp ab with
        | none => trivial
        | some i =>
          rw [hs] at hvs
          exact (ud_rm _).mpr ⟨hvs, hown i hs.symm⟩
      rw [hsv _ this, if_pos rfl]
    · intro y hy e
      rw [hsv y hy, if_neg e]
  · refine fl_push hL hn (fun m _ => rfl) (up_s _ _ _) (fun m hm hu => ?_)
    have hmn : m ≠ n := fun e => by rw [e, hn.2] at hu; cases hu
    rw [hat _ (by omega), if_neg]
    intro e
    cases ab with
    | none => cases e
    | some f =>
      have e : 2 * m = 2 * f + bt pp (le f) := Option.some.inj e
      have := bt_lt pp (le f)
      have hf := (hab f rfl).1.2
      rw [show f = m by omega, hu] at hf
      cases hf
theorem ct_del {n : Nat} (hT : TW us bi le ro ch) (hC : CT us bi le pe D) (hn : ud us n) (h1 : ∀ m, ud us' m → ud us m) (h2 : ∀ m, ud us m → m ≠ n → pe m ≠ none → ud us' m) : CT us' bi le (va_up pe n none) (ddel D (bi n) (le n)) := by
  intro pp l r
  unfold ddel
  by_cases q : pp = bi n ∧ l = le n
  · rw [if_pos q]
    constructor
    · intro e; cases e
    · rintro ⟨m, hm, e1, e2, e3⟩
      have : m = n := hT.2.1 m n (h1 m hm) hn (by rw [e2, q.2]) (by rw [e1, q.1])
      rw [this, up_s] at e3
      cases e3
  · rw [if_neg q, hC pp l r]
    constructor
    · rintro ⟨m, hm, e1, e2, e3⟩
      have hmn : m ≠ n := fun e => q (by rw [← e1, ← e2, e]; exact ⟨rfl, rfl⟩)
      exact ⟨m, h2 m hm hmn (by rw [e3]; intro z; cases z), e1, e2, by rw [up_n _ _ hmn]; exact e3⟩
    · rintro ⟨m, hm, e1, e2, e3⟩
      have hmn : m ≠ n := fun e => q (by rw [← e1, ← e2, e]; exact ⟨rfl, rfl⟩)
      exact ⟨m, h1 m hm, e1, e2, by rw [up_n _ _ hmn] at e3; exact e3⟩
/-- held no longer, but with two children: it stays as a fork -/
theorem tok_out2 {he n y : Nat} (h : TOK he ro fr us bi le pe ch D) (hn : ud us n) (hp : pe n = some y) (k0 : ch (2 * n) ≠ none) (k1 : ch (2 * n + 1) ≠ none) : 1 ≤ he ∧ TOK (he - 1) ro fr us bi le (va_up pe n none) ch (ddel D (bi n) (le n)) := by
  obtain ⟨h1, h2, h3, h4, h5, h6, h7⟩ := h
  have a := hc_up (us := us) (us' := us) (pe := pe) (pe' := va_up pe n none) n hn.1 true none (fun m _ => by by_cases q : m = n; rw [q, if_pos rfl]; exact hn.2; rw [if_neg q]) (fun m _ q _ => up_n _ _ q) (up_s _ _ _)
  rw [hn.2, hp] at a
  simp at a
  refine ⟨by omega, h1, h2, ?_, ?_, by omega, by omega, ct_del h1 h7 hn (fun m q => q) (fun m q _ _ => q)⟩
  · intro m hm e
    by_cases q : m = n
    · rw [q]; exact ⟨k0, k1⟩
    · rw [up_n _ _ q] at e; exact h3 m hm e
  · intro m r hm e
    by_cases q : m = n
    · rw [q, up_s] at e; cases e
    · rw [up_n _ _ q] at e; exact h4 m r hm e
/-- one child at most: it goes; the place above is no fork left with one child -/
theorem tok_out1 {he n y pp k : Nat} {ab fu r : Option Nat} (h : TOK he ro fr us bi le pe ch D) (hn : ud us n) (hp : pe n = some y) (hF : FAB us bi le ro ch pp k ab fu) (hk : le n = k) (hv : sv ro ch (so le pp ab) = some n) (hr : (ch (2 * n) = none ∧ ch (2 * n + 1) = r) ∨ (ch (2 * n + 1) = none ∧ ch (2 * n) = r)) (hok : r = none → ∀ f, ab = some f → pe f ≠ none) :
    1 ≤ he ∧ TOK (he - 1) (ldR ab r ro) (some n) (va_up us n false) bi le (va_up pe n none) (va_up (ldC le pp ab r ch) (2 * n) fr) (ddel D (bi n) (le n)) := by
  obtain ⟨h1, h2, h3, h4, h5, h6, h7⟩ := h
  have hab : ∀ f, ab = some f → ud us f ∧ f ≠ n := fun f e => ⟨(hF.1 f e).1, fun e2 => by have := (hF.1 f e).2.1; rw [e2] at this; omega⟩
  obtain ⟨c1, c2, c3⟩ := rm_core h1 h2 hn hab hv hr
  have a := hc_up (us := us) (us' := va_up us n false) (pe := pe) (pe' := va_up pe n none) n hn.1 false none (fun m _ => rfl) (fun m _ q _ => up_n _ _ q) (up_s _ _ _)
  rw [hn.2, hp] at a
  simp at a
  refine ⟨by omega, c1, c2, ?_, ?_, by omega, by omega, ct_del h1 h7 hn (fun m q => ((ud_rm m).mp q).1) (fun m q q2 _ => (ud_rm m).mpr ⟨q, q2⟩)⟩
  · intro m hm e
    obtain ⟨m1, m2⟩ := (ud_rm m).mp hm
    rw [up_n _ _ m2] at e
    obtain ⟨k0, k1⟩ := h3 m m1 e
    have side : ∀ b, b < 2 → ch (2 * m + b) ≠ none → va_up (ldC le pp ab r ch) (2 * n) fr (2 * m + b) ≠ none := by
      intro b hb hh
      rw [c3 _ (by omega)]
      by_cases q : some (2 * m + b) = so le pp ab
      · rw [if_pos q]
        intro z
        cases ab with
        | none => cases q
        | some f =>
          have q : 2 * m + b = 2 * f + bt pp (le f) := Option.some.inj q
          have := bt_lt pp (le f)
          exact hok z f rfl (by rw [show f = m by omega]; exact e)
      · rw [if_neg q]; exact hh
    exact ⟨side 0 (by decide) k0, side 1 (by decide) k1⟩
  · intro m r2 hm e
    obtain ⟨m1, m2⟩ := (ud_rm m).mp hm
    rw [up_n _ _ m2] at e
    exact h4 m r2 m1 e
/-- no child, and a fork f right above: both go -/
theorem tok_out0 {he n y pp k f : Nat} {fu r : Option Nat} (h : TOK he ro fr us bi le pe ch D) (hn : ud us n) (hp : pe n = some y) (hF : FAB us bi le ro ch pp k (some f) fu) (hk : le n = k) (hv : sv ro ch (so le pp (some f)) = some n) (k0 : ch (2 * n) = none) (k1 : ch (2 * n + 1) = none) (hf : pe f = none)
    {ch1 : Nat → Option Nat} (e1 : ch1 = va_up (ldC le pp (some f) none ch) (2 * n) fr) (hr : (ch1 (2 * f) ≠ none ∧ r = ch1 (2 * f)) ∨ (ch1 (2 * f) = none ∧ r = ch1 (2 * f + 1))) :
    1 ≤ he ∧ TOK (he - 1) (ldR fu r ro) (some f) (va_up (va_up us n false) f false) bi le (va_up pe n none) (va_up (ldC le (bi f) fu r ch1) (2 * f) (some n)) (ddel D (bi n) (le n)) := by
  obtain ⟨h1, h2, h3, h4, h5, h6, h7⟩ := h
  obtain ⟨f1, f2, f3, f4, f5⟩ := hF.1 f rfl
  have hfn : f ≠ n := fun e => by rw [e] at f2; omega
  have hab : ∀ f', some f = some f' → ud us f' ∧ f' ≠ n := fun f' e => by cases e; exact ⟨f1, hfn⟩
  obtain ⟨c1, c2, c3⟩ := rm_core (r := none) h1 h2 hn hab hv (Or.inl ⟨k0, k1⟩)
  rw [← e1] at c1 c2 c3
  have c1 : TW (va_up us n false) bi le ro ch1 := c1
  have hbf := bt_lt pp (le f)
  have hf' : ud (va_up us n false) f := (ud_rm f).mpr ⟨f1, hfn⟩
  have hfu : ∀ g, fu = some g → ud (va_up us n false) g ∧ g ≠ f := by
    intro g e
    obtain ⟨g1, g2, -⟩ := f5 g e
    refine ⟨(ud_rm g).mpr ⟨g1, fun e2 => ?_⟩, fun e2 => ?_⟩
    · rw [e2] at g2; omega
    · rw [e2] at g2; omega
  have hso : so le (bi f) fu = so le pp fu := by
    cases fu with
    | none => rfl
    | some g =>
      obtain ⟨g1, g2, -⟩ := f5 g rfl
      show some (2 * g + bt (bi f) (le g)) = some (2 * g + bt pp (le g))
      rw [← f3, bt_ct pp g2 (h1.1 f f1).1]
  have hv2 : sv ro ch1 (so le (bi f) fu) = some f := by
    rw [hso]
    cases fu with
    | none => exact f4
    | some g =>
      have hb := bt_lt pp (le g)
      obtain ⟨g1, g2⟩ := hfu g rfl
      show ch1 (2 * g + bt pp (le g)) = some f
      rw [c3 _ (by have := ((ud_rm g).mp g1).2; omega), if_neg]
      · exact f4
      · intro e
        have e : 2 * g + bt pp (le g) = 2 * f + bt pp (le f) := Option.some.inj e
        omega
  -- the one place of the fork is empty now
  have hemp : ch1 (2 * f + bt pp (le f)) = none := by
    rw [c3 _ (by omega)]
    exact if_pos rfl
  have hr2 : (ch1 (2 * f) = none ∧ ch1 (2 * f + 1) = r) ∨ (ch1 (2 * f + 1) = none ∧ ch1 (2 * f) = r) := by
    rcases hr with ⟨q1, q2⟩ | ⟨q1, q2⟩
    · right
      refine ⟨?_, q2.symm⟩
      rcases (show bt pp (le f) = 0 ∨ bt pp (le f) = 1 by omega) with z | z
      · rw [z] at hemp; exact absurd hemp q1
      · rw [z] at hemp; exact hemp
    · exact Or.inl ⟨q1, q2.symm⟩
  have hrs : r ≠ none := by
    obtain ⟨z0, z1⟩ := h3 f f1 hf
    rcases hr with ⟨q1, q2⟩ | ⟨q1, q2⟩
    · rw [q2]; exact q1
    · rw [q2]
      rcases (show bt pp (le f) = 0 ∨ bt pp (le f) = 1 by omega) with z | z
      · rw [c3 _ (by omega), if_neg]
        · exact z1
        · intro e
          have e : 2 * f + 1 = 2 * f + bt pp (le f) := Option.some.inj e
          omega
      · exfalso
        rw [c3 _ (by omega), if_neg] at q1
        · exact z0 q1
        · intro e
          have e : 2 * f = 2 * f + bt pp (le f) := Option.some.inj e
          omega
  obtain ⟨d1, d2, d3⟩ := rm_core c1 c2 hf' hfu hv2 hr2
  have a := hc_up (us := us) (us' := va_up us n false) (pe := pe) (pe' := va_up pe n none) n hn.1 false none (fun m _ => rfl) (fun m _ q _ => up_n _ _ q) (up_s _ _ _)
  have a2 := hc_up (us := va_up us n false) (us' := va_up (va_up us n false) f false) (pe := va_up pe n none) (pe' := va_up pe n none) f f1.1 false none (fun m _ => rfl) (fun m _ q _ => rfl) (by rw [up_n _ _ hfn]; exact hf)
  rw [hn.2, hp] at a
  rw [up_n _ _ hfn, up_n _ _ hfn, hf] at a2
  simp at a a2
  refine ⟨by omega, d1, d2, ?_, ?_, by omega, by omega, ct_del h1 h7 hn (fun m q => ((ud_rm m).mp ((ud_rm m).mp q).1).1) (fun m q q2 q3 => (ud_rm m).mpr ⟨(ud_rm m).mpr ⟨q, q2⟩, fun e => q3 (by rw [e]; exact hf)⟩)⟩
  · intro m hm e
    obtain ⟨m0, m3⟩ := (ud_rm m).mp hm
    obtain ⟨m1, m2⟩ := (ud_rm m).mp m0
    rw [up_n _ _ m2] at e
    obtain ⟨z0, z1⟩ := h3 m m1 e
    have side : ∀ b, b < 2 → ch (2 * m + b) ≠ none → va_up (ldC le (bi f) fu r ch1) (2 * f) (some n) (2 * m + b) ≠ none := by
      intro b hb hh
      rw [d3 _ (by omega)]
      by_cases q : some (2 * m + b) = so le (bi f) fu
      · rw [if_pos q]; exact hrs
      · rw [if_neg q, c3 _ (by omega), if_neg]
        · exact hh
        · intro e2
          have e2 : 2 * m + b = 2 * f + bt pp (le f) := Option.some.inj e2
          omega
    exact ⟨side 0 (by decide) z0, side 1 (by decide) z1⟩
  · intro m r2 hm e
    obtain ⟨m0, m3⟩ := (ud_rm m).mp hm
    obtain ⟨m1, m2⟩ := (ud_rm m).mp m0
    rw [up_n _ _ m2] at e
    exact h4 m r2 m1 e
/-- a new node is there while fewer than 32 are held; and one more for a fork -/
theorem tok_room {he : Nat} (h : TOK he ro fr us bi le pe ch D) (h32 : he < 32) : ∃ x, fr = some x ∧ x < 64 ∧ us x = false ∧ ∃ z, ch (2 * x) = some z ∧ z < 64 ∧ z ≠ x ∧ us z = false := by
  obtain ⟨h1, h2, h3, h4, h5, h6, h7⟩ := h
  have hc0 : fb_ct us 64 ≤ 2 * hc us pe := cnt_used h1 h3
  obtain ⟨x, rfl, x1, x2⟩ := fl_some h2 (by omega)
  refine ⟨x, rfl, x1, x2, ?_⟩
  have hF := fl_pop (us' := va_up us x true) (ch' := ch) h2 (fun n _ => rfl) (fun n _ _ _ => rfl)
  have hcu := fb_ct_upd us true x1
  rw [x2] at hcu
  simp at hcu
  obtain ⟨z, z1, z2, z3⟩ := fl_some hF (by
    have : fb_ct (va_up us x true) 64 = fb_ct (fun k => if k = x then true else us k) 64 := fb_ct_cong (fun k _ => rfl)
    rw [this]
    simp
    omega)
  have hzx : z ≠ x := fun e => by rw [e, up_s] at z3; cases z3
  exact ⟨z, z1, z2, hzx, by rw [up_n _ _ hzx] at z3; exact z3⟩
end RMV
end
section
/-! typed rows: what the two classes' cells hold, in numbers (nI), options (oI), booleans (bI), whole numbers (zI) -/
def oI : Option Nat → Int32
  | none => -1
  | some n => nI n
def bI : Bool → Int32
  | true => nI 1
  | false => nI 0
def zI (z : Int) : Int32 := Int32.ofInt z
abbrev vwCl : List vw_C := [(RX0, TX0, 14), (RX1, TX1, 4)]
/-- the cells of a PeerRoutes -/
abbrev xW (cI cZ : ClassId) (q : Nat → Nat) (he : Nat) (ro : Option Nat) (fr : Option Nat) (ab : Option Nat) (fu : Option Nat) (us : Nat → Bool) (bi : Nat → Nat) (le : Nat → Nat) (pe : Nat → Option Nat) (ch : Nat → Option Nat) (su : Nat → Int) (se : Nat → Int) (ha : Nat → Option Nat) (sk : Nat → Nat) : va_W := [(q 0, .inr (0, [.int (nI he), .int (oI ro), .int (oI fr), .ref (q 3), .ref (q 4), .ref (q 5), .ref (q 6), .ref (q 7), .int (oI ab), .int (oI fu), .ref (q 10), .ref (q 11), .ref (q 12), .ref (q 13)])), (q 3, .inl (cZ, 64, .inl (fun j => bI (us j)))), (q 4, .inl (cI, 64, .inl (fun j => nI (bi j)))), (q 5, .inl (cI, 64, .inl (fun j => nI (le j)))), (q 6, .inl (cI, 64, .inl (fun j => oI (pe j)))), (q 7, .inl (cI, 128, .inl (fun j => oI (ch j)))), (q 10, .inl (cI, 9, .inl (fun j => zI (su j)))), (q 11, .inl (cI, 64, .inl (fun j => zI (se j)))), (q 12, .inl (cI, 64, .inl (fun j => oI (ha j)))), (q 13, .inl (cI, 64, .inl (fun j => nI (sk j))))]
/-- the cells of a PeerRoutesModel -/
abbrev mW (cI : ClassId) (q : Nat → Nat) (en : Nat) (sr : Nat → Nat) (ln : Nat → Nat) (pr : Nat → Nat) : va_W := [(q 0, .inr (1, [.int (nI en), .ref (q 1), .ref (q 2), .ref (q 3)])), (q 1, .inl (cI, 32, .inl (fun j => nI (sr j)))), (q 2, .inl (cI, 32, .inl (fun j => nI (ln j)))), (q 3, .inl (cI, 32, .inl (fun j => nI (pr j))))]
abbrev xT (cI cZ : ClassId) : List (ClassId × FieldType) := [(cI, .int), (cZ, .boolean)]
abbrev mT (cI : ClassId) : List (ClassId × FieldType) := [(cI, .int)]
theorem nI_c {n : Nat} (h : n < 1000) : (nI n).toNatClampNeg = n := nI_clamp (by omega)
theorem upd_map {α : Type} (g : α → Int32) (b : Nat → α) (n : Nat) (v : α) : upd (fun j => g (b j)) n (g v) = fun j => g (va_up b n v j) := by
  funext j
  by_cases h : j = n <;> simp [upd, va_up, h]
theorem nar_b (b : Bool) : vp_nar .boolean (bI b) = bI b := by cases b <;> decide
theorem va_up_s {α : Type} (f : Nat → α) (k : Nat) (v : α) : va_up f k v k = v := by simp [va_up]
theorem va_up_n {α : Type} (f : Nat → α) {k j : Nat} (v : α) (h : j ≠ k) : va_up f k v j = f j := by simp [va_up, h]
theorem oI_lt {x : Option Nat} (hx : ∀ n, x = some n → n < 2 ^ 31) : oI x < 0 ↔ x = none := by
  cases x with
  | none => exact ⟨fun _ => rfl, fun _ => by decide⟩
  | some n => exact ⟨fun h => absurd h (nI_pos (hx n rfl)), fun h => by cases h⟩
theorem oI_ge {x : Option Nat} (hx : ∀ n, x = some n → n < 2 ^ 31) : 0 ≤ oI x ↔ ∃ n, x = some n := by
  cases x with
  | none => exact ⟨fun h => absurd h (by decide), fun ⟨n, h⟩ => by cases h⟩
  | some n => exact ⟨fun _ => ⟨n, rfl⟩, fun _ => nI_pos' (hx n rfl)⟩
theorem oI_inj {x y : Option Nat} (hx : ∀ n, x = some n → n < 2 ^ 31) (hy : ∀ n, y = some n → n < 2 ^ 31) : oI x = oI y ↔ x = y := by
  refine ⟨fun h => ?_, fun h => by rw [h]⟩
  cases x with
  | none =>
    cases y with
    | none => rfl
    | some n =>
      exfalso
      have h1 : nI n < 0 := by
        have : oI (some n) < 0 := by rw [← h]; decide
        exact this
      exact nI_pos (hy n rfl) h1
  | some a =>
    cases y with
    | none =>
      exfalso
      have h1 : nI a < 0 := by
        have : oI (some a) < 0 := by rw [h]; decide
        exact this
      exact nI_pos (hx a rfl) h1
    | some b => rw [(nI_eq (hx a rfl) (hy b rfl)).mp h]
theorem zI_n (n : Nat) : nI n = zI (n : Int) := (Int32.ofInt_eq_ofNat).symm
theorem zI_add (a b : Int) : zI a + zI b = zI (a + b) := (Int32.ofInt_add a b).symm
theorem zI_sub (a b : Int) : zI a - zI b = zI (a - b) := (Int32.ofInt_sub a b).symm
section ROWS
variable {p : Program} {l : Launch} {e : Env} {R : Room} {s : State} {m : MethodId} {args : Array Value} {below : List Frame} {meth : Method} {c : Code} {H : Heap} {locs : List Loc} {cells slots : Nat} {Q : State → Prop}
variable {cc : ByteArray} {pc : Nat} {ls : Array Slot} {rest : List Value} {D : va_G} {A : Nat → Prop} {H0 : Heap} {cI cZ : ClassId} {q : Nat → Nat} {tys : List (ClassId × FieldType)}
theorem r_top {x y : Int32} (h : x = y) (kk : W p l e R s m args below meth c H locs cells slots Q (F0 m pc ls (.int y :: rest))) : W p l e R s m args below meth c H locs cells slots Q (F0 m pc ls (.int x :: rest)) := h ▸ kk
theorem r_nameo (x : Option Nat) (kk : ∀ y, y = x → W p l e R s m args below meth c H locs cells slots Q (F0 m pc ls (.int (oI y) :: rest))) : W p l e R s m args below meth c H locs cells slots Q (F0 m pc ls (.int (oI x) :: rest)) := kk x rfl
theorem r_namen (x : Nat) (kk : ∀ y, y = x → W p l e R s m args below meth c H locs cells slots Q (F0 m pc ls (.int (nI y) :: rest))) : W p l e R s m args below meth c H locs cells slots Q (F0 m pc ls (.int (nI x) :: rest)) := kk x rfl
theorem r_iadd (hx : p.tables.exec = Jvm.exec) (hb : c.code = cc) {a b : Nat} (hd : decode cc pc = .ok (.iadd, 1)) (kk : W p l e R s m args below meth c H locs cells slots Q (F0 m (pc + 1) ls (.int (nI (a + b)) :: rest))) : W p l e R s m args below meth c H locs cells slots Q (F0 m pc ls (.int (nI b) :: .int (nI a) :: rest)) := lv_iadd hx hb hd (by rw [nI_add]; exact kk)
theorem r_imul (hx : p.tables.exec = Jvm.exec) (hb : c.code = cc) {a b : Nat} (hd : decode cc pc = .ok (.imul, 1)) (kk : W p l e R s m args below meth c H locs cells slots Q (F0 m (pc + 1) ls (.int (nI (a * b)) :: rest))) : W p l e R s m args below meth c H locs cells slots Q (F0 m pc ls (.int (nI b) :: .int (nI a) :: rest)) := lv_imul hx hb hd (by rw [pk_mul]; exact kk)
theorem r_isub (hx : p.tables.exec = Jvm.exec) (hb : c.code = cc) {a b : Nat} (h : b ≤ a) (hd : decode cc pc = .ok (.isub, 1)) (kk : W p l e R s m args below meth c H locs cells slots Q (F0 m (pc + 1) ls (.int (nI (a - b)) :: rest))) : W p l e R s m args below meth c H locs cells slots Q (F0 m pc ls (.int (nI b) :: .int (nI a) :: rest)) := lv_isub hx hb hd (by rw [pk_sub h]; exact kk)
theorem r_ziadd (hx : p.tables.exec = Jvm.exec) (hb : c.code = cc) {a b : Int} (hd : decode cc pc = .ok (.iadd, 1)) (kk : W p l e R s m args below meth c H locs cells slots Q (F0 m (pc + 1) ls (.int (zI (a + b)) :: rest))) : W p l e R s m args below meth c H locs cells slots Q (F0 m pc ls (.int (zI b) :: .int (zI a) :: rest)) := lv_iadd hx hb hd (by rw [zI_add]; exact kk)
theorem r_zisub (hx : p.tables.exec = Jvm.exec) (hb : c.code = cc) {a b : Int} (hd : decode cc pc = .ok (.isub, 1)) (kk : W p l e R s m args below meth c H locs cells slots Q (F0 m (pc + 1) ls (.int (zI (a - b)) :: rest))) : W p l e R s m args below meth c H locs cells slots Q (F0 m pc ls (.int (zI b) :: .int (zI a) :: rest)) := lv_isub hx hb hd (by rw [zI_sub]; exact kk)
theorem r_ge (hx : p.tables.exec = Jvm.exec) (hb : c.code = cc) {a b : Nat} (h1 : a < 2 ^ 31) (h2 : b < 2 ^ 31) {off : Int} {tgt : Nat} (hd : decode cc pc = .ok (.if_icmp .ge off, 3)) (ht : (pc : Int) + off = (tgt : Int)) (kt : b ≤ a → W p l e R s m args below meth c H locs cells slots Q (F0 m tgt ls (rest))) (kf : a < b → W p l e R s m args below meth c H locs cells slots Q (F0 m (pc + 3) ls (rest))) : W p l e R s m args below meth c H locs cells slots Q (F0 m pc ls (.int (nI b) :: .int (nI a) :: rest)) := lv_icmp_ge hx hb hd ht (fun h => kt ((nI_leI h2 h1).mp h)) (fun h => kf (Nat.lt_of_not_le (fun g => h ((nI_leI h2 h1).mpr g))))
theorem r_gt (hx : p.tables.exec = Jvm.exec) (hb : c.code = cc) {a b : Nat} (h1 : a < 2 ^ 31) (h2 : b < 2 ^ 31) {off : Int} {tgt : Nat} (hd : decode cc pc = .ok (.if_icmp .gt off, 3)) (ht : (pc : Int) + off = (tgt : Int)) (kt : b < a → W p l e R s m args below meth c H locs cells slots Q (F0 m tgt ls (rest))) (kf : a ≤ b → W p l e R s m args below meth c H locs cells slots Q (F0 m (pc + 3) ls (rest))) : W p l e R s m args below meth c H locs cells slots Q (F0 m pc ls (.int (nI b) :: .int (nI a) :: rest)) := lv_icmp_gt hx hb hd ht (fun h => kt ((nI_ltI h2 h1).mp h)) (fun h => kf (Nat.le_of_not_lt (fun g => h ((nI_ltI h2 h1).mpr g))))
theorem r_lt (hx : p.tables.exec = Jvm.exec) (hb : c.code = cc) {a b : Nat} (h1 : a < 2 ^ 31) (h2 : b < 2 ^ 31) {off : Int} {tgt : Nat} (hd : decode cc pc = .ok (.if_icmp .lt off, 3)) (ht : (pc : Int) + off = (tgt : Int)) (kt : a < b → W p l e R s m args below meth c H locs cells slots Q (F0 m tgt ls (rest))) (kf : b ≤ a → W p l e R s m args below meth c H locs cells slots Q (F0 m (pc + 3) ls (rest))) : W p l e R s m args below meth c H locs cells slots Q (F0 m pc ls (.int (nI b) :: .int (nI a) :: rest)) := lv_icmp_lt hx hb hd ht (fun h => kt ((nI_ltI h1 h2).mp h)) (fun h => kf (Nat.le_of_not_lt (fun g => h ((nI_ltI h1 h2).mpr g))))
theorem r_le (hx : p.tables.exec = Jvm.exec) (hb : c.code = cc) {a b : Nat} (h1 : a < 2 ^ 31) (h2 : b < 2 ^ 31) {off : Int} {tgt : Nat} (hd : decode cc pc = .ok (.if_icmp .le off, 3)) (ht : (pc : Int) + off = (tgt : Int)) (kt : a ≤ b → W p l e R s m args below meth c H locs cells slots Q (F0 m tgt ls (rest))) (kf : b < a → W p l e R s m args below meth c H locs cells slots Q (F0 m (pc + 3) ls (rest))) : W p l e R s m args below meth c H locs cells slots Q (F0 m pc ls (.int (nI b) :: .int (nI a) :: rest)) := lv_icmp_le hx hb hd ht (fun h => kt ((nI_leI h1 h2).mp h)) (fun h => kf (Nat.lt_of_not_le (fun g => h ((nI_leI h1 h2).mpr g))))
theorem r_eq (hx : p.tables.exec = Jvm.exec) (hb : c.code = cc) {a b : Nat} (h1 : a < 2 ^ 31) (h2 : b < 2 ^ 31) {off : Int} {tgt : Nat} (hd : decode cc pc = .ok (.if_icmp .eq off, 3)) (ht : (pc : Int) + off = (tgt : Int)) (kt : a = b → W p l e R s m args below meth c H locs cells slots Q (F0 m tgt ls (rest))) (kf : ¬ a = b → W p l e R s m args below meth c H locs cells slots Q (F0 m (pc + 3) ls (rest))) : W p l e R s m args below meth c H locs cells slots Q (F0 m pc ls (.int (nI b) :: .int (nI a) :: rest)) := lv_icmp_eq hx hb hd ht (fun h => kt ((nI_eq h1 h2).mp h)) (fun h => kf (fun g => h ((nI_eq h1 h2).mpr g)))
theorem r_ne (hx : p.tables.exec = Jvm.exec) (hb : c.code = cc) {a b : Nat} (h1 : a < 2 ^ 31) (h2 : b < 2 ^ 31) {off : Int} {tgt : Nat} (hd : decode cc pc = .ok (.if_icmp .ne off, 3)) (ht : (pc : Int) + off = (tgt : Int)) (kt : ¬ a = b → W p l e R s m args below meth c H locs cells slots Q (F0 m tgt ls (rest))) (kf : a = b → W p l e R s m args below meth c H locs cells slots Q (F0 m (pc + 3) ls (rest))) : W p l e R s m args below meth c H locs cells slots Q (F0 m pc ls (.int (nI b) :: .int (nI a) :: rest)) := lv_icmp_ne hx hb hd ht (fun h => kt (fun g => h ((nI_eq h1 h2).mpr g))) (fun h => kf ((nI_eq h1 h2).mp h))
theorem r_eqo (hx : p.tables.exec = Jvm.exec) (hb : c.code = cc) {x y : Option Nat} (h1 : ∀ n, x = some n → n < 2 ^ 31) (h2 : ∀ n, y = some n → n < 2 ^ 31) {off : Int} {tgt : Nat} (hd : decode cc pc = .ok (.if_icmp .eq off, 3)) (ht : (pc : Int) + off = (tgt : Int)) (kt : x = y → W p l e R s m args below meth c H locs cells slots Q (F0 m tgt ls (rest))) (kf : ¬ x = y → W p l e R s m args below meth c H locs cells slots Q (F0 m (pc + 3) ls (rest))) : W p l e R s m args below meth c H locs cells slots Q (F0 m pc ls (.int (oI y) :: .int (oI x) :: rest)) := lv_icmp_eq hx hb hd ht (fun h => kt ((oI_inj h1 h2).mp h)) (fun h => kf (fun g => h ((oI_inj h1 h2).mpr g)))
theorem r_neo (hx : p.tables.exec = Jvm.exec) (hb : c.code = cc) {x y : Option Nat} (h1 : ∀ n, x = some n → n < 2 ^ 31) (h2 : ∀ n, y = some n → n < 2 ^ 31) {off : Int} {tgt : Nat} (hd : decode cc pc = .ok (.if_icmp .ne off, 3)) (ht : (pc : Int) + off = (tgt : Int)) (kt : ¬ x = y → W p l e R s m args below meth c H locs cells slots Q (F0 m tgt ls (rest))) (kf : x = y → W p l e R s m args below meth c H locs cells slots Q (F0 m (pc + 3) ls (rest))) : W p l e R s m args below meth c H locs cells slots Q (F0 m pc ls (.int (oI y) :: .int (oI x) :: rest)) := lv_icmp_ne hx hb hd ht (fun h => kt (fun g => h ((oI_inj h1 h2).mpr g))) (fun h => kf ((oI_inj h1 h2).mp h))
theorem r_ifltO (hx : p.tables.exec = Jvm.exec) (hb : c.code = cc) {x : Option Nat} (h1 : ∀ n, x = some n → n < 2 ^ 31) {off : Int} {tgt : Nat} (hd : decode cc pc = .ok (.ifCond .lt off, 3)) (ht : (pc : Int) + off = (tgt : Int)) (kt : x = none → W p l e R s m args below meth c H locs cells slots Q (F0 m tgt ls (rest))) (kf : ∀ n, x = some n → W p l e R s m args below meth c H locs cells slots Q (F0 m (pc + 3) ls (rest))) : W p l e R s m args below meth c H locs cells slots Q (F0 m pc ls (.int (oI x) :: rest)) := lv_if_lt hx hb hd ht (fun h => kt ((oI_lt h1).mp h)) (fun h => by cases x with | none => exact absurd (by decide) h | some n => exact kf n rfl)
theorem r_ifgeO (hx : p.tables.exec = Jvm.exec) (hb : c.code = cc) {x : Option Nat} (h1 : ∀ n, x = some n → n < 2 ^ 31) {off : Int} {tgt : Nat} (hd : decode cc pc = .ok (.ifCond .ge off, 3)) (ht : (pc : Int) + off = (tgt : Int)) (kt : ∀ n, x = some n → W p l e R s m args below meth c H locs cells slots Q (F0 m tgt ls (rest))) (kf : x = none → W p l e R s m args below meth c H locs cells slots Q (F0 m (pc + 3) ls (rest))) : W p l e R s m args below meth c H locs cells slots Q (F0 m pc ls (.int (oI x) :: rest)) := lv_if_ge hx hb hd ht (fun h => by cases x with | none => exact absurd h (by decide) | some n => exact kt n rfl) (fun h => by cases x with | none => exact kf rfl | some n => exact absurd (nI_pos' (h1 n rfl)) h)
theorem r_ifeqB (hx : p.tables.exec = Jvm.exec) (hb : c.code = cc) {b : Bool} {off : Int} {tgt : Nat} (hd : decode cc pc = .ok (.ifCond .eq off, 3)) (ht : (pc : Int) + off = (tgt : Int)) (kt : b = false → W p l e R s m args below meth c H locs cells slots Q (F0 m tgt ls (rest))) (kf : b = true → W p l e R s m args below meth c H locs cells slots Q (F0 m (pc + 3) ls (rest))) : W p l e R s m args below meth c H locs cells slots Q (F0 m pc ls (.int (bI b) :: rest)) := lv_if_eq hx hb hd ht (fun h => by cases b with | false => exact kt rfl | true => exact absurd h (by decide)) (fun h => by cases b with | false => exact absurd (by decide) h | true => exact kf rfl)
theorem r_ifneB (hx : p.tables.exec = Jvm.exec) (hb : c.code = cc) {b : Bool} {off : Int} {tgt : Nat} (hd : decode cc pc = .ok (.ifCond .ne off, 3)) (ht : (pc : Int) + off = (tgt : Int)) (kt : b = true → W p l e R s m args below meth c H locs cells slots Q (F0 m tgt ls (rest))) (kf : b = false → W p l e R s m args below meth c H locs cells slots Q (F0 m (pc + 3) ls (rest))) : W p l e R s m args below meth c H locs cells slots Q (F0 m pc ls (.int (bI b) :: rest)) := lv_if_ne hx hb hd ht (fun h => by cases b with | false => exact absurd (by decide) h | true => exact kt rfl) (fun h => by cases b with | false => exact kf rfl | true => exact absurd h (by decide))
theorem r_ifleN (hx : p.tables.exec = Jvm.exec) (hb : c.code = cc) {a : Nat} (h1 : a < 2 ^ 31) {off : Int} {tgt : Nat} (hd : decode cc pc = .ok (.ifCond .le off, 3)) (ht : (pc : Int) + off = (tgt : Int)) (kt : a = 0 → W p l e R s m args below meth c H locs cells slots Q (F0 m tgt ls (rest))) (kf : 0 < a → W p l e R s m args below meth c H locs cells slots Q (F0 m (pc + 3) ls (rest))) : W p l e R s m args below meth c H locs cells slots Q (F0 m pc ls (.int (nI a) :: rest)) := lv_if_le hx hb hd ht (fun h => kt (by rcases Nat.eq_zero_or_pos a with g | g; exact g; exact absurd h (nI_nle g h1))) (fun h => kf (by rcases Nat.eq_zero_or_pos a with g | g; exact absurd (by rw [g]; decide) h; exact g))
theorem r_ifltN (hx : p.tables.exec = Jvm.exec) (hb : c.code = cc) {a : Nat} (h1 : a < 2 ^ 31) {off : Int} {tgt : Nat} (hd : decode cc pc = .ok (.ifCond .lt off, 3)) (ht : (pc : Int) + off = (tgt : Int)) (kf : W p l e R s m args below meth c H locs cells slots Q (F0 m (pc + 3) ls (rest))) : W p l e R s m args below meth c H locs cells slots Q (F0 m pc ls (.int (nI a) :: rest)) := lv_if_lt hx hb hd ht (fun h => absurd h (nI_pos h1)) (fun _ => kf)
theorem r_join {st : List Value} (pj : Nat) (φ : Int32 → Prop) (hj : ∀ v, φ v → W p l e R s m args below meth c H locs cells slots Q (F0 m pj ls (.int v :: rest))) (kk : (∀ v, φ v → W p l e R s m args below meth c H locs cells slots Q (F0 m pj ls (.int v :: rest))) → W p l e R s m args below meth c H locs cells slots Q (F0 m pc ls (st))) : W p l e R s m args below meth c H locs cells slots Q (F0 m pc ls (st)) := kk hj
theorem r_join0 {st : List Value} (pj : Nat) (φ : Prop) (hj : φ → W p l e R s m args below meth c H locs cells slots Q (F0 m pj ls (rest))) (kk : (φ → W p l e R s m args below meth c H locs cells slots Q (F0 m pj ls (rest))) → W p l e R s m args below meth c H locs cells slots Q (F0 m pc ls (st))) : W p l e R s m args below meth c H locs cells slots Q (F0 m pc ls (st)) := kk hj
theorem r_loop {σ : Type} {nL : Nat} (lv : σ → List (Nat × Value)) (I : σ → Prop) (μ : σ → Nat) (hs : ∀ (x : σ) (ls : Array Slot), I x → lv_has ls nL (lv x) → (∀ (y : σ) (ls : Array Slot), I y → μ y < μ x → lv_has ls nL (lv y) → W p l e R s m args below meth c H locs cells slots Q (F0 m pc ls ([]))) → W p l e R s m args below meth c H locs cells slots Q (F0 m pc ls ([]))) (x : σ) (hI : I x) (hl : lv_has ls nL (lv x)) : W p l e R s m args below meth c H locs cells slots Q (F0 m pc ls ([])) := by
  have key : ∀ (k : Nat) (x : σ) (ls : Array Slot), μ x < k → I x → lv_has ls nL (lv x) → W p l e R s m args below meth c H locs cells slots Q (F0 m pc ls ([])) := by
    intro k
    induction k with
    | zero => intro x ls h; exact absurd h (Nat.not_lt_zero _)
    | succ k ih => intro x ls h hI hl; exact hs x ls hI hl (fun y ls hI h2 hl => ih y ls (by omega) hI hl)
  exact key (μ x + 1) x ls (Nat.lt_succ_self _) hI hl
theorem r_loopH {σ : Type} {nL : Nat} {cl : List vw_C} (lv : σ → List (Nat × Value)) (ws : σ → va_W) (I : σ → Prop) (μ : σ → Nat) (hs : ∀ (x : σ) (ls : Array Slot) (H : Heap) (locs : List Loc), I x → lv_has ls nL (lv x) → va_P D cl (ws x) H → va_D A (ws x) → va_S A H0 H locs → (∀ (y : σ) (ls : Array Slot) (H : Heap) (locs : List Loc), I y → μ y < μ x → lv_has ls nL (lv y) → va_P D cl (ws y) H → va_D A (ws y) → va_S A H0 H locs → W p l e R s m args below meth c H locs cells slots Q (F0 m pc ls ([]))) → W p l e R s m args below meth c H locs cells slots Q (F0 m pc ls ([]))) (x : σ) (hI : I x) (hl : lv_has ls nL (lv x)) (hP : va_P D cl (ws x) H) (hD : va_D A (ws x)) (hS : va_S A H0 H locs) : W p l e R s m args below meth c H locs cells slots Q (F0 m pc ls ([])) := by
  have key : ∀ (k : Nat) (x : σ) (ls : Array Slot) (H : Heap) (locs : List Loc), μ x < k → I x → lv_has ls nL (lv x) → va_P D cl (ws x) H → va_D A (ws x) → va_S A H0 H locs → W p l e R s m args below meth c H locs cells slots Q (F0 m pc ls ([])) := by
    intro k
    induction k with
    | zero => intro x ls H locs h; exact absurd h (Nat.not_lt_zero _)
    | succ k ih => intro x ls H locs h hI hl hP hD hS; exact hs x ls H locs hI hl hP hD hS (fun y ls H locs hI h2 hl hP hD hS => ih y ls H locs (by omega) hI hl hP hD hS)
  exact key (μ x + 1) x ls H locs (Nat.lt_succ_self _) hI hl hP hD hS
theorem gX0_held {he : Nat} {ro : Option Nat} {fr : Option Nat} {ab : Option Nat} {fu : Option Nat} {us : Nat → Bool} {bi : Nat → Nat} {le : Nat → Nat} {pe : Nat → Option Nat} {ch : Nat → Option Nat} {su : Nat → Int} {se : Nat → Int} {ha : Nat → Option Nat} {sk : Nat → Nat} (hx : p.tables.exec = Jvm.exec) (hb : c.code = cc) (hts : ∀ w ∈ lw_all, w.before args s = true) (hown : s.vm.findClass RX0 = some m.cls) (hK : va_K D vwCl tys s) (hP : va_P D vwCl (xW cI cZ q he ro fr ab fu us bi le pe ch su se ha sk) H) (hd : decode cc pc = .ok (.getfield 50, 3)) (kk : W p l e R s m args below meth c H locs cells slots Q (F0 m (pc + 3) ls (.int (nI he) :: rest))) : W p l e R s m args below meth c H locs cells slots Q (F0 m pc ls (.ref (q 0) :: rest)) := va_get (C := RX0) (T := TX0) (N := 14) hx hb hts in_X0 hown hK hP 0 rfl rfl 0 (by decide) (hts _ q27) (fun _ h => h) rfl hd kk
theorem pX0_held {he : Nat} {ro : Option Nat} {fr : Option Nat} {ab : Option Nat} {fu : Option Nat} {us : Nat → Bool} {bi : Nat → Nat} {le : Nat → Nat} {pe : Nat → Option Nat} {ch : Nat → Option Nat} {su : Nat → Int} {se : Nat → Int} {ha : Nat → Option Nat} {sk : Nat → Nat} {v : Nat} (hx : p.tables.exec = Jvm.exec) (hb : c.code = cc) (hts : ∀ w ∈ lw_all, w.before args s = true) (hown : s.vm.findClass RX0 = some m.cls) (hK : va_K D vwCl tys s) (hP : va_P D vwCl (xW cI cZ q he ro fr ab fu us bi le pe ch su se ha sk) H) (hD : va_D A (xW cI cZ q he ro fr ab fu us bi le pe ch su se ha sk)) (hS : va_S A H0 H locs) (hd : decode cc pc = .ok (.putfield 50, 3)) (kk : ∀ (H : Heap) (locs : List Loc), va_P D vwCl (xW cI cZ q v ro fr ab fu us bi le pe ch su se ha sk) H → va_D A (xW cI cZ q v ro fr ab fu us bi le pe ch su se ha sk) → va_S A H0 H locs → W p l e R s m args below meth c H locs cells slots Q (F0 m (pc + 3) ls (rest))) : W p l e R s m args below meth c H locs cells slots Q (F0 m pc ls (.int (nI v) :: .ref (q 0) :: rest)) := va_put (C := RX0) (T := TX0) (N := 14) hx hb hts in_X0 tyX0 tyX0_ok nmX0 hown hK hP hD hS 0 rfl rfl 0 (by decide) (hts _ q27) (fun _ h => h) rfl (ty := .int) (by decide +kernel) rfl rfl (Nat.le_of_ble_eq_true rfl) hd (fun H locs hP hD hS => kk H locs hP hD hS)
theorem gX0_root {he : Nat} {ro : Option Nat} {fr : Option Nat} {ab : Option Nat} {fu : Option Nat} {us : Nat → Bool} {bi : Nat → Nat} {le : Nat → Nat} {pe : Nat → Option Nat} {ch : Nat → Option Nat} {su : Nat → Int} {se : Nat → Int} {ha : Nat → Option Nat} {sk : Nat → Nat} (hx : p.tables.exec = Jvm.exec) (hb : c.code = cc) (hts : ∀ w ∈ lw_all, w.before args s = true) (hown : s.vm.findClass RX0 = some m.cls) (hK : va_K D vwCl tys s) (hP : va_P D vwCl (xW cI cZ q he ro fr ab fu us bi le pe ch su se ha sk) H) (hd : decode cc pc = .ok (.getfield 38, 3)) (kk : W p l e R s m args below meth c H locs cells slots Q (F0 m (pc + 3) ls (.int (oI ro) :: rest))) : W p l e R s m args below meth c H locs cells slots Q (F0 m pc ls (.ref (q 0) :: rest)) := va_get (C := RX0) (T := TX0) (N := 14) hx hb hts in_X0 hown hK hP 0 rfl rfl 1 (by decide) (hts _ q28) (fun _ h => h) rfl hd kk
theorem pX0_root {he : Nat} {ro : Option Nat} {fr : Option Nat} {ab : Option Nat} {fu : Option Nat} {us : Nat → Bool} {bi : Nat → Nat} {le : Nat → Nat} {pe : Nat → Option Nat} {ch : Nat → Option Nat} {su : Nat → Int} {se : Nat → Int} {ha : Nat → Option Nat} {sk : Nat → Nat} {v : Option Nat} (hx : p.tables.exec = Jvm.exec) (hb : c.code = cc) (hts : ∀ w ∈ lw_all, w.before args s = true) (hown : s.vm.findClass RX0 = some m.cls) (hK : va_K D vwCl tys s) (hP : va_P D vwCl (xW cI cZ q he ro fr ab fu us bi le pe ch su se ha sk) H) (hD : va_D A (xW cI cZ q he ro fr ab fu us bi le pe ch su se ha sk)) (hS : va_S A H0 H locs) (hd : decode cc pc = .ok (.putfield 38, 3)) (kk : ∀ (H : Heap) (locs : List Loc), va_P D vwCl (xW cI cZ q he v fr ab fu us bi le pe ch su se ha sk) H → va_D A (xW cI cZ q he v fr ab fu us bi le pe ch su se ha sk) → va_S A H0 H locs → W p l e R s m args below meth c H locs cells slots Q (F0 m (pc + 3) ls (rest))) : W p l e R s m args below meth c H locs cells slots Q (F0 m pc ls (.int (oI v) :: .ref (q 0) :: rest)) := va_put (C := RX0) (T := TX0) (N := 14) hx hb hts in_X0 tyX0 tyX0_ok nmX0 hown hK hP hD hS 0 rfl rfl 1 (by decide) (hts _ q28) (fun _ h => h) rfl (ty := .int) (by decide +kernel) rfl rfl (Nat.le_of_ble_eq_true rfl) hd (fun H locs hP hD hS => kk H locs hP hD hS)
theorem gX0_freeNode {he : Nat} {ro : Option Nat} {fr : Option Nat} {ab : Option Nat} {fu : Option Nat} {us : Nat → Bool} {bi : Nat → Nat} {le : Nat → Nat} {pe : Nat → Option Nat} {ch : Nat → Option Nat} {su : Nat → Int} {se : Nat → Int} {ha : Nat → Option Nat} {sk : Nat → Nat} (hx : p.tables.exec = Jvm.exec) (hb : c.code = cc) (hts : ∀ w ∈ lw_all, w.before args s = true) (hown : s.vm.findClass RX0 = some m.cls) (hK : va_K D vwCl tys s) (hP : va_P D vwCl (xW cI cZ q he ro fr ab fu us bi le pe ch su se ha sk) H) (hd : decode cc pc = .ok (.getfield 88, 3)) (kk : W p l e R s m args below meth c H locs cells slots Q (F0 m (pc + 3) ls (.int (oI fr) :: rest))) : W p l e R s m args below meth c H locs cells slots Q (F0 m pc ls (.ref (q 0) :: rest)) := va_get (C := RX0) (T := TX0) (N := 14) hx hb hts in_X0 hown hK hP 0 rfl rfl 2 (by decide) (hts _ q29) (fun _ h => h) rfl hd kk
theorem pX0_freeNode {he : Nat} {ro : Option Nat} {fr : Option Nat} {ab : Option Nat} {fu : Option Nat} {us : Nat → Bool} {bi : Nat → Nat} {le : Nat → Nat} {pe : Nat → Option Nat} {ch : Nat → Option Nat} {su : Nat → Int} {se : Nat → Int} {ha : Nat → Option Nat} {sk : Nat → Nat} {v : Option Nat} (hx : p.tables.exec = Jvm.exec) (hb : c.code = cc) (hts : ∀ w ∈ lw_all, w.before args s = true) (hown : s.vm.findClass RX0 = some m.cls) (hK : va_K D vwCl tys s) (hP : va_P D vwCl (xW cI cZ q he ro fr ab fu us bi le pe ch su se ha sk) H) (hD : va_D A (xW cI cZ q he ro fr ab fu us bi le pe ch su se ha sk)) (hS : va_S A H0 H locs) (hd : decode cc pc = .ok (.putfield 88, 3)) (kk : ∀ (H : Heap) (locs : List Loc), va_P D vwCl (xW cI cZ q he ro v ab fu us bi le pe ch su se ha sk) H → va_D A (xW cI cZ q he ro v ab fu us bi le pe ch su se ha sk) → va_S A H0 H locs → W p l e R s m args below meth c H locs cells slots Q (F0 m (pc + 3) ls (rest))) : W p l e R s m args below meth c H locs cells slots Q (F0 m pc ls (.int (oI v) :: .ref (q 0) :: rest)) := va_put (C := RX0) (T := TX0) (N := 14) hx hb hts in_X0 tyX0 tyX0_ok nmX0 hown hK hP hD hS 0 rfl rfl 2 (by decide) (hts _ q29) (fun _ h => h) rfl (ty := .int) (by decide +kernel) rfl rfl (Nat.le_of_ble_eq_true rfl) hd (fun H locs hP hD hS => kk H locs hP hD hS)
theorem gX0_used {he : Nat} {ro : Option Nat} {fr : Option Nat} {ab : Option Nat} {fu : Option Nat} {us : Nat → Bool} {bi : Nat → Nat} {le : Nat → Nat} {pe : Nat → Option Nat} {ch : Nat → Option Nat} {su : Nat → Int} {se : Nat → Int} {ha : Nat → Option Nat} {sk : Nat → Nat} (hx : p.tables.exec = Jvm.exec) (hb : c.code = cc) (hts : ∀ w ∈ lw_all, w.before args s = true) (hown : s.vm.findClass RX0 = some m.cls) (hK : va_K D vwCl tys s) (hP : va_P D vwCl (xW cI cZ q he ro fr ab fu us bi le pe ch su se ha sk) H) (hd : decode cc pc = .ok (.getfield 7, 3)) (kk : W p l e R s m args below meth c H locs cells slots Q (F0 m (pc + 3) ls (.ref (q 3) :: rest))) : W p l e R s m args below meth c H locs cells slots Q (F0 m pc ls (.ref (q 0) :: rest)) := va_get (C := RX0) (T := TX0) (N := 14) hx hb hts in_X0 hown hK hP 0 rfl rfl 3 (by decide) (hts _ q30) (fun _ h => h) rfl hd kk
theorem gX0_bits {he : Nat} {ro : Option Nat} {fr : Option Nat} {ab : Option Nat} {fu : Option Nat} {us : Nat → Bool} {bi : Nat → Nat} {le : Nat → Nat} {pe : Nat → Option Nat} {ch : Nat → Option Nat} {su : Nat → Int} {se : Nat → Int} {ha : Nat → Option Nat} {sk : Nat → Nat} (hx : p.tables.exec = Jvm.exec) (hb : c.code = cc) (hts : ∀ w ∈ lw_all, w.before args s = true) (hown : s.vm.findClass RX0 = some m.cls) (hK : va_K D vwCl tys s) (hP : va_P D vwCl (xW cI cZ q he ro fr ab fu us bi le pe ch su se ha sk) H) (hd : decode cc pc = .ok (.getfield 13, 3)) (kk : W p l e R s m args below meth c H locs cells slots Q (F0 m (pc + 3) ls (.ref (q 4) :: rest))) : W p l e R s m args below meth c H locs cells slots Q (F0 m pc ls (.ref (q 0) :: rest)) := va_get (C := RX0) (T := TX0) (N := 14) hx hb hts in_X0 hown hK hP 0 rfl rfl 4 (by decide) (hts _ q31) (fun _ h => h) rfl hd kk
theorem gX0_length {he : Nat} {ro : Option Nat} {fr : Option Nat} {ab : Option Nat} {fu : Option Nat} {us : Nat → Bool} {bi : Nat → Nat} {le : Nat → Nat} {pe : Nat → Option Nat} {ch : Nat → Option Nat} {su : Nat → Int} {se : Nat → Int} {ha : Nat → Option Nat} {sk : Nat → Nat} (hx : p.tables.exec = Jvm.exec) (hb : c.code = cc) (hts : ∀ w ∈ lw_all, w.before args s = true) (hown : s.vm.findClass RX0 = some m.cls) (hK : va_K D vwCl tys s) (hP : va_P D vwCl (xW cI cZ q he ro fr ab fu us bi le pe ch su se ha sk) H) (hd : decode cc pc = .ok (.getfield 17, 3)) (kk : W p l e R s m args below meth c H locs cells slots Q (F0 m (pc + 3) ls (.ref (q 5) :: rest))) : W p l e R s m args below meth c H locs cells slots Q (F0 m pc ls (.ref (q 0) :: rest)) := va_get (C := RX0) (T := TX0) (N := 14) hx hb hts in_X0 hown hK hP 0 rfl rfl 5 (by decide) (hts _ q32) (fun _ h => h) rfl hd kk
theorem gX0_peerOf {he : Nat} {ro : Option Nat} {fr : Option Nat} {ab : Option Nat} {fu : Option Nat} {us : Nat → Bool} {bi : Nat → Nat} {le : Nat → Nat} {pe : Nat → Option Nat} {ch : Nat → Option Nat} {su : Nat → Int} {se : Nat → Int} {ha : Nat → Option Nat} {sk : Nat → Nat} (hx : p.tables.exec = Jvm.exec) (hb : c.code = cc) (hts : ∀ w ∈ lw_all, w.before args s = true) (hown : s.vm.findClass RX0 = some m.cls) (hK : va_K D vwCl tys s) (hP : va_P D vwCl (xW cI cZ q he ro fr ab fu us bi le pe ch su se ha sk) H) (hd : decode cc pc = .ok (.getfield 20, 3)) (kk : W p l e R s m args below meth c H locs cells slots Q (F0 m (pc + 3) ls (.ref (q 6) :: rest))) : W p l e R s m args below meth c H locs cells slots Q (F0 m pc ls (.ref (q 0) :: rest)) := va_get (C := RX0) (T := TX0) (N := 14) hx hb hts in_X0 hown hK hP 0 rfl rfl 6 (by decide) (hts _ q33) (fun _ h => h) rfl hd kk
theorem gX0_child {he : Nat} {ro : Option Nat} {fr : Option Nat} {ab : Option Nat} {fu : Option Nat} {us : Nat → Bool} {bi : Nat → Nat} {le : Nat → Nat} {pe : Nat → Option Nat} {ch : Nat → Option Nat} {su : Nat → Int} {se : Nat → Int} {ha : Nat → Option Nat} {sk : Nat → Nat} (hx : p.tables.exec = Jvm.exec) (hb : c.code = cc) (hts : ∀ w ∈ lw_all, w.before args s = true) (hown : s.vm.findClass RX0 = some m.cls) (hK : va_K D vwCl tys s) (hP : va_P D vwCl (xW cI cZ q he ro fr ab fu us bi le pe ch su se ha sk) H) (hd : decode cc pc = .ok (.getfield 23, 3)) (kk : W p l e R s m args below meth c H locs cells slots Q (F0 m (pc + 3) ls (.ref (q 7) :: rest))) : W p l e R s m args below meth c H locs cells slots Q (F0 m pc ls (.ref (q 0) :: rest)) := va_get (C := RX0) (T := TX0) (N := 14) hx hb hts in_X0 hown hK hP 0 rfl rfl 7 (by decide) (hts _ q34) (fun _ h => h) rfl hd kk
theorem gX0_above {he : Nat} {ro : Option Nat} {fr : Option Nat} {ab : Option Nat} {fu : Option Nat} {us : Nat → Bool} {bi : Nat → Nat} {le : Nat → Nat} {pe : Nat → Option Nat} {ch : Nat → Option Nat} {su : Nat → Int} {se : Nat → Int} {ha : Nat → Option Nat} {sk : Nat → Nat} (hx : p.tables.exec = Jvm.exec) (hb : c.code = cc) (hts : ∀ w ∈ lw_all, w.before args s = true) (hown : s.vm.findClass RX0 = some m.cls) (hK : va_K D vwCl tys s) (hP : va_P D vwCl (xW cI cZ q he ro fr ab fu us bi le pe ch su se ha sk) H) (hd : decode cc pc = .ok (.getfield 78, 3)) (kk : W p l e R s m args below meth c H locs cells slots Q (F0 m (pc + 3) ls (.int (oI ab) :: rest))) : W p l e R s m args below meth c H locs cells slots Q (F0 m pc ls (.ref (q 0) :: rest)) := va_get (C := RX0) (T := TX0) (N := 14) hx hb hts in_X0 hown hK hP 0 rfl rfl 8 (by decide) (hts _ q35) (fun _ h => h) rfl hd kk
theorem pX0_above {he : Nat} {ro : Option Nat} {fr : Option Nat} {ab : Option Nat} {fu : Option Nat} {us : Nat → Bool} {bi : Nat → Nat} {le : Nat → Nat} {pe : Nat → Option Nat} {ch : Nat → Option Nat} {su : Nat → Int} {se : Nat → Int} {ha : Nat → Option Nat} {sk : Nat → Nat} {v : Option Nat} (hx : p.tables.exec = Jvm.exec) (hb : c.code = cc) (hts : ∀ w ∈ lw_all, w.before args s = true) (hown : s.vm.findClass RX0 = some m.cls) (hK : va_K D vwCl tys s) (hP : va_P D vwCl (xW cI cZ q he ro fr ab fu us bi le pe ch su se ha sk) H) (hD : va_D A (xW cI cZ q he ro fr ab fu us bi le pe ch su se ha sk)) (hS : va_S A H0 H locs) (hd : decode cc pc = .ok (.putfield 78, 3)) (kk : ∀ (H : Heap) (locs : List Loc), va_P D vwCl (xW cI cZ q he ro fr v fu us bi le pe ch su se ha sk) H → va_D A (xW cI cZ q he ro fr v fu us bi le pe ch su se ha sk) → va_S A H0 H locs → W p l e R s m args below meth c H locs cells slots Q (F0 m (pc + 3) ls (rest))) : W p l e R s m args below meth c H locs cells slots Q (F0 m pc ls (.int (oI v) :: .ref (q 0) :: rest)) := va_put (C := RX0) (T := TX0) (N := 14) hx hb hts in_X0 tyX0 tyX0_ok nmX0 hown hK hP hD hS 0 rfl rfl 8 (by decide) (hts _ q35) (fun _ h => h) rfl (ty := .int) (by decide +kernel) rfl rfl (Nat.le_of_ble_eq_true rfl) hd (fun H locs hP hD hS => kk H locs hP hD hS)
theorem gX0_furtherUp {he : Nat} {ro : Option Nat} {fr : Option Nat} {ab : Option Nat} {fu : Option Nat} {us : Nat → Bool} {bi : Nat → Nat} {le : Nat → Nat} {pe : Nat → Option Nat} {ch : Nat → Option Nat} {su : Nat → Int} {se : Nat → Int} {ha : Nat → Option Nat} {sk : Nat → Nat} (hx : p.tables.exec = Jvm.exec) (hb : c.code = cc) (hts : ∀ w ∈ lw_all, w.before args s = true) (hown : s.vm.findClass RX0 = some m.cls) (hK : va_K D vwCl tys s) (hP : va_P D vwCl (xW cI cZ q he ro fr ab fu us bi le pe ch su se ha sk) H) (hd : decode cc pc = .ok (.getfield 81, 3)) (kk : W p l e R s m args below meth c H locs cells slots Q (F0 m (pc + 3) ls (.int (oI fu) :: rest))) : W p l e R s m args below meth c H locs cells slots Q (F0 m pc ls (.ref (q 0) :: rest)) := va_get (C := RX0) (T := TX0) (N := 14) hx hb hts in_X0 hown hK hP 0 rfl rfl 9 (by decide) (hts _ q36) (fun _ h => h) rfl hd kk
theorem pX0_furtherUp {he : Nat} {ro : Option Nat} {fr : Option Nat} {ab : Option Nat} {fu : Option Nat} {us : Nat → Bool} {bi : Nat → Nat} {le : Nat → Nat} {pe : Nat → Option Nat} {ch : Nat → Option Nat} {su : Nat → Int} {se : Nat → Int} {ha : Nat → Option Nat} {sk : Nat → Nat} {v : Option Nat} (hx : p.tables.exec = Jvm.exec) (hb : c.code = cc) (hts : ∀ w ∈ lw_all, w.before args s = true) (hown : s.vm.findClass RX0 = some m.cls) (hK : va_K D vwCl tys s) (hP : va_P D vwCl (xW cI cZ q he ro fr ab fu us bi le pe ch su se ha sk) H) (hD : va_D A (xW cI cZ q he ro fr ab fu us bi le pe ch su se ha sk)) (hS : va_S A H0 H locs) (hd : decode cc pc = .ok (.putfield 81, 3)) (kk : ∀ (H : Heap) (locs : List Loc), va_P D vwCl (xW cI cZ q he ro fr ab v us bi le pe ch su se ha sk) H → va_D A (xW cI cZ q he ro fr ab v us bi le pe ch su se ha sk) → va_S A H0 H locs → W p l e R s m args below meth c H locs cells slots Q (F0 m (pc + 3) ls (rest))) : W p l e R s m args below meth c H locs cells slots Q (F0 m pc ls (.int (oI v) :: .ref (q 0) :: rest)) := va_put (C := RX0) (T := TX0) (N := 14) hx hb hts in_X0 tyX0 tyX0_ok nmX0 hown hK hP hD hS 0 rfl rfl 9 (by decide) (hts _ q36) (fun _ h => h) rfl (ty := .int) (by decide +kernel) rfl rfl (Nat.le_of_ble_eq_true rfl) hd (fun H locs hP hD hS => kk H locs hP hD hS)
theorem gX0_sum {he : Nat} {ro : Option Nat} {fr : Option Nat} {ab : Option Nat} {fu : Option Nat} {us : Nat → Bool} {bi : Nat → Nat} {le : Nat → Nat} {pe : Nat → Option Nat} {ch : Nat → Option Nat} {su : Nat → Int} {se : Nat → Int} {ha : Nat → Option Nat} {sk : Nat → Nat} (hx : p.tables.exec = Jvm.exec) (hb : c.code = cc) (hts : ∀ w ∈ lw_all, w.before args s = true) (hown : s.vm.findClass RX0 = some m.cls) (hK : va_K D vwCl tys s) (hP : va_P D vwCl (xW cI cZ q he ro fr ab fu us bi le pe ch su se ha sk) H) (hd : decode cc pc = .ok (.getfield 26, 3)) (kk : W p l e R s m args below meth c H locs cells slots Q (F0 m (pc + 3) ls (.ref (q 10) :: rest))) : W p l e R s m args below meth c H locs cells slots Q (F0 m pc ls (.ref (q 0) :: rest)) := va_get (C := RX0) (T := TX0) (N := 14) hx hb hts in_X0 hown hK hP 0 rfl rfl 10 (by decide) (hts _ q37) (fun _ h => h) rfl hd kk
theorem gX0_settled {he : Nat} {ro : Option Nat} {fr : Option Nat} {ab : Option Nat} {fu : Option Nat} {us : Nat → Bool} {bi : Nat → Nat} {le : Nat → Nat} {pe : Nat → Option Nat} {ch : Nat → Option Nat} {su : Nat → Int} {se : Nat → Int} {ha : Nat → Option Nat} {sk : Nat → Nat} (hx : p.tables.exec = Jvm.exec) (hb : c.code = cc) (hts : ∀ w ∈ lw_all, w.before args s = true) (hown : s.vm.findClass RX0 = some m.cls) (hK : va_K D vwCl tys s) (hP : va_P D vwCl (xW cI cZ q he ro fr ab fu us bi le pe ch su se ha sk) H) (hd : decode cc pc = .ok (.getfield 29, 3)) (kk : W p l e R s m args below meth c H locs cells slots Q (F0 m (pc + 3) ls (.ref (q 11) :: rest))) : W p l e R s m args below meth c H locs cells slots Q (F0 m pc ls (.ref (q 0) :: rest)) := va_get (C := RX0) (T := TX0) (N := 14) hx hb hts in_X0 hown hK hP 0 rfl rfl 11 (by decide) (hts _ q38) (fun _ h => h) rfl hd kk
theorem gX0_heldAbove {he : Nat} {ro : Option Nat} {fr : Option Nat} {ab : Option Nat} {fu : Option Nat} {us : Nat → Bool} {bi : Nat → Nat} {le : Nat → Nat} {pe : Nat → Option Nat} {ch : Nat → Option Nat} {su : Nat → Int} {se : Nat → Int} {ha : Nat → Option Nat} {sk : Nat → Nat} (hx : p.tables.exec = Jvm.exec) (hb : c.code = cc) (hts : ∀ w ∈ lw_all, w.before args s = true) (hown : s.vm.findClass RX0 = some m.cls) (hK : va_K D vwCl tys s) (hP : va_P D vwCl (xW cI cZ q he ro fr ab fu us bi le pe ch su se ha sk) H) (hd : decode cc pc = .ok (.getfield 32, 3)) (kk : W p l e R s m args below meth c H locs cells slots Q (F0 m (pc + 3) ls (.ref (q 12) :: rest))) : W p l e R s m args below meth c H locs cells slots Q (F0 m pc ls (.ref (q 0) :: rest)) := va_get (C := RX0) (T := TX0) (N := 14) hx hb hts in_X0 hown hK hP 0 rfl rfl 12 (by decide) (hts _ q39) (fun _ h => h) rfl hd kk
theorem gX0_stack {he : Nat} {ro : Option Nat} {fr : Option Nat} {ab : Option Nat} {fu : Option Nat} {us : Nat → Bool} {bi : Nat → Nat} {le : Nat → Nat} {pe : Nat → Option Nat} {ch : Nat → Option Nat} {su : Nat → Int} {se : Nat → Int} {ha : Nat → Option Nat} {sk : Nat → Nat} (hx : p.tables.exec = Jvm.exec) (hb : c.code = cc) (hts : ∀ w ∈ lw_all, w.before args s = true) (hown : s.vm.findClass RX0 = some m.cls) (hK : va_K D vwCl tys s) (hP : va_P D vwCl (xW cI cZ q he ro fr ab fu us bi le pe ch su se ha sk) H) (hd : decode cc pc = .ok (.getfield 35, 3)) (kk : W p l e R s m args below meth c H locs cells slots Q (F0 m (pc + 3) ls (.ref (q 13) :: rest))) : W p l e R s m args below meth c H locs cells slots Q (F0 m pc ls (.ref (q 0) :: rest)) := va_get (C := RX0) (T := TX0) (N := 14) hx hb hts in_X0 hown hK hP 0 rfl rfl 13 (by decide) (hts _ q40) (fun _ h => h) rfl hd kk
theorem rX0_used {he : Nat} {ro : Option Nat} {fr : Option Nat} {ab : Option Nat} {fu : Option Nat} {us : Nat → Bool} {bi : Nat → Nat} {le : Nat → Nat} {pe : Nat → Option Nat} {ch : Nat → Option Nat} {su : Nat → Int} {se : Nat → Int} {ha : Nat → Option Nat} {sk : Nat → Nat} {n : Nat} (hx : p.tables.exec = Jvm.exec) (hb : c.code = cc) (hK : va_K D vwCl tys s) (hP : va_P D vwCl (xW cI cZ q he ro fr ab fu us bi le pe ch su se ha sk) H) (ht : tys[1]? = some (cZ, .boolean)) (hn : n < 64) (hd : decode cc pc = .ok (.baload, 1)) (kk : W p l e R s m args below meth c H locs cells slots Q (F0 m (pc + 1) ls (.int (bI (us n)) :: rest))) : W p l e R s m args below meth c H locs cells slots Q (F0 m pc ls (.int (nI n) :: .ref (q 3) :: rest)) := va_zald hx hb hK hP 1 1 rfl ht (vp_in_nI hn (by decide)) hd (by rw [nI_c (by omega)]; exact kk)
theorem wX0_used {he : Nat} {ro : Option Nat} {fr : Option Nat} {ab : Option Nat} {fu : Option Nat} {us : Nat → Bool} {bi : Nat → Nat} {le : Nat → Nat} {pe : Nat → Option Nat} {ch : Nat → Option Nat} {su : Nat → Int} {se : Nat → Int} {ha : Nat → Option Nat} {sk : Nat → Nat} {n : Nat} {v : Bool} (hx : p.tables.exec = Jvm.exec) (hb : c.code = cc) (hK : va_K D vwCl tys s) (hP : va_P D vwCl (xW cI cZ q he ro fr ab fu us bi le pe ch su se ha sk) H) (hD : va_D A (xW cI cZ q he ro fr ab fu us bi le pe ch su se ha sk)) (hS : va_S A H0 H locs) (ht : tys[1]? = some (cZ, .boolean)) (hn : n < 64) (hd : decode cc pc = .ok (.bastore, 1)) (kk : ∀ (H : Heap) (locs : List Loc), va_P D vwCl (xW cI cZ q he ro fr ab fu (va_up us n v) bi le pe ch su se ha sk) H → va_D A (xW cI cZ q he ro fr ab fu (va_up us n v) bi le pe ch su se ha sk) → va_S A H0 H locs → W p l e R s m args below meth c H locs cells slots Q (F0 m (pc + 1) ls (rest))) : W p l e R s m args below meth c H locs cells slots Q (F0 m pc ls (.int (bI v) :: .int (nI n) :: .ref (q 3) :: rest)) := va_zast hx hb hK hP hD hS 1 1 rfl ht (vp_in_nI hn (by decide)) hd (fun H locs hP hD hS => kk H locs (by rw [nI_c (by omega), nar_b, upd_map bI us n v] at hP; exact hP) (by rw [nI_c (by omega), nar_b, upd_map bI us n v] at hD; exact hD) hS)
theorem rX0_bits {he : Nat} {ro : Option Nat} {fr : Option Nat} {ab : Option Nat} {fu : Option Nat} {us : Nat → Bool} {bi : Nat → Nat} {le : Nat → Nat} {pe : Nat → Option Nat} {ch : Nat → Option Nat} {su : Nat → Int} {se : Nat → Int} {ha : Nat → Option Nat} {sk : Nat → Nat} {n : Nat} (hx : p.tables.exec = Jvm.exec) (hb : c.code = cc) (hK : va_K D vwCl tys s) (hP : va_P D vwCl (xW cI cZ q he ro fr ab fu us bi le pe ch su se ha sk) H) (ht : tys[0]? = some (cI, .int)) (hn : n < 64) (hd : decode cc pc = .ok (.iaload, 1)) (kk : W p l e R s m args below meth c H locs cells slots Q (F0 m (pc + 1) ls (.int (nI (bi n)) :: rest))) : W p l e R s m args below meth c H locs cells slots Q (F0 m pc ls (.int (nI n) :: .ref (q 4) :: rest)) := va_iald hx hb hK hP 2 0 rfl ht (vp_in_nI hn (by decide)) hd (by rw [nI_c (by omega)]; exact kk)
theorem wX0_bits {he : Nat} {ro : Option Nat} {fr : Option Nat} {ab : Option Nat} {fu : Option Nat} {us : Nat → Bool} {bi : Nat → Nat} {le : Nat → Nat} {pe : Nat → Option Nat} {ch : Nat → Option Nat} {su : Nat → Int} {se : Nat → Int} {ha : Nat → Option Nat} {sk : Nat → Nat} {n : Nat} {v : Nat} (hx : p.tables.exec = Jvm.exec) (hb : c.code = cc) (hK : va_K D vwCl tys s) (hP : va_P D vwCl (xW cI cZ q he ro fr ab fu us bi le pe ch su se ha sk) H) (hD : va_D A (xW cI cZ q he ro fr ab fu us bi le pe ch su se ha sk)) (hS : va_S A H0 H locs) (ht : tys[0]? = some (cI, .int)) (hn : n < 64) (hd : decode cc pc = .ok (.iastore, 1)) (kk : ∀ (H : Heap) (locs : List Loc), va_P D vwCl (xW cI cZ q he ro fr ab fu us (va_up bi n v) le pe ch su se ha sk) H → va_D A (xW cI cZ q he ro fr ab fu us (va_up bi n v) le pe ch su se ha sk) → va_S A H0 H locs → W p l e R s m args below meth c H locs cells slots Q (F0 m (pc + 1) ls (rest))) : W p l e R s m args below meth c H locs cells slots Q (F0 m pc ls (.int (nI v) :: .int (nI n) :: .ref (q 4) :: rest)) := va_iast hx hb hK hP hD hS 2 0 rfl ht (vp_in_nI hn (by decide)) hd (fun H locs hP hD hS => kk H locs (by rw [nI_c (by omega), upd_map nI bi n v] at hP; exact hP) (by rw [nI_c (by omega), upd_map nI bi n v] at hD; exact hD) hS)
theorem rX0_length {he : Nat} {ro : Option Nat} {fr : Option Nat} {ab : Option Nat} {fu : Option Nat} {us : Nat → Bool} {bi : Nat → Nat} {le : Nat → Nat} {pe : Nat → Option Nat} {ch : Nat → Option Nat} {su : Nat → Int} {se : Nat → Int} {ha : Nat → Option Nat} {sk : Nat → Nat} {n : Nat} (hx : p.tables.exec = Jvm.exec) (hb : c.code = cc) (hK : va_K D vwCl tys s) (hP : va_P D vwCl (xW cI cZ q he ro fr ab fu us bi le pe ch su se ha sk) H) (ht : tys[0]? = some (cI, .int)) (hn : n < 64) (hd : decode cc pc = .ok (.iaload, 1)) (kk : W p l e R s m args below meth c H locs cells slots Q (F0 m (pc + 1) ls (.int (nI (le n)) :: rest))) : W p l e R s m args below meth c H locs cells slots Q (F0 m pc ls (.int (nI n) :: .ref (q 5) :: rest)) := va_iald hx hb hK hP 3 0 rfl ht (vp_in_nI hn (by decide)) hd (by rw [nI_c (by omega)]; exact kk)
theorem wX0_length {he : Nat} {ro : Option Nat} {fr : Option Nat} {ab : Option Nat} {fu : Option Nat} {us : Nat → Bool} {bi : Nat → Nat} {le : Nat → Nat} {pe : Nat → Option Nat} {ch : Nat → Option Nat} {su : Nat → Int} {se : Nat → Int} {ha : Nat → Option Nat} {sk : Nat → Nat} {n : Nat} {v : Nat} (hx : p.tables.exec = Jvm.exec) (hb : c.code = cc) (hK : va_K D vwCl tys s) (hP : va_P D vwCl (xW cI cZ q he ro fr ab fu us bi le pe ch su se ha sk) H) (hD : va_D A (xW cI cZ q he ro fr ab fu us bi le pe ch su se ha sk)) (hS : va_S A H0 H locs) (ht : tys[0]? = some (cI, .int)) (hn : n < 64) (hd : decode cc pc = .ok (.iastore, 1)) (kk : ∀ (H : Heap) (locs : List Loc), va_P D vwCl (xW cI cZ q he ro fr ab fu us bi (va_up le n v) pe ch su se ha sk) H → va_D A (xW cI cZ q he ro fr ab fu us bi (va_up le n v) pe ch su se ha sk) → va_S A H0 H locs → W p l e R s m args below meth c H locs cells slots Q (F0 m (pc + 1) ls (rest))) : W p l e R s m args below meth c H locs cells slots Q (F0 m pc ls (.int (nI v) :: .int (nI n) :: .ref (q 5) :: rest)) := va_iast hx hb hK hP hD hS 3 0 rfl ht (vp_in_nI hn (by decide)) hd (fun H locs hP hD hS => kk H locs (by rw [nI_c (by omega), upd_map nI le n v] at hP; exact hP) (by rw [nI_c (by omega), upd_map nI le n v] at hD; exact hD) hS)
theorem rX0_peerOf {he : Nat} {ro : Option Nat} {fr : Option Nat} {ab : Option Nat} {fu : Option Nat} {us : Nat → Bool} {bi : Nat → Nat} {le : Nat → Nat} {pe : Nat → Option Nat} {ch : Nat → Option Nat} {su : Nat → Int} {se : Nat → Int} {ha : Nat → Option Nat} {sk : Nat → Nat} {n : Nat} (hx : p.tables.exec = Jvm.exec) (hb : c.code = cc) (hK : va_K D vwCl tys s) (hP : va_P D vwCl (xW cI cZ q he ro fr ab fu us bi le pe ch su se ha sk) H) (ht : tys[0]? = some (cI, .int)) (hn : n < 64) (hd : decode cc pc = .ok (.iaload, 1)) (kk : W p l e R s m args below meth c H locs cells slots Q (F0 m (pc + 1) ls (.int (oI (pe n)) :: rest))) : W p l e R s m args below meth c H locs cells slots Q (F0 m pc ls (.int (nI n) :: .ref (q 6) :: rest)) := va_iald hx hb hK hP 4 0 rfl ht (vp_in_nI hn (by decide)) hd (by rw [nI_c (by omega)]; exact kk)
theorem wX0_peerOf {he : Nat} {ro : Option Nat} {fr : Option Nat} {ab : Option Nat} {fu : Option Nat} {us : Nat → Bool} {bi : Nat → Nat} {le : Nat → Nat} {pe : Nat → Option Nat} {ch : Nat → Option Nat} {su : Nat → Int} {se : Nat → Int} {ha : Nat → Option Nat} {sk : Nat → Nat} {n : Nat} {v : Option Nat} (hx : p.tables.exec = Jvm.exec) (hb : c.code = cc) (hK : va_K D vwCl tys s) (hP : va_P D vwCl (xW cI cZ q he ro fr ab fu us bi le pe ch su se ha sk) H) (hD : va_D A (xW cI cZ q he ro fr ab fu us bi le pe ch su se ha sk)) (hS : va_S A H0 H locs) (ht : tys[0]? = some (cI, .int)) (hn : n < 64) (hd : decode cc pc = .ok (.iastore, 1)) (kk : ∀ (H : Heap) (locs : List Loc), va_P D vwCl (xW cI cZ q he ro fr ab fu us bi le (va_up pe n v) ch su se ha sk) H → va_D A (xW cI cZ q he ro fr ab fu us bi le (va_up pe n v) ch su se ha sk) → va_S A H0 H locs → W p l e R s m args below meth c H locs cells slots Q (F0 m (pc + 1) ls (rest))) : W p l e R s m args below meth c H locs cells slots Q (F0 m pc ls (.int (oI v) :: .int (nI n) :: .ref (q 6) :: rest)) := va_iast hx hb hK hP hD hS 4 0 rfl ht (vp_in_nI hn (by decide)) hd (fun H locs hP hD hS => kk H locs (by rw [nI_c (by omega), upd_map oI pe n v] at hP; exact hP) (by rw [nI_c (by omega), upd_map oI pe n v] at hD; exact hD) hS)
theorem rX0_child {he : Nat} {ro : Option Nat} {fr : Option Nat} {ab : Option Nat} {fu : Option Nat} {us : Nat → Bool} {bi : Nat → Nat} {le : Nat → Nat} {pe : Nat → Option Nat} {ch : Nat → Option Nat} {su : Nat → Int} {se : Nat → Int} {ha : Nat → Option Nat} {sk : Nat → Nat} {n : Nat} (hx : p.tables.exec = Jvm.exec) (hb : c.code = cc) (hK : va_K D vwCl tys s) (hP : va_P D vwCl (xW cI cZ q he ro fr ab fu us bi le pe ch su se ha sk) H) (ht : tys[0]? = some (cI, .int)) (hn : n < 128) (hd : decode cc pc = .ok (.iaload, 1)) (kk : W p l e R s m args below meth c H locs cells slots Q (F0 m (pc + 1) ls (.int (oI (ch n)) :: rest))) : W p l e R s m args below meth c H locs cells slots Q (F0 m pc ls (.int (nI n) :: .ref (q 7) :: rest)) := va_iald hx hb hK hP 5 0 rfl ht (vp_in_nI hn (by decide)) hd (by rw [nI_c (by omega)]; exact kk)
theorem wX0_child {he : Nat} {ro : Option Nat} {fr : Option Nat} {ab : Option Nat} {fu : Option Nat} {us : Nat → Bool} {bi : Nat → Nat} {le : Nat → Nat} {pe : Nat → Option Nat} {ch : Nat → Option Nat} {su : Nat → Int} {se : Nat → Int} {ha : Nat → Option Nat} {sk : Nat → Nat} {n : Nat} {v : Option Nat} (hx : p.tables.exec = Jvm.exec) (hb : c.code = cc) (hK : va_K D vwCl tys s) (hP : va_P D vwCl (xW cI cZ q he ro fr ab fu us bi le pe ch su se ha sk) H) (hD : va_D A (xW cI cZ q he ro fr ab fu us bi le pe ch su se ha sk)) (hS : va_S A H0 H locs) (ht : tys[0]? = some (cI, .int)) (hn : n < 128) (hd : decode cc pc = .ok (.iastore, 1)) (kk : ∀ (H : Heap) (locs : List Loc), va_P D vwCl (xW cI cZ q he ro fr ab fu us bi le pe (va_up ch n v) su se ha sk) H → va_D A (xW cI cZ q he ro fr ab fu us bi le pe (va_up ch n v) su se ha sk) → va_S A H0 H locs → W p l e R s m args below meth c H locs cells slots Q (F0 m (pc + 1) ls (rest))) : W p l e R s m args below meth c H locs cells slots Q (F0 m pc ls (.int (oI v) :: .int (nI n) :: .ref (q 7) :: rest)) := va_iast hx hb hK hP hD hS 5 0 rfl ht (vp_in_nI hn (by decide)) hd (fun H locs hP hD hS => kk H locs (by rw [nI_c (by omega), upd_map oI ch n v] at hP; exact hP) (by rw [nI_c (by omega), upd_map oI ch n v] at hD; exact hD) hS)
theorem rX0_sum {he : Nat} {ro : Option Nat} {fr : Option Nat} {ab : Option Nat} {fu : Option Nat} {us : Nat → Bool} {bi : Nat → Nat} {le : Nat → Nat} {pe : Nat → Option Nat} {ch : Nat → Option Nat} {su : Nat → Int} {se : Nat → Int} {ha : Nat → Option Nat} {sk : Nat → Nat} {n : Nat} (hx : p.tables.exec = Jvm.exec) (hb : c.code = cc) (hK : va_K D vwCl tys s) (hP : va_P D vwCl (xW cI cZ q he ro fr ab fu us bi le pe ch su se ha sk) H) (ht : tys[0]? = some (cI, .int)) (hn : n < 9) (hd : decode cc pc = .ok (.iaload, 1)) (kk : W p l e R s m args below meth c H locs cells slots Q (F0 m (pc + 1) ls (.int (zI (su n)) :: rest))) : W p l e R s m args below meth c H locs cells slots Q (F0 m pc ls (.int (nI n) :: .ref (q 10) :: rest)) := va_iald hx hb hK hP 6 0 rfl ht (vp_in_nI hn (by decide)) hd (by rw [nI_c (by omega)]; exact kk)
theorem wX0_sum {he : Nat} {ro : Option Nat} {fr : Option Nat} {ab : Option Nat} {fu : Option Nat} {us : Nat → Bool} {bi : Nat → Nat} {le : Nat → Nat} {pe : Nat → Option Nat} {ch : Nat → Option Nat} {su : Nat → Int} {se : Nat → Int} {ha : Nat → Option Nat} {sk : Nat → Nat} {n : Nat} {v : Int} (hx : p.tables.exec = Jvm.exec) (hb : c.code = cc) (hK : va_K D vwCl tys s) (hP : va_P D vwCl (xW cI cZ q he ro fr ab fu us bi le pe ch su se ha sk) H) (hD : va_D A (xW cI cZ q he ro fr ab fu us bi le pe ch su se ha sk)) (hS : va_S A H0 H locs) (ht : tys[0]? = some (cI, .int)) (hn : n < 9) (hd : decode cc pc = .ok (.iastore, 1)) (kk : ∀ (H : Heap) (locs : List Loc), va_P D vwCl (xW cI cZ q he ro fr ab fu us bi le pe ch (va_up su n v) se ha sk) H → va_D A (xW cI cZ q he ro fr ab fu us bi le pe ch (va_up su n v) se ha sk) → va_S A H0 H locs → W p l e R s m args below meth c H locs cells slots Q (F0 m (pc + 1) ls (rest))) : W p l e R s m args below meth c H locs cells slots Q (F0 m pc ls (.int (zI v) :: .int (nI n) :: .ref (q 10) :: rest)) := va_iast hx hb hK hP hD hS 6 0 rfl ht (vp_in_nI hn (by decide)) hd (fun H locs hP hD hS => kk H locs (by rw [nI_c (by omega), upd_map zI su n v] at hP; exact hP) (by rw [nI_c (by omega), upd_map zI su n v] at hD; exact hD) hS)
theorem rX0_settled {he : Nat} {ro : Option Nat} {fr : Option Nat} {ab : Option Nat} {fu : Option Nat} {us : Nat → Bool} {bi : Nat → Nat} {le : Nat → Nat} {pe : Nat → Option Nat} {ch : Nat → Option Nat} {su : Nat → Int} {se : Nat → Int} {ha : Nat → Option Nat} {sk : Nat → Nat} {n : Nat} (hx : p.tables.exec = Jvm.exec) (hb : c.code = cc) (hK : va_K D vwCl tys s) (hP : va_P D vwCl (xW cI cZ q he ro fr ab fu us bi le pe ch su se ha sk) H) (ht : tys[0]? = some (cI, .int)) (hn : n < 64) (hd : decode cc pc = .ok (.iaload, 1)) (kk : W p l e R s m args below meth c H locs cells slots Q (F0 m (pc + 1) ls (.int (zI (se n)) :: rest))) : W p l e R s m args below meth c H locs cells slots Q (F0 m pc ls (.int (nI n) :: .ref (q 11) :: rest)) := va_iald hx hb hK hP 7 0 rfl ht (vp_in_nI hn (by decide)) hd (by rw [nI_c (by omega)]; exact kk)
theorem wX0_settled {he : Nat} {ro : Option Nat} {fr : Option Nat} {ab : Option Nat} {fu : Option Nat} {us : Nat → Bool} {bi : Nat → Nat} {le : Nat → Nat} {pe : Nat → Option Nat} {ch : Nat → Option Nat} {su : Nat → Int} {se : Nat → Int} {ha : Nat → Option Nat} {sk : Nat → Nat} {n : Nat} {v : Int} (hx : p.tables.exec = Jvm.exec) (hb : c.code = cc) (hK : va_K D vwCl tys s) (hP : va_P D vwCl (xW cI cZ q he ro fr ab fu us bi le pe ch su se ha sk) H) (hD : va_D A (xW cI cZ q he ro fr ab fu us bi le pe ch su se ha sk)) (hS : va_S A H0 H locs) (ht : tys[0]? = some (cI, .int)) (hn : n < 64) (hd : decode cc pc = .ok (.iastore, 1)) (kk : ∀ (H : Heap) (locs : List Loc), va_P D vwCl (xW cI cZ q he ro fr ab fu us bi le pe ch su (va_up se n v) ha sk) H → va_D A (xW cI cZ q he ro fr ab fu us bi le pe ch su (va_up se n v) ha sk) → va_S A H0 H locs → W p l e R s m args below meth c H locs cells slots Q (F0 m (pc + 1) ls (rest))) : W p l e R s m args below meth c H locs cells slots Q (F0 m pc ls (.int (zI v) :: .int (nI n) :: .ref (q 11) :: rest)) := va_iast hx hb hK hP hD hS 7 0 rfl ht (vp_in_nI hn (by decide)) hd (fun H locs hP hD hS => kk H locs (by rw [nI_c (by omega), upd_map zI se n v] at hP; exact hP) (by rw [nI_c (by omega), upd_map zI se n v] at hD; exact hD) hS)
theorem rX0_heldAbove {he : Nat} {ro : Option Nat} {fr : Option Nat} {ab : Option Nat} {fu : Option Nat} {us : Nat → Bool} {bi : Nat → Nat} {le : Nat → Nat} {pe : Nat → Option Nat} {ch : Nat → Option Nat} {su : Nat → Int} {se : Nat → Int} {ha : Nat → Option Nat} {sk : Nat → Nat} {n : Nat} (hx : p.tables.exec = Jvm.exec) (hb : c.code = cc) (hK : va_K D vwCl tys s) (hP : va_P D vwCl (xW cI cZ q he ro fr ab fu us bi le pe ch su se ha sk) H) (ht : tys[0]? = some (cI, .int)) (hn : n < 64) (hd : decode cc pc = .ok (.iaload, 1)) (kk : W p l e R s m args below meth c H locs cells slots Q (F0 m (pc + 1) ls (.int (oI (ha n)) :: rest))) : W p l e R s m args below meth c H locs cells slots Q (F0 m pc ls (.int (nI n) :: .ref (q 12) :: rest)) := va_iald hx hb hK hP 8 0 rfl ht (vp_in_nI hn (by decide)) hd (by rw [nI_c (by omega)]; exact kk)
theorem wX0_heldAbove {he : Nat} {ro : Option Nat} {fr : Option Nat} {ab : Option Nat} {fu : Option Nat} {us : Nat → Bool} {bi : Nat → Nat} {le : Nat → Nat} {pe : Nat → Option Nat} {ch : Nat → Option Nat} {su : Nat → Int} {se : Nat → Int} {ha : Nat → Option Nat} {sk : Nat → Nat} {n : Nat} {v : Option Nat} (hx : p.tables.exec = Jvm.exec) (hb : c.code = cc) (hK : va_K D vwCl tys s) (hP : va_P D vwCl (xW cI cZ q he ro fr ab fu us bi le pe ch su se ha sk) H) (hD : va_D A (xW cI cZ q he ro fr ab fu us bi le pe ch su se ha sk)) (hS : va_S A H0 H locs) (ht : tys[0]? = some (cI, .int)) (hn : n < 64) (hd : decode cc pc = .ok (.iastore, 1)) (kk : ∀ (H : Heap) (locs : List Loc), va_P D vwCl (xW cI cZ q he ro fr ab fu us bi le pe ch su se (va_up ha n v) sk) H → va_D A (xW cI cZ q he ro fr ab fu us bi le pe ch su se (va_up ha n v) sk) → va_S A H0 H locs → W p l e R s m args below meth c H locs cells slots Q (F0 m (pc + 1) ls (rest))) : W p l e R s m args below meth c H locs cells slots Q (F0 m pc ls (.int (oI v) :: .int (nI n) :: .ref (q 12) :: rest)) := va_iast hx hb hK hP hD hS 8 0 rfl ht (vp_in_nI hn (by decide)) hd (fun H locs hP hD hS => kk H locs (by rw [nI_c (by omega), upd_map oI ha n v] at hP; exact hP) (by rw [nI_c (by omega), upd_map oI ha n v] at hD; exact hD) hS)
theorem rX0_stack {he : Nat} {ro : Option Nat} {fr : Option Nat} {ab : Option Nat} {fu : Option Nat} {us : Nat → Bool} {bi : Nat → Nat} {le : Nat → Nat} {pe : Nat → Option Nat} {ch : Nat → Option Nat} {su : Nat → Int} {se : Nat → Int} {ha : Nat → Option Nat} {sk : Nat → Nat} {n : Nat} (hx : p.tables.exec = Jvm.exec) (hb : c.code = cc) (hK : va_K D vwCl tys s) (hP : va_P D vwCl (xW cI cZ q he ro fr ab fu us bi le pe ch su se ha sk) H) (ht : tys[0]? = some (cI, .int)) (hn : n < 64) (hd : decode cc pc = .ok (.iaload, 1)) (kk : W p l e R s m args below meth c H locs cells slots Q (F0 m (pc + 1) ls (.int (nI (sk n)) :: rest))) : W p l e R s m args below meth c H locs cells slots Q (F0 m pc ls (.int (nI n) :: .ref (q 13) :: rest)) := va_iald hx hb hK hP 9 0 rfl ht (vp_in_nI hn (by decide)) hd (by rw [nI_c (by omega)]; exact kk)
theorem wX0_stack {he : Nat} {ro : Option Nat} {fr : Option Nat} {ab : Option Nat} {fu : Option Nat} {us : Nat → Bool} {bi : Nat → Nat} {le : Nat → Nat} {pe : Nat → Option Nat} {ch : Nat → Option Nat} {su : Nat → Int} {se : Nat → Int} {ha : Nat → Option Nat} {sk : Nat → Nat} {n : Nat} {v : Nat} (hx : p.tables.exec = Jvm.exec) (hb : c.code = cc) (hK : va_K D vwCl tys s) (hP : va_P D vwCl (xW cI cZ q he ro fr ab fu us bi le pe ch su se ha sk) H) (hD : va_D A (xW cI cZ q he ro fr ab fu us bi le pe ch su se ha sk)) (hS : va_S A H0 H locs) (ht : tys[0]? = some (cI, .int)) (hn : n < 64) (hd : decode cc pc = .ok (.iastore, 1)) (kk : ∀ (H : Heap) (locs : List Loc), va_P D vwCl (xW cI cZ q he ro fr ab fu us bi le pe ch su se ha (va_up sk n v)) H → va_D A (xW cI cZ q he ro fr ab fu us bi le pe ch su se ha (va_up sk n v)) → va_S A H0 H locs → W p l e R s m args below meth c H locs cells slots Q (F0 m (pc + 1) ls (rest))) : W p l e R s m args below meth c H locs cells slots Q (F0 m pc ls (.int (nI v) :: .int (nI n) :: .ref (q 13) :: rest)) := va_iast hx hb hK hP hD hS 9 0 rfl ht (vp_in_nI hn (by decide)) hd (fun H locs hP hD hS => kk H locs (by rw [nI_c (by omega), upd_map nI sk n v] at hP; exact hP) (by rw [nI_c (by omega), upd_map nI sk n v] at hD; exact hD) hS)
theorem gX1_entries {en : Nat} {sr : Nat → Nat} {ln : Nat → Nat} {pr : Nat → Nat} (hx : p.tables.exec = Jvm.exec) (hb : c.code = cc) (hts : ∀ w ∈ lw_all, w.before args s = true) (hown : s.vm.findClass RX1 = some m.cls) (hK : va_K D vwCl tys s) (hP : va_P D vwCl (mW cI q en sr ln pr) H) (hd : decode cc pc = .ok (.getfield 24, 3)) (kk : W p l e R s m args below meth c H locs cells slots Q (F0 m (pc + 3) ls (.int (nI en) :: rest))) : W p l e R s m args below meth c H locs cells slots Q (F0 m pc ls (.ref (q 0) :: rest)) := va_get (C := RX1) (T := TX1) (N := 4) hx hb hts in_X1 hown hK hP 0 rfl rfl 0 (by decide) (hts _ q170) (fun _ h => h) rfl hd kk
theorem pX1_entries {en : Nat} {sr : Nat → Nat} {ln : Nat → Nat} {pr : Nat → Nat} {v : Nat} (hx : p.tables.exec = Jvm.exec) (hb : c.code = cc) (hts : ∀ w ∈ lw_all, w.before args s = true) (hown : s.vm.findClass RX1 = some m.cls) (hK : va_K D vwCl tys s) (hP : va_P D vwCl (mW cI q en sr ln pr) H) (hD : va_D A (mW cI q en sr ln pr)) (hS : va_S A H0 H locs) (hd : decode cc pc = .ok (.putfield 24, 3)) (kk : ∀ (H : Heap) (locs : List Loc), va_P D vwCl (mW cI q v sr ln pr) H → va_D A (mW cI q v sr ln pr) → va_S A H0 H locs → W p l e R s m args below meth c H locs cells slots Q (F0 m (pc + 3) ls (rest))) : W p l e R s m args below meth c H locs cells slots Q (F0 m pc ls (.int (nI v) :: .ref (q 0) :: rest)) := va_put (C := RX1) (T := TX1) (N := 4) hx hb hts in_X1 tyX1 tyX1_ok nmX1 hown hK hP hD hS 0 rfl rfl 0 (by decide) (hts _ q170) (fun _ h => h) rfl (ty := .int) (by decide +kernel) rfl rfl (Nat.le_of_ble_eq_true rfl) hd (fun H locs hP hD hS => kk H locs hP hD hS)
theorem gX1_starts {en : Nat} {sr : Nat → Nat} {ln : Nat → Nat} {pr : Nat → Nat} (hx : p.tables.exec = Jvm.exec) (hb : c.code = cc) (hts : ∀ w ∈ lw_all, w.before args s = true) (hown : s.vm.findClass RX1 = some m.cls) (hK : va_K D vwCl tys s) (hP : va_P D vwCl (mW cI q en sr ln pr) H) (hd : decode cc pc = .ok (.getfield 7, 3)) (kk : W p l e R s m args below meth c H locs cells slots Q (F0 m (pc + 3) ls (.ref (q 1) :: rest))) : W p l e R s m args below meth c H locs cells slots Q (F0 m pc ls (.ref (q 0) :: rest)) := va_get (C := RX1) (T := TX1) (N := 4) hx hb hts in_X1 hown hK hP 0 rfl rfl 1 (by decide) (hts _ q171) (fun _ h => h) rfl hd kk
theorem gX1_lengths {en : Nat} {sr : Nat → Nat} {ln : Nat → Nat} {pr : Nat → Nat} (hx : p.tables.exec = Jvm.exec) (hb : c.code = cc) (hts : ∀ w ∈ lw_all, w.before args s = true) (hown : s.vm.findClass RX1 = some m.cls) (hK : va_K D vwCl tys s) (hP : va_P D vwCl (mW cI q en sr ln pr) H) (hd : decode cc pc = .ok (.getfield 13, 3)) (kk : W p l e R s m args below meth c H locs cells slots Q (F0 m (pc + 3) ls (.ref (q 2) :: rest))) : W p l e R s m args below meth c H locs cells slots Q (F0 m pc ls (.ref (q 0) :: rest)) := va_get (C := RX1) (T := TX1) (N := 4) hx hb hts in_X1 hown hK hP 0 rfl rfl 2 (by decide) (hts _ q172) (fun _ h => h) rfl hd kk
theorem gX1_peers {en : Nat} {sr : Nat → Nat} {ln : Nat → Nat} {pr : Nat → Nat} (hx : p.tables.exec = Jvm.exec) (hb : c.code = cc) (hts : ∀ w ∈ lw_all, w.before args s = true) (hown : s.vm.findClass RX1 = some m.cls) (hK : va_K D vwCl tys s) (hP : va_P D vwCl (mW cI q en sr ln pr) H) (hd : decode cc pc = .ok (.getfield 16, 3)) (kk : W p l e R s m args below meth c H locs cells slots Q (F0 m (pc + 3) ls (.ref (q 3) :: rest))) : W p l e R s m args below meth c H locs cells slots Q (F0 m pc ls (.ref (q 0) :: rest)) := va_get (C := RX1) (T := TX1) (N := 4) hx hb hts in_X1 hown hK hP 0 rfl rfl 3 (by decide) (hts _ q173) (fun _ h => h) rfl hd kk
theorem rX1_starts {en : Nat} {sr : Nat → Nat} {ln : Nat → Nat} {pr : Nat → Nat} {n : Nat} (hx : p.tables.exec = Jvm.exec) (hb : c.code = cc) (hK : va_K D vwCl tys s) (hP : va_P D vwCl (mW cI q en sr ln pr) H) (ht : tys[0]? = some (cI, .int)) (hn : n < 32) (hd : decode cc pc = .ok (.iaload, 1)) (kk : W p l e R s m args below meth c H locs cells slots Q (F0 m (pc + 1) ls (.int (nI (sr n)) :: rest))) : W p l e R s m args below meth c H locs cells slots Q (F0 m pc ls (.int (nI n) :: .ref (q 1) :: rest)) := va_iald hx hb hK hP 1 0 rfl ht (vp_in_nI hn (by decide)) hd (by rw [nI_c (by omega)]; exact kk)
theorem wX1_starts {en : Nat} {sr : Nat → Nat} {ln : Nat → Nat} {pr : Nat → Nat} {n : Nat} {v : Nat} (hx : p.tables.exec = Jvm.exec) (hb : c.code = cc) (hK : va_K D vwCl tys s) (hP : va_P D vwCl (mW cI q en sr ln pr) H) (hD : va_D A (mW cI q en sr ln pr)) (hS : va_S A H0 H locs) (ht : tys[0]? = some (cI, .int)) (hn : n < 32) (hd : decode cc pc = .ok (.iastore, 1)) (kk : ∀ (H : Heap) (locs : List Loc), va_P D vwCl (mW cI q en (va_up sr n v) ln pr) H → va_D A (mW cI q en (va_up sr n v) ln pr) → va_S A H0 H locs → W p l e R s m args below meth c H locs cells slots Q (F0 m (pc + 1) ls (rest))) : W p l e R s m args below meth c H locs cells slots Q (F0 m pc ls (.int (nI v) :: .int (nI n) :: .ref (q 1) :: rest)) := va_iast hx hb hK hP hD hS 1 0 rfl ht (vp_in_nI hn (by decide)) hd (fun H locs hP hD hS => kk H locs (by rw [nI_c (by omega), upd_map nI sr n v] at hP; exact hP) (by rw [nI_c (by omega), upd_map nI sr n v] at hD; exact hD) hS)
theorem rX1_lengths {en : Nat} {sr : Nat → Nat} {ln : Nat → Nat} {pr : Nat → Nat} {n : Nat} (hx : p.tables.exec = Jvm.exec) (hb : c.code = cc) (hK : va_K D vwCl tys s) (hP : va_P D vwCl (mW cI q en sr ln pr) H) (ht : tys[0]? = some (cI, .int)) (hn : n < 32) (hd : decode cc pc = .ok (.iaload, 1)) (kk : W p l e R s m args below meth c H locs cells slots Q (F0 m (pc + 1) ls (.int (nI (ln n)) :: rest))) : W p l e R s m args below meth c H locs cells slots Q (F0 m pc ls (.int (nI n) :: .ref (q 2) :: rest)) := va_iald hx hb hK hP 2 0 rfl ht (vp_in_nI hn (by decide)) hd (by rw [nI_c (by omega)]; exact kk)
theorem wX1_lengths {en : Nat} {sr : Nat → Nat} {ln : Nat → Nat} {pr : Nat → Nat} {n : Nat} {v : Nat} (hx : p.tables.exec = Jvm.exec) (hb : c.code = cc) (hK : va_K D vwCl tys s) (hP : va_P D vwCl (mW cI q en sr ln pr) H) (hD : va_D A (mW cI q en sr ln pr)) (hS : va_S A H0 H locs) (ht : tys[0]? = some (cI, .int)) (hn : n < 32) (hd : decode cc pc = .ok (.iastore, 1)) (kk : ∀ (H : Heap) (locs : List Loc), va_P D vwCl (mW cI q en sr (va_up ln n v) pr) H → va_D A (mW cI q en sr (va_up ln n v) pr) → va_S A H0 H locs → W p l e R s m args below meth c H locs cells slots Q (F0 m (pc + 1) ls (rest))) : W p l e R s m args below meth c H locs cells slots Q (F0 m pc ls (.int (nI v) :: .int (nI n) :: .ref (q 2) :: rest)) := va_iast hx hb hK hP hD hS 2 0 rfl ht (vp_in_nI hn (by decide)) hd (fun H locs hP hD hS => kk H locs (by rw [nI_c (by omega), upd_map nI ln n v] at hP; exact hP) (by rw [nI_c (by omega), upd_map nI ln n v] at hD; exact hD) hS)
theorem rX1_peers {en : Nat} {sr : Nat → Nat} {ln : Nat → Nat} {pr : Nat → Nat} {n : Nat} (hx : p.tables.exec = Jvm.exec) (hb : c.code = cc) (hK : va_K D vwCl tys s) (hP : va_P D vwCl (mW cI q en sr ln pr) H) (ht : tys[0]? = some (cI, .int)) (hn : n < 32) (hd : decode cc pc = .ok (.iaload, 1)) (kk : W p l e R s m args below meth c H locs cells slots Q (F0 m (pc + 1) ls (.int (nI (pr n)) :: rest))) : W p l e R s m args below meth c H locs cells slots Q (F0 m pc ls (.int (nI n) :: .ref (q 3) :: rest)) := va_iald hx hb hK hP 3 0 rfl ht (vp_in_nI hn (by decide)) hd (by rw [nI_c (by omega)]; exact kk)
theorem wX1_peers {en : Nat} {sr : Nat → Nat} {ln : Nat → Nat} {pr : Nat → Nat} {n : Nat} {v : Nat} (hx : p.tables.exec = Jvm.exec) (hb : c.code = cc) (hK : va_K D vwCl tys s) (hP : va_P D vwCl (mW cI q en sr ln pr) H) (hD : va_D A (mW cI q en sr ln pr)) (hS : va_S A H0 H locs) (ht : tys[0]? = some (cI, .int)) (hn : n < 32) (hd : decode cc pc = .ok (.iastore, 1)) (kk : ∀ (H : Heap) (locs : List Loc), va_P D vwCl (mW cI q en sr ln (va_up pr n v)) H → va_D A (mW cI q en sr ln (va_up pr n v)) → va_S A H0 H locs → W p l e R s m args below meth c H locs cells slots Q (F0 m (pc + 1) ls (rest))) : W p l e R s m args below meth c H locs cells slots Q (F0 m pc ls (.int (nI v) :: .int (nI n) :: .ref (q 3) :: rest)) := va_iast hx hb hK hP hD hS 3 0 rfl ht (vp_in_nI hn (by decide)) hd (fun H locs hP hD hS => kk H locs (by rw [nI_c (by omega), upd_map nI pr n v] at hP; exact hP) (by rw [nI_c (by omega), upd_map nI pr n v] at hD; exact hD) hS)
end ROWS
end
section
/-! ints as the program computes them -/
theorem s_l : ∀ n, n < 32 → ((nI n &&& 31).toBitVec.smod 32).toNat = n := by decide +kernel
theorem s_u : ∀ n, n < 32 → (((nI n).toUInt32 &&& Int32.toUInt32 31).toBitVec % 32).toNat = n := by decide +kernel
theorem fa_and (a b : Nat) : nI a &&& nI b = nI (a &&& b) := by
  apply Int32.toBitVec_inj.1
  show BitVec.ofNat 32 a &&& BitVec.ofNat 32 b = BitVec.ofNat 32 (a &&& b)
  apply BitVec.eq_of_getLsbD_eq
  intro i hi
  simp [hi]
theorem and_cut {a j : Nat} (ha : a < 65536) : a &&& (65535 * 2 ^ j) &&& 65535 = a / 2 ^ j * 2 ^ j := by
  apply Nat.eq_of_testBit_eq
  intro i
  have e : ∀ k, Nat.testBit 65535 k = decide (k < 16) := fun k => Nat.testBit_two_pow_sub_one 16 k
  rw [Nat.testBit_and, Nat.testBit_and, Nat.testBit_mul_two_pow, Nat.testBit_mul_two_pow, Nat.testBit_div_two_pow, e, e]
  rcases Nat.lt_or_ge i 16 with h | h
  · rcases Nat.lt_or_ge i j with g | g
    · have : ¬ j ≤ i := by omega
      simp [this]
    · have h1 : i - j < 16 := by omega
      have h2 : j + (i - j) = i := by omega
      have h3 : i - j + j = i := by omega
      simp [g, h, h1, h2, h3]
  · have h1 : a.testBit i = false := Nat.testBit_lt_two_pow (Nat.lt_of_lt_of_le ha (by
      have : (2 : Nat) ^ 16 ≤ 2 ^ i := Nat.pow_le_pow_right (by decide) h
      simpa using this))
    rcases Nat.lt_or_ge i j with g | g
    · have : ¬ j ≤ i := by omega
      simp [h1, this]
    · have h2 : j + (i - j) = i := by omega
      have h3 : i - j + j = i := by omega
      simp [h1, h2, h3]
theorem cut_I {a k : Nat} (ha : a < 65536) (hk : k ≤ 16) : (nI a &&& (nI 65535 <<< (nI (16 - k) &&& 31))) &&& nI 65535 = nI (ct a k) := by
  rw [pk_shlN (nI (16 - k) &&& 31) (16 - k) (s_l (16 - k) (by omega)) (by
    have : 2 ^ (16 - k) ≤ 65536 := sz_le k
    omega), fa_and, fa_and, and_cut ha]
  rfl
theorem bit_I {a i : Nat} (ha : a < 65536) : ((nI a).toUInt32 >>> ((nI (15 - i)).toUInt32 &&& Int32.toUInt32 31)).toInt32 &&& nI 1 = nI (bt a i) := by
  rw [pk_ushrN (by omega) (nI (15 - i)) (15 - i) (s_u (15 - i) (by omega)), pk_andN (Nat.lt_of_le_of_lt (Nat.div_le_self _ _) (by omega)) 1 (by decide)]
  rfl
theorem and16_I (x : Int32) : ∃ a, a < 65536 ∧ x &&& nI 65535 = nI a := by
  obtain ⟨j, h1, h2⟩ := pk_andE x (m := nI 65535) 16 (by decide)
  exact ⟨j, h1, h2⟩
theorem shr_I {k : Nat} (hk : k ≤ 16) : nI 65536 >>> (nI k &&& 31) = nI (2 ^ (16 - k)) := by
  rw [pk_shrN (by decide) (nI k &&& 31) k (s_l k (by omega))]
  have : 65536 / 2 ^ k = 2 ^ (16 - k) := by
    rw [show (65536 : Nat) = 2 ^ (16 - k) * 2 ^ k by rw [← Nat.pow_add, show 16 - k + k = 16 by omega]]
    exact Nat.mul_div_cancel _ (Nat.two_pow_pos _)
  rw [this]
theorem si_t {D : Nat → Nat → Option Nat} {us : Nat → Bool} {bi le : Nat → Nat} {pe : Nat → Option Nat} {a t : Nat} {b x : Option Nat} (h : SI D us bi le pe a b x t) : t < 18 := by
  obtain ⟨lb, h1, -, h3, -⟩ := h
  omega
theorem si_ud {D : Nat → Nat → Option Nat} {us : Nat → Bool} {bi le : Nat → Nat} {pe : Nat → Option Nat} {a t d : Nat} {b : Option Nat} (h : SI D us bi le pe a b (some d) t) : ud us d := by
  obtain ⟨lb, -, -, -, h4, -⟩ := h
  exact (h4 d rfl).1
/-- an int from -1 to 7, as an option -/
theorem rng_o {x : Int32} (h1 : ¬ x < oI none) (h2 : x ≤ nI 7) : ∃ y, x = oI y ∧ ∀ n, y = some n → n < 8 := by
  rcases Classical.em (x < 0) with h | h
  · refine ⟨none, ?_, fun n e => by cases e⟩
    rw [Int32.lt_iff_toInt_lt] at h1 h
    apply Int32.toInt_inj.mp
    have e1 : (oI none).toInt = -1 := by decide
    have e2 : (0 : Int32).toInt = 0 := by decide
    rw [e1] at h1 ⊢
    rw [e2] at h
    omega
  · obtain ⟨j, hj, e⟩ := nI_of2 (M := nI 7) (n := 7) (by decide) h h2
    exact ⟨some j, e, fun n en => by cases en; omega⟩
theorem rng_b {y : Option Nat} (h : ∀ n, y = some n → n < 8) : ∀ n, y = some n → n < 2 ^ 31 := fun n hn => by have := h n hn; omega
theorem rng_in {y : Option Nat} (h : ∀ n, y = some n → n < 8) : ¬ oI y < oI none ∧ oI y ≤ nI 7 := by
  cases y with
  | none => decide
  | some n =>
    have hn := h n rfl
    refine ⟨fun q => ?_, nI_le (by omega) (by decide)⟩
    have : nI n < 0 := by
      rw [Int32.lt_iff_toInt_lt] at q ⊢
      have e1 : (oI none).toInt = -1 := by decide
      have e2 : (0 : Int32).toInt = 0 := by decide
      rw [e1] at q
      rw [e2]
      have e3 : (oI (some n)).toInt = (nI n).toInt := rfl
      omega
    exact nI_pos (by omega) this
theorem rng_not {y : Option Nat} (h : ∀ n, y = some n → n < 8) : ¬ (oI y < oI none ∨ nI 7 < oI y) := by
  obtain ⟨h1, h2⟩ := rng_in h
  rintro (q | q)
  · exact h1 q
  · rw [Int32.le_iff_toInt_le] at h2
    rw [Int32.lt_iff_toInt_lt] at q
    omega
theorem clamp_lt (x : Int32) : x.toNatClampNeg < 2 ^ 31 := by
  rcases Classical.em (x < 0) with h | h
  · rw [Int32.lt_iff_toInt_lt] at h
    have : x.toNatClampNeg = 0 := by
      show x.toInt.toNat = 0
      have e2 : (0 : Int32).toInt = 0 := by decide
      omega
    omega
  · obtain ⟨j, hj, e⟩ := nI_of h
    rw [e, nI_clamp hj]
    exact hj
theorem clamp_pos {x : Int32} (h : 0 ≤ x) : x = nI x.toNatClampNeg := by
  obtain ⟨j, hj, e⟩ := nI_of (x := x) (by
    intro q
    rw [Int32.lt_iff_toInt_lt] at q
    rw [Int32.le_iff_toInt_le] at h
    omega)
  rw [e, nI_clamp hj]
theorem clamp_neg {x : Int32} (h : ¬ 0 ≤ x) : nI 0 = nI x.toNatClampNeg := by
  have : x.toNatClampNeg = 0 := by
    rw [Int32.le_iff_toInt_le] at h
    have e2 : (0 : Int32).toInt = 0 := by decide
    show x.toInt.toNat = 0
    omega
  rw [this]
theorem and16_n {a : Nat} (h : a < 65536) : nI a &&& nI 65535 = nI a := by
  rw [pk_andN (by omega) 16 (by decide), Nat.mod_eq_of_lt h]
theorem own_lt {D : Nat → Nat → Option Nat} {us : Nat → Bool} {bi le : Nat → Nat} {pe : Nat → Option Nat} (hC : CT us bi le pe D) (hB : ∀ n r, ud us n → pe n = some r → r < 8) {a r : Nat} (h : ownD D a = some r) : r < 8 := by
  unfold ownD at h
  cases hl : look D a 17 with
  | none => rw [hl] at h; cases h
  | some k =>
    rw [hl] at h
    obtain ⟨n, hn, -, -, e⟩ := (hC _ _ r).mp h
    exact hB n r hn e
/-- what next answers: the first address from x2 on that is of x1 -/
def NXS (D : Nat → Nat → Option Nat) (x1 x2 r : Int32) : Prop := ((x1 < oI none ∨ nI 7 < x1) → r = (-2)) ∧ ∀ y, x1 = oI y → (∀ n, y = some n → n < 8) → ∃ z, r = oI z ∧ NX D y x2.toNatClampNeg z
end
section
/-! what the public methods answer, told of what is held (D) and how many (cnt) -/
def ALS (D : Nat → Nat → Option Nat) (x1 x2 x3 : Int32) (cnt cnt' : Nat) (D' : Nat → Nat → Option Nat) (r : Int32) : Prop :=
  ((x2 < 0 ∨ nI 16 < x2 ∨ x3 < 0 ∨ nI 7 < x3) → r = oI none ∧ D' = D) ∧ ∀ k y a, x2 = nI k → k ≤ 16 → x3 = nI y → y < 8 → x1 &&& nI 65535 = nI a → a < 65536 → ((D (ct a k) k = none ∧ cnt = 32) → r = oI none ∧ D' = D) ∧ (¬ (D (ct a k) k = none ∧ cnt = 32) → r = nI cnt' ∧ D' = dset D (ct a k) k y)
def DNS (D : Nat → Nat → Option Nat) (x1 x2 : Int32) (cnt' : Nat) (D' : Nat → Nat → Option Nat) (r : Int32) : Prop :=
  ((x2 < 0 ∨ nI 16 < x2) → r = oI none ∧ D' = D) ∧ ∀ k a, x2 = nI k → k ≤ 16 → x1 &&& nI 65535 = nI a → a < 65536 → (D (ct a k) k = none → r = oI none ∧ D' = D) ∧ (D (ct a k) k ≠ none → r = nI cnt' ∧ D' = ddel D (ct a k) k)
def dfor (D : Nat → Nat → Option Nat) (y : Nat) : Nat → Nat → Option Nat := fun pp l => if D pp l = some y then none else D pp l
def FGS (D : Nat → Nat → Option Nat) (x1 : Int32) (cnt cnt' : Nat) (D' : Nat → Nat → Option Nat) (r : Int32) : Prop :=
  ((x1 < 0 ∨ nI 7 < x1) → r = oI none ∧ D' = D) ∧ ∀ y, x1 = nI y → y < 8 → D' = dfor D y ∧ cnt' ≤ cnt ∧ r = nI (cnt - cnt')
theorem nlt_le {a b : Int32} (h : ¬ a < b) : b ≤ a := by
  rw [Int32.lt_iff_toInt_lt] at h
  rw [Int32.le_iff_toInt_le]
  omega
theorem nle_lt {a b : Int32} (h : ¬ a ≤ b) : b < a := by
  rw [Int32.le_iff_toInt_le] at h
  rw [Int32.lt_iff_toInt_lt]
  omega
theorem nI_notbad {k K : Nat} (h : k ≤ K) (hK : K < 2 ^ 31) : ¬ nI k < 0 ∧ ¬ nI K < nI k := ⟨nI_pos (by omega), nI_nlt h hK⟩
theorem als_bad {D : Nat → Nat → Option Nat} {x1 x2 x3 : Int32} {cnt cnt' : Nat} (h : x2 < 0 ∨ nI 16 < x2 ∨ x3 < 0 ∨ nI 7 < x3) : ALS D x1 x2 x3 cnt cnt' D (oI none) := by
  refine ⟨fun _ => ⟨rfl, rfl⟩, fun k y a e1 h1 e2 h2 => ?_⟩
  exfalso
  obtain ⟨g1, g2⟩ := nI_notbad (K := 16) h1 (by decide)
  obtain ⟨g3, g4⟩ := nI_notbad (K := 7) (show y ≤ 7 by omega) (by decide)
  rw [e1, e2] at h
  rcases h with q | q | q | q
  · exact g1 q
  · exact g2 q
  · exact g3 q
  · exact g4 q
theorem als_good {D D' : Nat → Nat → Option Nat} {x1 r : Int32} {cnt cnt' k y a : Nat} (hk : k ≤ 16) (hy : y < 8) (ea : x1 &&& nI 65535 = nI a) (ha : a < 65536) (h1 : (D (ct a k) k = none ∧ cnt = 32) → r = oI none ∧ D' = D) (h2 : ¬ (D (ct a k) k = none ∧ cnt = 32) → r = nI cnt' ∧ D' = dset D (ct a k) k y) : ALS D x1 (nI k) (nI y) cnt cnt' D' r := by
  refine ⟨fun h => ?_, fun k' y' a' e1 g1 e2 g2 e3 g3 => ?_⟩
  · exfalso
    obtain ⟨g1, g2⟩ := nI_notbad (K := 16) hk (by decide)
    obtain ⟨g3, g4⟩ := nI_notbad (K := 7) (show y ≤ 7 by omega) (by decide)
    rcases h with q | q | q | q
    · exact g1 q
    · exact g2 q
    · exact g3 q
    · exact g4 q
  · have z1 : k = k' := (nI_eq (by omega) (by omega)).mp e1
    have z2 : y = y' := (nI_eq (by omega) (by omega)).mp e2
    have z3 : a = a' := (nI_eq (by omega) (by omega)).mp (ea.symm.trans e3)
    subst z1; subst z2; subst z3
    exact ⟨h1, h2⟩
theorem dns_bad {D : Nat → Nat → Option Nat} {x1 x2 : Int32} {cnt' : Nat} (h : x2 < 0 ∨ nI 16 < x2) : DNS D x1 x2 cnt' D (oI none) := by
  refine ⟨fun _ => ⟨rfl, rfl⟩, fun k a e1 h1 => ?_⟩
  exfalso
  obtain ⟨g1, g2⟩ := nI_notbad (K := 16) h1 (by decide)
  rw [e1] at h
  rcases h with q | q
  · exact g1 q
  · exact g2 q
theorem dns_good {D D' : Nat → Nat → Option Nat} {x1 r : Int32} {cnt' k a : Nat} (hk : k ≤ 16) (ea : x1 &&& nI 65535 = nI a) (ha : a < 65536) (h1 : D (ct a k) k = none → r = oI none ∧ D' = D) (h2 : D (ct a k) k ≠ none → r = nI cnt' ∧ D' = ddel D (ct a k) k) : DNS D x1 (nI k) cnt' D' r := by
  refine ⟨fun h => ?_, fun k' a' e1 g1 e3 g3 => ?_⟩
  · exfalso
    obtain ⟨g1, g2⟩ := nI_notbad (K := 16) hk (by decide)
    rcases h with q | q
    · exact g1 q
    · exact g2 q
  · have z1 : k = k' := (nI_eq (by omega) (by omega)).mp e1
    have z3 : a = a' := (nI_eq (by omega) (by omega)).mp (ea.symm.trans e3)
    subst z1; subst z3
    exact ⟨h1, h2⟩
theorem fgs_bad {D : Nat → Nat → Option Nat} {x1 : Int32} {cnt cnt' : Nat} (h : x1 < 0 ∨ nI 7 < x1) : FGS D x1 cnt cnt' D (oI none) := by
  refine ⟨fun _ => ⟨rfl, rfl⟩, fun y e1 h1 => ?_⟩
  exfalso
  obtain ⟨g1, g2⟩ := nI_notbad (K := 7) (show y ≤ 7 by omega) (by decide)
  rw [e1] at h
  rcases h with q | q
  · exact g1 q
  · exact g2 q
theorem fgs_good {D D' : Nat → Nat → Option Nat} {r : Int32} {cnt cnt' y : Nat} (hy : y < 8) (h1 : D' = dfor D y) (h2 : cnt' ≤ cnt) (h3 : r = nI (cnt - cnt')) : FGS D (nI y) cnt cnt' D' r := by
  refine ⟨fun h => ?_, fun y' e1 g1 => ?_⟩
  · exfalso
    obtain ⟨g1, g2⟩ := nI_notbad (K := 7) (show y ≤ 7 by omega) (by decide)
    rcases h with q | q
    · exact g1 q
    · exact g2 q
  · have z1 : y = y' := (nI_eq (by omega) (by omega)).mp e1
    subst z1
    exact ⟨h1, h2, h3⟩
section FPX
variable {us : Nat → Bool} {bi le : Nat → Nat} {ro fr : Option Nat} {ch pe : Nat → Option Nat} {D : Nat → Nat → Option Nat}
theorem fp_no (hT : TW us bi le ro ch) {pp k : Nat} {ab fu : Option Nat} (h : FP us bi le ro ch pp k none ab fu) {m : Nat} (hm : ud us m) (e1 : bi m = pp) (e2 : le m = k) : False := by
  cases hs : sv ro ch (so le pp ab) with
  | none => exact hT.2.2.1 _ (so_vs h.1) hs m hm (by rw [e1, e2]; exact so_rg h.1)
  | some d =>
    have q := (hT.2.2.2 _ d (so_vs h.1) hs).2.2 m hm (by rw [e1, e2]; exact so_rg h.1)
    rw [e1, e2] at q
    exact h.2.2 rfl d hs q
theorem fp_none (hT : TW us bi le ro ch) (hC : CT us bi le pe D) {pp k : Nat} {ab fu : Option Nat} (h : FP us bi le ro ch pp k none ab fu) : D pp k = none := by
  cases hd : D pp k with
  | none => rfl
  | some r =>
    obtain ⟨m, hm, e1, e2, -⟩ := (hC _ _ r).mp hd
    exact (fp_no hT h hm e1 e2).elim
theorem tok_pos {he n y : Nat} (h : TOK he ro fr us bi le pe ch D) (hn : ud us n) (hp : pe n = some y) : 1 ≤ he := by
  rw [h.2.2.2.2.1]
  refine fb_ct_pos.mpr ⟨n, hn.1, ?_⟩
  rw [hn.2, hp]
  rfl
theorem kid_lt (hT : TW us bi le ro ch) {n b : Nat} (hn : ud us n) (hb : b < 2) : ∀ c, ch (2 * n + b) = some c → c < 2 ^ 31 := fun c hc => by
  have := (hT.2.2.2 (some (2 * n + b)) c (vs_kid hn hb) hc).1.1
  omega
theorem fab_lead (hT : TW us bi le ro ch) {pp k : Nat} {ab fu : Option Nat} (hk : k ≤ 16) (h : FAB us bi le ro ch pp k ab fu) : ∀ f, ab = some f → f < 64 ∧ le f ≤ 15 := fun f e => ⟨(h.1 f e).1.1, by have := (h.1 f e).2.1; omega⟩
theorem fab_fu (hT : TW us bi le ro ch) {pp k f : Nat} {fu : Option Nat} (hk : k ≤ 16) (h : FAB us bi le ro ch pp k (some f) fu) : ∀ g, fu = some g → g < 64 ∧ le g ≤ 15 := fun g e => by
  obtain ⟨-, f2, -, -, f5⟩ := h.1 f rfl
  obtain ⟨g1, g2, -⟩ := f5 g e
  exact ⟨g1.1, by omega⟩
/-- the place's node d: where the new prefix and its bits part -/
theorem ins_split (hT : TW us bi le ro ch) {pp k d sh lim : Nat} {ab fu : Option Nat} (hp : pp < 65536) (hk : k ≤ 16) (h : FP us bi le ro ch pp k none ab fu) (hw : sv ro ch (so le pp ab) = some d) (l1 : lim ≤ k) (l2 : lim ≤ le d) (l3 : lim = k ∨ lim = le d) (s1 : sh ≤ lim) (s2 : ∀ j, j < sh → bt pp j = bt (bi d) j) (s3 : sh < lim → bt pp sh ≠ bt (bi d) sh) :
    sh < le d ∧ (sh ≠ k → sh < k ∧ bt pp sh ≠ bt (bi d) sh) ∧ ct (bi d) sh = ct pp sh := by
  have hdu := (hT.2.2.2 _ d (so_vs h.1) hw).1
  obtain ⟨g1, g2, g3⟩ := hT.1 d hdu
  have hcom : ct pp sh = ct (bi d) sh := ct_common hp g2 sh (by omega) s2
  have hlt : sh < le d := by
    rcases Nat.lt_or_ge sh (le d) with q | q
    · exact q
    · have e : sh = le d := by omega
      exfalso
      refine h.2.2 rfl d hw ⟨by omega, ?_⟩
      rw [← e, hcom, e]
      exact g3
  exact ⟨hlt, fun hne => ⟨by omega, s3 (by omega)⟩, hcom.symm⟩
end FPX
end
section
/-! forgetting a peer, one entry after another -/
section FGT
variable {us : Nat → Bool} {bi le : Nat → Nat} {ro fr : Option Nat} {ch pe : Nat → Option Nat} {D D2 : Nat → Nat → Option Nat}
def FGI (D D2 : Nat → Nat → Option Nat) (y : Nat) : Prop := (∀ pp l r, r ≠ y → (D2 pp l = some r ↔ D pp l = some r)) ∧ ∀ pp l, D2 pp l = some y → D pp l = some y
theorem fgi_0 (y : Nat) : FGI D D y := ⟨fun _ _ _ _ => Iff.rfl, fun _ _ h => h⟩
theorem fgi_del {y pp k : Nat} (h : FGI D D2 y) (hy : D2 pp k = some y) : FGI D (ddel D2 pp k) y := by
  refine ⟨fun p2 l2 r hr => ?_, fun p2 l2 e => ?_⟩
  · rw [← h.1 p2 l2 r hr]
    unfold ddel
    by_cases q : p2 = pp ∧ l2 = k
    · rw [if_pos q, q.1, q.2, hy]
      constructor
      · intro e; cases e
      · intro e; cases e; exact absurd rfl hr
    · rw [if_neg q]
  · unfold ddel at e
    by_cases q : p2 = pp ∧ l2 = k
    · rw [if_pos q] at e; cases e
    · rw [if_neg q] at e; exact h.2 _ _ e
theorem fgi_end {y : Nat} (h : FGI D D2 y) (hno : ∀ pp l, D2 pp l ≠ some y) : D2 = dfor D y := by
  funext pp l
  unfold dfor
  by_cases q : D pp l = some y
  · rw [if_pos q]
    cases hd : D2 pp l with
    | none => rfl
    | some r =>
      by_cases e : r = y
      · rw [e] at hd; exact absurd hd (hno pp l)
      · have := (h.1 pp l r e).mp hd
        rw [q] at this
        cases this
        exact absurd rfl e
  · rw [if_neg q]
    cases hd : D pp l with
    | none =>
      cases hd2 : D2 pp l with
      | none => rfl
      | some r =>
        by_cases e : r = y
        · rw [e] at hd2; exact absurd hd2 (hno pp l)
        · have := (h.1 pp l r e).mp hd2
          rw [hd] at this
          cases this
    | some r =>
      have e : r ≠ y := fun e => q (by rw [hd, e])
      exact (h.1 pp l r e).mpr hd
end FGT
end
section
/-! sums over what is held, told by keys; the tree's nodes and the model's entries give the same -/
def ov (x : Option Nat) (g : Nat → Int) : Int := match x with
  | some r => g r
  | none => 0
def sumD (D : Nat → Nat → Option Nat) (g : Nat → Nat → Nat → Int) : Int := fb_si (fun x => ov (D (x % 65536) (x / 65536)) (g (x % 65536) (x / 65536))) 1114112
theorem fb_si_zero {f : Nat → Int} : ∀ {n : Nat}, (∀ k, k < n → f k = 0) → fb_si f n = 0
  | 0, _ => rfl
  | n + 1, h => by rw [fb_si_succ, fb_si_zero (fun k hk => h k (by omega)), h n (by omega)]; rfl
theorem si_re (f : Nat → Int) (M : Nat) : ∀ (N : Nat) (h : Nat → Bool) (k : Nat → Nat) (T : Nat → Bool), (∀ n, n < N → h n = true → k n < M) → (∀ n m, n < N → m < N → h n = true → h m = true → k n = k m → n = m) → (∀ x, x < M → (T x = true ↔ ∃ n, n < N ∧ h n = true ∧ k n = x)) → fb_si (fun n => if h n = true then f (k n) else 0) N = fb_si (fun x => if T x = true then f x else 0) M
  | 0, h, k, T, _, _, hT => by
    rw [fb_si_zero (n := M)]
    · rfl
    · intro x hx
      rw [if_neg]
      intro q
      obtain ⟨n, hn, -⟩ := (hT x hx).mp q
      exact absurd hn (Nat.not_lt_zero n)
  | N + 1, h, k, T, hk, hinj, hT => by
    rw [fb_si_succ]
    cases hN : h N with
    | false =>
      rw [if_neg (by decide), si_re f M N h k T (fun n hn => hk n (by omega)) (fun n m hn hm => hinj n m (by omega) (by omega)) (fun x hx => ?_)]
      · omega
      · rw [hT x hx]
        constructor
        · rintro ⟨n, h1, h2, h3⟩
          refine ⟨n, ?_, h2, h3⟩
          rcases Nat.lt_or_ge n N with q | q
          · exact q
          · rw [show n = N by omega, hN] at h2; cases h2
        · rintro ⟨n, h1, h2⟩
          exact ⟨n, by omega, h2⟩
    | true =>
      rw [if_pos rfl]
      have hkN := hk N (by omega) hN
      have hTN : T (k N) = true := (hT _ hkN).mpr ⟨N, by omega, hN, rfl⟩
      rw [si_re f M N h k (fun x => if x = k N then false else T x) (fun n hn => hk n (by omega)) (fun n m hn hm => hinj n m (by omega) (by omega)) (fun x hx => ?_)]
      · have h1 := fb_si_upd (fun x => if T x = true then f x else 0) 0 hkN
        rw [show fb_si (fun x => if (if x = k N then false else T x) = true then f x else 0) M = fb_si (fun x => if x = k N then 0 else (if T x = true then f x else 0)) M from fb_si_cong (fun x _ => by
          by_cases e : x = k N
          · simp [e]
          · simp [e]), h1]
        simp only [hTN, if_true]
        omega
      · by_cases e : x = k N
        · rw [if_pos e]
          constructor
          · intro q; cases q
          · rintro ⟨n, h1, h2, h3⟩
            have := hinj n N (by omega) (by omega) h2 hN (by rw [h3, e])
            omega
        · rw [if_neg e, hT x hx]
          constructor
          · rintro ⟨n, h1, h2, h3⟩
            refine ⟨n, ?_, h2, h3⟩
            rcases Nat.lt_or_ge n N with q | q
            · exact q
            · exact absurd (by rw [← h3, show n = N by omega]) e
          · rintro ⟨n, h1, h2⟩
            exact ⟨n, by omega, h2⟩
theorem key_dm {b l : Nat} (hb : b < 65536) : (l * 65536 + b) % 65536 = b ∧ (l * 65536 + b) / 65536 = l := by omega
section SUMS
variable {us : Nat → Bool} {bi le : Nat → Nat} {ro fr : Option Nat} {ch pe : Nat → Option Nat} {D : Nat → Nat → Option Nat}
/-- a sum over the tree's nodes -/
theorem sum_tree (hT : TW us bi le ro ch) (hC : CT us bi le pe D) (g : Nat → Nat → Nat → Int) : fb_si (fun n => if us n = true then ov (pe n) (g (bi n) (le n)) else 0) 64 = sumD D g := by
  have h := si_re (fun x => ov (D (x % 65536) (x / 65536)) (g (x % 65536) (x / 65536))) 1114112 64 (fun n => us n && (pe n).isSome) (fun n => le n * 65536 + bi n) (fun x => (D (x % 65536) (x / 65536)).isSome)
    (fun n hn hu => by
      simp only [Bool.and_eq_true] at hu
      have := hT.1 n ⟨hn, hu.1⟩
      omega)
    (fun n m hn hm hu hv e => by
      simp only [Bool.and_eq_true] at hu hv
      have a := hT.1 n ⟨hn, hu.1⟩
      have b := hT.1 m ⟨hm, hv.1⟩
      exact hT.2.1 n m ⟨hn, hu.1⟩ ⟨hm, hv.1⟩ (by omega) (by omega))
    (fun x hx => by
      constructor
      · intro q
        cases hd : D (x % 65536) (x / 65536) with
        | none => rw [hd] at q; cases q
        | some r =>
          obtain ⟨n, hn, e1, e2, e3⟩ := (hC _ _ r).mp hd
          refine ⟨n, hn.1, ?_, ?_⟩
          · simp only [Bool.and_eq_true]
            exact ⟨hn.2, by rw [e3]; rfl⟩
          · show le n * 65536 + bi n = x
            rw [e1, e2]
            omega
      · rintro ⟨n, hn, hu, e⟩
        simp only [Bool.and_eq_true] at hu
        have hb := (hT.1 n ⟨hn, hu.1⟩).2.1
        have hk := key_dm (l := le n) hb
        have e : le n * 65536 + bi n = x := e
        rw [← e, hk.1, hk.2, ct_node hT hC ⟨hn, hu.1⟩]
        exact hu.2)
  have e1 : fb_si (fun n => if us n = true then ov (pe n) (g (bi n) (le n)) else 0) 64 = fb_si (fun n => if (us n && (pe n).isSome) = true then ov (D ((le n * 65536 + bi n) % 65536) ((le n * 65536 + bi n) / 65536)) (g ((le n * 65536 + bi n) % 65536) ((le n * 65536 + bi n) / 65536)) else 0) 64 := by
    refine fb_si_cong (fun n hn => ?_)
    cases hu : us n with
    | false => simp
    | true =>
      have hb := (hT.1 n ⟨hn, hu⟩).2.1
      have hk := key_dm (l := le n) hb
      rw [hk.1, hk.2, ct_node hT hC ⟨hn, hu⟩]
      cases hp : pe n with
      | none => simp [ov]
      | some r => simp
  rw [e1, h]
  refine fb_si_cong (fun x _ => ?_)
  cases hd : D (x % 65536) (x / 65536) with
  | none => simp [ov]
  | some r => simp
theorem ct_si (f : Nat → Bool) : ∀ n, (fb_ct f n : Int) = fb_si (fun k => if f k = true then 1 else 0) n
  | 0 => rfl
  | n + 1 => by
    rw [fb_ct_succ, fb_si_succ, ← ct_si f n]
    cases f n <;> simp
def cD (D : Nat → Nat → Option Nat) : Int := sumD D (fun _ _ _ => 1)
theorem tok_cnt {he : Nat} (h : TOK he ro fr us bi le pe ch D) : (he : Int) = cD D := by
  rw [h.2.2.2.2.1]
  unfold hc cD
  rw [ct_si, ← sum_tree h.1 h.2.2.2.2.2.2]
  refine fb_si_cong (fun n _ => ?_)
  cases hu : us n <;> cases hp : pe n <;> simp [ov]
end SUMS
/-! what the questions on sizes answer -/
def szI (l : Nat) : Int := ((2 ^ (16 - l) : Nat) : Int)
def parP (D : Nat → Nat → Option Nat) (pp l : Nat) : Option Nat := (look D pp l).bind (fun j => D (ct pp j) j)
def ownT (D : Nat → Nat → Option Nat) (y : Nat) : Int := sumD D (fun pp l r => (if r = y then szI l else 0) - (if parP D pp l = some y then szI l else 0))
def ownN (D : Nat → Nat → Option Nat) : Int := 65536 - sumD D (fun pp l _ => if look D pp l = none then szI l else 0)
def setD (D : Nat → Nat → Option Nat) (pp l : Nat) : Int := szI l - sumD D (fun p2 l2 _ => if look D p2 l2 = some l ∧ ct p2 l = pp then szI l2 else 0)
def uslD (D : Nat → Nat → Option Nat) : Int := sumD D (fun pp l r => if zI (setD D pp l) = 0 ∨ parP D pp l = some r then 1 else 0)
def entD (D : Nat → Nat → Option Nat) (y : Nat) : Int := sumD D (fun _ _ r => if r = y then 1 else 0)
def ENS (D : Nat → Nat → Option Nat) (x1 r : Int32) : Prop := ((x1 < 0 ∨ nI 7 < x1) → r = oI none) ∧ ∀ y, x1 = nI y → y < 8 → r = zI (entD D y)
def OWS (D : Nat → Nat → Option Nat) (x1 r : Int32) : Prop := ((x1 < oI none ∨ nI 7 < x1) → r = (-2)) ∧ (x1 = oI none → r = zI (ownN D)) ∧ ∀ y, x1 = nI y → y < 8 → r = zI (ownT D y)
theorem ens_bad {D : Nat → Nat → Option Nat} {x1 : Int32} (h : x1 < 0 ∨ nI 7 < x1) : ENS D x1 (oI none) := by
  refine ⟨fun _ => rfl, fun y e1 h1 => ?_⟩
  exfalso
  obtain ⟨g1, g2⟩ := nI_notbad (K := 7) (show y ≤ 7 by omega) (by decide)
  rw [e1] at h
  rcases h with q | q
  · exact g1 q
  · exact g2 q
theorem ens_good {D : Nat → Nat → Option Nat} {y : Nat} {r : Int32} (hy : y < 8) (h : r = zI (entD D y)) : ENS D (nI y) r := by
  refine ⟨fun q => ?_, fun y' e1 g1 => ?_⟩
  · exfalso
    obtain ⟨g1, g2⟩ := nI_notbad (K := 7) (show y ≤ 7 by omega) (by decide)
    rcases q with q | q
    · exact g1 q
    · exact g2 q
  · have z1 : y = y' := (nI_eq (by omega) (by omega)).mp e1
    subst z1
    exact h
end
section
/-! ===== drawers: more things than places ===== -/
theorem fb_holes : ∀ (m n : Nat) (f : Nat → Nat), (∀ i, i < n → f i < m) → (∀ i j, i < j → j < n → f i ≠ f j) → n ≤ m := by
  intro m
  induction m with
  | zero =>
    intro n f h1 _
    rcases Nat.eq_zero_or_pos n with h | h
    · omega
    · exact absurd (h1 0 h) (Nat.not_lt_zero _)
  | succ m ih =>
    intro n f h1 h2
    by_cases hx : ∃ i, i < n ∧ f i = m
    · obtain ⟨a, ha, hfa⟩ := hx
      have hg := ih (n - 1) (fun i => if i < a then f i else f (i + 1)) (by
        intro i hi
        by_cases q : i < a
        · simp only [if_pos q]
          have b1 := h1 i (by omega)
          have b2 := h2 i a q ha
          omega
        · simp only [if_neg q]
          have b1 := h1 (i + 1) (by omega)
          have b2 := h2 a (i + 1) (by omega) (by omega)
          omega) (by
        intro i j hij hj
        by_cases q : i < a
        · by_cases r : j < a
          · simp only [if_pos q, if_pos r]
            exact h2 i j hij (by omega)
          · simp only [if_pos q, if_neg r]
            exact h2 i (j + 1) (by omega) (by omega)
        · have r : ¬ j < a := by omega
          simp only [if_neg q, if_neg r]
          exact h2 (i + 1) (j + 1) (by omega) (by omega))
      omega
    · have hg := ih n f (fun i hi => by
        have b1 := h1 i hi
        have b2 : f i ≠ m := fun e => hx ⟨i, hi, e⟩
        omega) h2
      omega
/-! settleAll: the walk over the tree from the root, with a stack -/
def HB (D : Nat → Nat → Option Nat) (us : Nat → Bool) (bi le : Nat → Nat) (pe : Nat → Option Nat) (n : Nat) (x : Option Nat) : Prop := BO D us bi le pe (bi n) x (le n)
def T1 (V : Nat → Bool) (pe : Nat → Option Nat) (le : Nat → Nat) (y : Nat) : Int := fb_si (fun m => if V m = true ∧ pe m = some y then szI (le m) else 0) 64
def T2 (V : Nat → Bool) (pe : Nat → Option Nat) (le : Nat → Nat) (ha : Nat → Option Nat) (y : Nat) : Int := fb_si (fun m => if V m = true ∧ ((pe m).isSome = true ∧ (ha m).bind pe = some y) then szI (le m) else 0) 64
def T3 (V : Nat → Bool) (pe : Nat → Option Nat) (le : Nat → Nat) (ha : Nat → Option Nat) : Int := fb_si (fun m => if V m = true ∧ ((pe m).isSome = true ∧ ha m = none) then szI (le m) else 0) 64
def T4 (V : Nat → Bool) (pe : Nat → Option Nat) (le : Nat → Nat) (ha : Nat → Option Nat) (k : Nat) : Int := fb_si (fun m => if V m = true ∧ ((pe m).isSome = true ∧ ha m = some k) then szI (le m) else 0) 64
def SM (V : Nat → Bool) (pe : Nat → Option Nat) (le : Nat → Nat) (ha : Nat → Option Nat) (su se : Nat → Int) : Prop := (∀ y, y < 8 → su y = T1 V pe le y - T2 V pe le ha y) ∧ su 8 = 65536 - T3 V pe le ha ∧ ∀ k, V k = true → (pe k).isSome = true → se k = szI (le k) - T4 V pe le ha k
def puH (x up : Option Nat) (ha : Nat → Option Nat) : Nat → Option Nat := match x with
  | none => ha
  | some d => va_up ha d up
def puS (x : Option Nat) (t : Nat) (sk : Nat → Nat) : Nat → Nat := match x with
  | none => sk
  | some d => va_up sk t d
def puT (x : Option Nat) (t : Nat) : Nat := match x with
  | none => t
  | some _ => t + 1
/-- what the first half of visit does -/
def VS (pe : Nat → Option Nat) (le : Nat → Nat) (ha : Nat → Option Nat) (n : Nat) (su se su' se' : Nat → Int) (up : Option Nat) : Prop :=
  (pe n = none ∧ su' = su ∧ se' = se ∧ up = ha n) ∨ ∃ y i, pe n = some y ∧ up = some n ∧ (ha n = none → i = 8) ∧ (∀ u, ha n = some u → pe u = some i) ∧ su' = va_up (va_up su y (su y + szI (le n))) i ((va_up su y (su y + szI (le n))) i - szI (le n)) ∧ (ha n = none → se' = va_up se n (szI (le n))) ∧ ∀ u, ha n = some u → se' = va_up (va_up se n (szI (le n))) u ((va_up se n (szI (le n))) u - szI (le n))
section SET
variable {us : Nat → Bool} {bi le : Nat → Nat} {ro fr : Option Nat} {ch pe : Nat → Option Nat} {D : Nat → Nat → Option Nat} {V : Nat → Bool} {ha : Nat → Option Nat} {su se su' se' : Nat → Int} {sk : Nat → Nat}
theorem tsum_add {n : Nat} (hn : n < 64) (hV : V n = false) (c : Nat → Prop) [DecidablePred c] (f : Nat → Int) : fb_si (fun m => if va_up V n true m = true ∧ c m then f m else 0) 64 = fb_si (fun m => if V m = true ∧ c m then f m else 0) 64 + (if c n then f n else 0) := by
  have h := fb_si_upd (fun m => if V m = true ∧ c m then f m else 0) (if c n then f n else 0) hn
  have e : (if V n = true ∧ c n then f n else 0) = 0 := if_neg (fun q => by rw [hV] at q; cases q.1)
  simp only [e] at h
  rw [show fb_si (fun m => if va_up V n true m = true ∧ c m then f m else 0) 64 = fb_si (fun k => if k = n then (if c n then f n else 0) else if V k = true ∧ c k then f k else 0) 64 from fb_si_cong (fun m _ => by
    by_cases q : m = n
    · subst q; rw [up_s]; simp
    · rw [up_n _ _ q]; simp [q]), h]
  omega
theorem hb_lt {n u : Nat} (h : HB D us bi le pe n (some u)) : le u < le n := (look_some (h.1 u rfl).2.2.2).1
theorem sm_step {n : Nat} {up : Option Nat} (hn : n < 64) (hV : V n = false) (hPB : PB us pe) (hnu : ud us n) (hVu : ∀ m u, V m = true → ha m = some u → V u = true) (hb : HB D us bi le pe n (ha n)) (h : SM V pe le ha su se) (hs : VS pe le ha n su se su' se' up) : SM (va_up V n true) pe le ha su' se' := by
  obtain ⟨h1, h2, h3⟩ := h
  have a1 : ∀ y, T1 (va_up V n true) pe le y = T1 V pe le y + (if pe n = some y then szI (le n) else 0) := fun y => tsum_add hn hV (fun m => pe m = some y) (fun m => szI (le m))
  have a2 : ∀ y, T2 (va_up V n true) pe le ha y = T2 V pe le ha y + (if (pe n).isSome = true ∧ (ha n).bind pe = some y then szI (le n) else 0) := fun y => tsum_add hn hV (fun m => (pe m).isSome = true ∧ (ha m).bind pe = some y) (fun m => szI (le m))
  have a3 : T3 (va_up V n true) pe le ha = T3 V pe le ha + (if (pe n).isSome = true ∧ ha n = none then szI (le n) else 0) := tsum_add hn hV (fun m => (pe m).isSome = true ∧ ha m = none) (fun m => szI (le m))
  have a4 : ∀ k, T4 (va_up V n true) pe le ha k = T4 V pe le ha k + (if (pe n).isSome = true ∧ ha n = some k then szI (le n) else 0) := fun k => tsum_add hn hV (fun m => (pe m).isSome = true ∧ ha m = some k) (fun m => szI (le m))
  rcases hs with ⟨p1, p2, p3, -⟩ | ⟨y, i, p1, -, i1, i2, p2, p3, p4⟩
  · subst p2
    subst p3
    refine ⟨fun y hy => ?_, ?_, fun k hk hp => ?_⟩
    · rw [a1, a2, p1]; simp; exact h1 y hy
    · rw [a3, p1]; simp; exact h2
    · by_cases q : k = n
      · rw [q, p1] at hp; cases hp
      · rw [up_n _ _ q] at hk
        rw [a4, p1]; simp; exact h3 k hk hp
  · have hy8 := hPB n y hnu p1
    have hn0 : T4 V pe le ha n = 0 := by
      refine fb_si_zero (fun m _ => if_neg ?_)
      rintro ⟨m1, -, m3⟩
      have := hVu m n m1 m3
      rw [hV] at this
      cases this
    subst p2
    cases hh : ha n with
    | none =>
      have ei := i1 hh
      subst ei
      rw [p3 hh]
      rw [hh] at a2 a3 a4
      simp only [p1, Option.isSome_some, true_and, Option.bind_none, Option.some.injEq] at a1 a2 a3 a4
      refine ⟨fun y' hy => ?_, ?_, fun k hk hp => ?_⟩
      · rw [a1, a2, up_n _ _ (by omega)]
        have := h1 y' hy
        by_cases q : y' = y
        · subst q; rw [up_s]; simp; omega
        · rw [up_n _ _ q, if_neg (fun z => q z.symm)]; simp; omega
      · rw [a3, up_s, up_n _ _ (by omega)]
        simp
        omega
      · rw [a4]
        by_cases q : k = n
        · subst q; rw [up_s, hn0]; simp
        · rw [up_n _ _ q] at hk ⊢
          have := h3 k hk hp
          simp
          omega
    | some u =>
      have hu := i2 u hh
      have hbu := hb.1 u hh
      have hi8 := hPB u i hbu.1 hu
      have hlt := hb_lt (n := n) (u := u) (by rw [hh] at hb; exact hb)
      have hun : u ≠ n := fun e => by rw [e] at hlt; exact Nat.lt_irrefl _ hlt
      rw [p4 u hh]
      rw [hh] at a2 a3 a4
      simp only [p1, Option.isSome_some, true_and, Option.bind_some, hu, Option.some.injEq] at a1 a2 a3 a4
      refine ⟨fun y' hy => ?_, ?_, fun k hk hp => ?_⟩
      · rw [a1, a2]
        have := h1 y' hy
        by_cases q : y' = i
        · subst q
          rw [up_s]
          by_cases q2 : y' = y
          · subst q2; rw [up_s]; simp; omega
          · rw [up_n _ _ q2, if_neg (fun z => q2 z.symm)]; simp; omega
        · have q' : ¬ i = y' := fun z => q z.symm
          rw [up_n _ _ q]
          by_cases q2 : y' = y
          · subst q2; rw [up_s]; simp [q']; omega
          · have q3 : ¬ y = y' := fun z => q2 z.symm
            rw [up_n _ _ q2]; simp [q', q3]; omega
      · rw [a3, up_n _ _ (by omega), up_n _ _ (by omega)]
        simp
        omega
      · rw [a4]
        by_cases q : k = n
        · subst q
          rw [up_n _ _ hun.symm, up_s, hn0, if_neg hun]
          simp
        · rw [up_n _ _ q] at hk
          have := h3 k hk hp
          by_cases q2 : k = u
          · subst q2; rw [up_s, up_n _ _ q]; simp; omega
          · rw [up_n _ _ q2, up_n _ _ q, if_neg (fun z => q2 z.symm)]; omega
/-- the sums look at visited nodes alone -/
theorem sm_cong {ha' : Nat → Option Nat} (h : SM V pe le ha su se) (he : ∀ m, V m = true → ha' m = ha m) : SM V pe le ha' su se := by
  obtain ⟨h1, h2, h3⟩ := h
  have c : ∀ (P : Option Nat → Nat → Prop) [∀ a b, Decidable (P a b)], fb_si (fun m => if V m = true ∧ P (ha' m) m then szI (le m) else 0) 64 = fb_si (fun m => if V m = true ∧ P (ha m) m then szI (le m) else 0) 64 := by
    intro P _
    refine fb_si_cong (fun m _ => ?_)
    cases hv : V m with
    | false => simp
    | true => rw [he m hv]
  have e2 : ∀ y, T2 V pe le ha' y = T2 V pe le ha y := fun y => c (fun x m => (pe m).isSome = true ∧ x.bind pe = some y)
  have e3 : T3 V pe le ha' = T3 V pe le ha := c (fun x m => (pe m).isSome = true ∧ x = none)
  have e4 : ∀ k, T4 V pe le ha' k = T4 V pe le ha k := fun k => c (fun x m => (pe m).isSome = true ∧ x = some k)
  exact ⟨fun y hy => by rw [e2]; exact h1 y hy, by rw [e3]; exact h2, fun k hk hp => by rw [e4]; exact h3 k hk hp⟩
def DI (D : Nat → Nat → Option Nat) (us : Nat → Bool) (bi le : Nat → Nat) (pe : Nat → Option Nat) (V : Nat → Bool) (d : Nat) (sk : Nat → Nat) (ha : Nat → Option Nat) : Prop :=
  (∀ m, V m = true → ud us m) ∧ (∀ i, i < d → ud us (sk i) ∧ HB D us bi le pe (sk i) (ha (sk i))) ∧ (∀ i m, i < d → V m = true → ¬ pf (bi (sk i)) (le (sk i)) (bi m) (le m)) ∧
  (∀ i j, i < d → j < d → i ≠ j → ¬ pf (bi (sk i)) (le (sk i)) (bi (sk j)) (le (sk j))) ∧ (∀ m, V m = true → HB D us bi le pe m (ha m)) ∧ (∀ m u, V m = true → ha m = some u → V u = true) ∧ (∀ i u, i < d → ha (sk i) = some u → V u = true)
def CV (us : Nat → Bool) (bi le : Nat → Nat) (V : Nat → Bool) (d : Nat) (sk : Nat → Nat) : Prop := ∀ m, ud us m → V m = true ∨ ∃ i, i < d ∧ pf (bi (sk i)) (le (sk i)) (bi m) (le m)
/-- on the way: the node n is done, its children from b on are not on the stack yet -/
def DN (us : Nat → Bool) (bi le : Nat → Nat) (V : Nat → Bool) (d : Nat) (sk : Nat → Nat) (n b0 : Nat) : Prop :=
  V n = true ∧ (∀ m, ud us m → V m = true ∨ (∃ i, i < d ∧ pf (bi (sk i)) (le (sk i)) (bi m) (le m)) ∨ ∃ b, b0 ≤ b ∧ b < 2 ∧ rg bi le (some (2 * n + b)) (bi m) (le m)) ∧
  (∀ i, i < d → ¬ pf (bi n) (le n) (bi (sk i)) (le (sk i)) ∨ ∃ b, b < b0 ∧ rg bi le (some (2 * n + b)) (bi (sk i)) (le (sk i))) ∧ ∀ m, V m = true → pf (bi n) (le n) (bi m) (le m) → m = n
theorem pf_rf (hT : TW us bi le ro ch) {n : Nat} (hn : ud us n) : pf (bi n) (le n) (bi n) (le n) := ⟨Nat.le_refl _, (hT.1 n hn).2.2⟩
theorem di_unseen (hT : TW us bi le ro ch) {d i : Nat} (h : DI D us bi le pe V d sk ha) (hi : i < d) : V (sk i) = false := by
  cases hv : V (sk i) with
  | false => rfl
  | true => exact absurd (pf_rf hT (h.2.1 i hi).1) (h.2.2.1 i (sk i) hi hv)
theorem di_take (hT : TW us bi le ro ch) {d n : Nat} (h : DI D us bi le pe V (d + 1) sk ha) (hc : CV us bi le V (d + 1) sk) (hn : sk d = n) : DI D us bi le pe (va_up V n true) d sk ha ∧ DN us bi le (va_up V n true) d sk n 0 := by
  have hun := di_unseen hT h (Nat.lt_succ_self d)
  obtain ⟨h1, h2, h3, h4, h5, h6, h7⟩ := h
  have hud := (h2 d (Nat.lt_succ_self d)).1
  rw [hn] at hud hun
  have vin : ∀ m, va_up V n true m = true → m = n ∨ V m = true := by
    intro m hm
    by_cases q : m = n
    · exact Or.inl q
    · rw [up_n _ _ q] at hm; exact Or.inr hm
  have vup : ∀ m, V m = true → va_up V n true m = true := by
    intro m hm
    by_cases q : m = n
    · rw [q, up_s]
    · rw [up_n _ _ q]; exact hm
  refine ⟨⟨fun m hm => ?_, fun i hi => h2 i (by omega), fun i m hi hm => ?_, fun i j hi hj => h4 i j (by omega) (by omega), fun m hm => ?_, fun m u hm hu => ?_, fun i u hi hu => vup u (h7 i u (by omega) hu)⟩, up_s _ _ _, fun m hm => ?_, fun i hi => Or.inl ?_, fun m hm hp => ?_⟩
  · rcases vin m hm with q | q
    · rw [q]; exact hud
    · exact h1 m q
  · rcases vin m hm with q | q
    · rw [q, ← hn]; exact h4 i d (by omega) (by omega) (by omega)
    · exact h3 i m (by omega) q
  · rcases vin m hm with q | q
    · rw [q, ← hn]; exact (h2 d (by omega)).2
    · exact h5 m q
  · rcases vin m hm with q | q
    · rw [q, ← hn] at hu; exact vup u (h7 d u (by omega) hu)
    · exact vup u (h6 m u q hu)
  · rcases hc m hm with q | ⟨i, hi, hp⟩
    · exact Or.inl (vup m q)
    · rcases Nat.lt_or_ge i d with z | z
      · exact Or.inr (Or.inl ⟨i, z, hp⟩)
      · have e : i = d := by omega
        rw [e, hn] at hp
        by_cases q : m = n
        · left; rw [q, up_s]
        · exact Or.inr (Or.inr ⟨bt (bi m) (le n), Nat.zero_le _, bt_lt _ _, rg_kid hp (tw_strict hT hud hm hp q)⟩)
  · rw [← hn]; exact h4 d i (by omega) (by omega) (by omega)
  · rcases vin m hm with q | q
    · exact q
    · rw [← hn] at hp; exact absurd hp (h3 d m (by omega) q)
theorem di_push (hT : TW us bi le ro ch) {d n b : Nat} {up : Option Nat} (hb : b < 2) (hn : ud us n) (h : DI D us bi le pe V d sk ha) (hN : DN us bi le V d sk n b) (hup : ∀ c, ch (2 * n + b) = some c → HB D us bi le pe c up) (huv : ∀ u, up = some u → V u = true) :
    DI D us bi le pe V (puT (ch (2 * n + b)) d) (puS (ch (2 * n + b)) d sk) (puH (ch (2 * n + b)) up ha) ∧ DN us bi le V (puT (ch (2 * n + b)) d) (puS (ch (2 * n + b)) d sk) n (b + 1) ∧ ∀ m, V m = true → puH (ch (2 * n + b)) up ha m = ha m := by
  obtain ⟨n1, n2, n3, n4⟩ := hN
  have e2 : (2 * n + b) / 2 = n := by omega
  have e3 : (2 * n + b) % 2 = b := by omega
  cases hc : ch (2 * n + b) with
  | none =>
    refine ⟨h, ⟨n1, fun m hm => ?_, fun i hi => ?_, n4⟩, fun _ _ => rfl⟩
    · rcases n2 m hm with q | q | ⟨b', q1, q2, q3⟩
      · exact Or.inl q
      · exact Or.inr (Or.inl q)
      · rcases Nat.lt_or_ge b b' with z | z
        · exact Or.inr (Or.inr ⟨b', z, q2, q3⟩)
        · have : b' = b := by omega
          rw [this] at q3
          exact absurd q3 (hT.2.2.1 _ (vs_kid hn hb) hc m hm)
    · rcases n3 i hi with q | ⟨b', q1, q2⟩
      · exact Or.inl q
      · exact Or.inr ⟨b', by omega, q2⟩
  | some c =>
    obtain ⟨h1, h2, h3, h4, h5, h6, h7⟩ := h
    obtain ⟨c1, c2, c3⟩ := hT.2.2.2 (some (2 * n + b)) c (vs_kid hn hb) hc
    have cl : le n < le c := by have := c2.1; rw [e2] at this; exact this
    have cp : pf (bi n) (le n) (bi c) (le c) := by have := rg_own c2; rw [e2] at this; exact this
    have cb : bt (bi c) (le n) = b := by have := c2.2.2; rw [e2, e3] at this; exact this
    have c16 := (hT.1 c c1).1
    -- the child and what is on the stack
    have kA : ∀ i, i < d → ¬ pf (bi c) (le c) (bi (sk i)) (le (sk i)) := by
      intro i hi hp
      rcases n3 i hi with q | ⟨b', q1, q2⟩
      · exact q (pf_trans cp hp)
      · have := q2.2.2
        rw [show (2 * n + b') / 2 = n by omega, show (2 * n + b') % 2 = b' by omega, ← pf_bt hp cl c16, cb] at this
        omega
    have kB : ∀ i, i < d → ¬ pf (bi (sk i)) (le (sk i)) (bi c) (le c) := by
      intro i hi hp
      rcases n3 i hi with q | ⟨b', q1, q2⟩
      · rcases Nat.lt_or_ge (le (sk i)) (le n) with z | z
        · exact h3 i n hi n1 (pf_cmp hp cp (by omega))
        · exact q (pf_cmp cp hp z)
      · have g1 := q2.1
        have g3 := q2.2.2
        rw [show (2 * n + b') / 2 = n by omega] at g1 g3
        rw [show (2 * n + b') % 2 = b' by omega, pf_bt hp g1 (hT.1 _ (h2 i hi).1).1, cb] at g3
        omega
    have kV : ∀ m, V m = true → ¬ pf (bi c) (le c) (bi m) (le m) := by
      intro m hm hp
      have e := n4 m hm (pf_trans cp hp)
      have := hp.1
      rw [e] at this
      omega
    have cV : ∀ m, V m = true → m ≠ c := fun m hm e => kV m hm (by rw [e]; exact pf_rf hT c1)
    have cS : ∀ i, i < d → sk i ≠ c := fun i hi e => kA i hi (by rw [e]; exact pf_rf hT c1)
    have s1 : ∀ i, i < d → va_up sk d c i = sk i := fun i hi => up_n _ _ (by omega)
    have s2 : va_up sk d c d = c := up_s _ _ _
    have hcase : ∀ i, i < d + 1 → i < d ∨ i = d := fun i hi => by omega
    refine ⟨⟨h1, ?_, ?_, ?_, ?_, ?_, ?_⟩, ⟨n1, ?_, ?_, n4⟩, fun m hm => up_n _ _ (cV m hm)⟩
    · intro i hi
      show ud us (va_up sk d c i) ∧ HB D us bi le pe (va_up sk d c i) (va_up ha c up (va_up sk d c i))
      rcases hcase i hi with z | z
      · rw [s1 i z, up_n _ _ (cS i z)]; exact h2 i z
      · rw [z, s2, up_s]; exact ⟨c1, hup c hc⟩
    · intro i m hi hm
      show ¬ pf (bi (va_up sk d c i)) (le (va_up sk d c i)) (bi m) (le m)
      rcases hcase i hi with z | z
      · rw [s1 i z]; exact h3 i m z hm
      · rw [z, s2]; exact kV m hm
    · intro i j hi hj hij
      show ¬ pf (bi (va_up sk d c i)) (le (va_up sk d c i)) (bi (va_up sk d c j)) (le (va_up sk d c j))
      rcases hcase i hi with z | z <;> rcases hcase j hj with w | w
      · rw [s1 i z, s1 j w]; exact h4 i j z w hij
      · rw [s1 i z, w, s2]; exact kB i z
      · rw [z, s2, s1 j w]; exact kA j w
      · omega
    · intro m hm
      show HB D us bi le pe m (va_up ha c up m)
      rw [up_n _ _ (cV m hm)]; exact h5 m hm
    · intro m u hm hu
      rw [show puH (some c) up ha m = va_up ha c up m from rfl, up_n _ _ (cV m hm)] at hu
      exact h6 m u hm hu
    · intro i u hi hu
      have hu : va_up ha c up (va_up sk d c i) = some u := hu
      rcases hcase i hi with z | z
      · rw [s1 i z, up_n _ _ (cS i z)] at hu; exact h7 i u z hu
      · rw [z, s2, up_s] at hu; exact huv u hu
    · intro m hm
      rcases n2 m hm with q | ⟨i, hi, hp⟩ | ⟨b', q1, q2, q3⟩
      · exact Or.inl q
      · refine Or.inr (Or.inl ⟨i, Nat.lt_succ_of_lt hi, ?_⟩)
        show pf (bi (va_up sk d c i)) (le (va_up sk d c i)) (bi m) (le m)
        rw [s1 i hi]; exact hp
      · rcases Nat.lt_or_ge b b' with z | z
        · exact Or.inr (Or.inr ⟨b', z, q2, q3⟩)
        · have e : b' = b := by omega
          rw [e] at q3
          refine Or.inr (Or.inl ⟨d, Nat.lt_succ_self d, ?_⟩)
          show pf (bi (va_up sk d c d)) (le (va_up sk d c d)) (bi m) (le m)
          rw [s2]
          exact c3 m hm q3
    · intro i hi
      show ¬ pf (bi n) (le n) (bi (va_up sk d c i)) (le (va_up sk d c i)) ∨ ∃ b', b' < b + 1 ∧ rg bi le (some (2 * n + b')) (bi (va_up sk d c i)) (le (va_up sk d c i))
      rcases hcase i hi with z | z
      · rw [s1 i z]
        rcases n3 i z with q | ⟨b', q1, q2⟩
        · exact Or.inl q
        · exact Or.inr ⟨b', by omega, q2⟩
      · rw [z, s2]
        exact Or.inr ⟨b, Nat.lt_succ_self b, c2⟩
theorem dn_end {d n : Nat} (h : DN us bi le V d sk n 2) : CV us bi le V d sk := by
  intro m hm
  rcases h.2.1 m hm with q | q | ⟨b, q1, q2, -⟩
  · exact Or.inl q
  · exact Or.inr q
  · omega
/-- what lies right above a child, among the held ones -/
theorem hb_kid (hT : TW us bi le ro ch) (hC : CT us bi le pe D) {n b c : Nat} {x up : Option Nat} (hn : ud us n) (hb : b < 2) (hx : HB D us bi le pe n x) (hc : ch (2 * n + b) = some c) (hup : ((pe n).isSome = true ∧ up = some n) ∨ (pe n = none ∧ up = x)) : HB D us bi le pe c up := by
  obtain ⟨c1, c2, c3⟩ := hT.2.2.2 (some (2 * n + b)) c (vs_kid hn hb) hc
  have e2 : (2 * n + b) / 2 = n := by omega
  have cl : le n < le c := by have := c2.1; rw [e2] at this; exact this
  have cp : pf (bi n) (le n) (bi c) (le c) := by have := rg_own c2; rw [e2] at this; exact this
  have hnode := ct_node hT hC hn
  have r1 : look D (bi c) (le c) = look D (bi c) (le n + 1) := by
    refine look_range cl (fun l g1 g2 => ?_)
    cases hd : D (ct (bi c) l) l with
    | none => rfl
    | some r =>
      obtain ⟨m, hm, m1, m2, -⟩ := (hC _ _ r).mp hd
      subst m2
      have hp : pf (bi m) (le m) (bi c) (le c) := ⟨by omega, m1.symm⟩
      have hr : rg bi le (some (2 * n + b)) (bi m) (le m) := rg_mid c2 hp (by rw [e2]; omega) (hT.1 m hm).1
      have := (c3 m hm hr).1
      omega
  have r2 : look D (bi c) (le n) = look D (bi n) (le n) := look_cong _ (fun j hj => by rw [← cp.2, ct_ct (bi c) (by omega)])
  have r3 : look D (bi c) (le n + 1) = if (pe n).isSome = true then some (le n) else look D (bi n) (le n) := by
    rw [look, cp.2, hnode, r2]
  rcases hup with ⟨p1, p2⟩ | ⟨p1, p2⟩
  · subst p2
    have el : look D (bi c) (le c) = some (le n) := by rw [r1, r3, if_pos p1]
    exact ⟨fun u e => by cases e; exact ⟨hn, cp.2, p1, el⟩, fun e => by cases e⟩
  · subst p2
    have el : look D (bi c) (le c) = look D (bi n) (le n) := by rw [r1, r3, p1]; rfl
    refine ⟨fun u e => ?_, fun e => by rw [el]; exact hx.2 e⟩
    obtain ⟨u1, u2, u3, u4⟩ := hx.1 u e
    have hlt := (look_some u4).1
    exact ⟨u1, by rw [← ct_ct (bi c) (Nat.le_of_lt hlt), cp.2]; exact u2, u3, by rw [el]; exact u4⟩
theorem hb_root (hT : TW us bi le ro ch) (hC : CT us bi le pe D) {r : Nat} (hr : ro = some r) : HB D us bi le pe r none := by
  obtain ⟨r1, -, r3⟩ := hT.2.2.2 none r trivial hr
  refine ⟨fun u e => (by cases e), fun _ => look_is0 (fun j hj => ?_)⟩
  cases hd : D (ct (bi r) j) j with
  | none => rfl
  | some w =>
    obtain ⟨m, hm, m1, m2, -⟩ := (hC _ _ w).mp hd
    have := (r3 m hm trivial).1
    omega
/-- the start: nothing seen, the root on the stack -/
theorem di_0 (hT : TW us bi le ro ch) (hC : CT us bi le pe D) {r : Nat} (hr : ro = some r) : DI D us bi le pe (fun _ => false) 1 (va_up sk 0 r) (va_up ha r none) ∧ CV us bi le (fun _ => false) 1 (va_up sk 0 r) := by
  obtain ⟨r1, -, r3⟩ := hT.2.2.2 none r trivial hr
  have e0 : ∀ i, i < 1 → va_up sk 0 r i = r := fun i hi => by rw [show i = 0 by omega, up_s]
  refine ⟨⟨fun m hm => (by cases hm), fun i hi => ?_, fun i m hi hm => (by cases hm), fun i j hi hj hij => absurd hij (by omega), fun m hm => (by cases hm), fun m u hm => (by cases hm), fun i u hi hu => ?_⟩, fun m hm => Or.inr ⟨0, by decide, ?_⟩⟩
  · rw [e0 i hi, up_s]; exact ⟨r1, hb_root hT hC hr⟩
  · rw [e0 i hi, up_s] at hu; cases hu
  · rw [e0 0 (by decide)]; exact r3 m hm trivial
theorem di_00 (hT : TW us bi le ro ch) (hr : ro = none) : DI D us bi le pe (fun _ => false) 0 sk ha ∧ CV us bi le (fun _ => false) 0 sk := by
  refine ⟨⟨fun m hm => (by cases hm), fun i hi => absurd hi (Nat.not_lt_zero i), fun i m hi => absurd hi (Nat.not_lt_zero i), fun i j hi => absurd hi (Nat.not_lt_zero i), fun m hm => (by cases hm), fun m u hm => (by cases hm), fun i u hi => absurd hi (Nat.not_lt_zero i)⟩, fun m hm => ?_⟩
  exact absurd trivial (hT.2.2.1 none trivial hr m hm)
theorem sm_0 (h : ∀ y, y < 8 → su y = 0) (h8 : su 8 = 65536) : SM (fun _ => false) pe le ha su se := by
  have z : ∀ (c : Nat → Prop) [DecidablePred c], fb_si (fun m => if (fun _ => false) m = true ∧ c m then szI (le m) else 0) 64 = 0 := fun c _ => fb_si_zero (fun m _ => if_neg (fun q => by cases q.1))
  refine ⟨fun y hy => ?_, ?_, fun k hk => by cases hk⟩
  · unfold T1 T2
    rw [z (fun m => pe m = some y), z (fun m => (pe m).isSome = true ∧ (ha m).bind pe = some y), h y hy]
    rfl
  · unfold T3
    rw [z (fun m => (pe m).isSome = true ∧ ha m = none), h8]
    rfl
/-- room on the stack -/
theorem di_room (hT : TW us bi le ro ch) {d n : Nat} (h : DI D us bi le pe V (d + 1) sk ha) (hn : sk d = n) : d < 64 ∧ ∀ a b, ch (2 * n) = some a → ch (2 * n + 1) = some b → d + 1 < 64 := by
  obtain ⟨h1, h2, h3, h4, h5, h6, h7⟩ := h
  have hud := (h2 d (Nat.lt_succ_self d)).1
  rw [hn] at hud
  have dist : ∀ i j, i < j → j < d + 1 → sk i ≠ sk j := fun i j hij hj e => h4 i j (by omega) hj (by omega) (by rw [e]; exact pf_rf hT (h2 j hj).1)
  refine ⟨fb_holes 64 (d + 1) sk (fun i hi => (h2 i hi).1.1) dist, fun a b ha hb => ?_⟩
  obtain ⟨a1, a2, -⟩ := hT.2.2.2 (some (2 * n + 0)) a (vs_kid hud (by decide)) ha
  obtain ⟨b1, b2, -⟩ := hT.2.2.2 (some (2 * n + 1)) b (vs_kid hud (by decide)) hb
  have eA : (2 * n + 0) / 2 = n := by omega
  have eB : (2 * n + 1) / 2 = n := by omega
  have kid : ∀ c w, pf (bi n) (le n) (bi c) (le c) → le n < le c → w < d + 1 → sk w = c → False := by
    intro c w hp hlt hw e
    rcases Nat.lt_or_ge w d with z | z
    · exact h4 d w (by omega) (by omega) (by omega) (by rw [hn, e]; exact hp)
    · rw [show w = d by omega, hn] at e
      rw [e] at hlt
      exact Nat.lt_irrefl _ hlt
  have pa := rg_own a2
  have pb := rg_own b2
  have la := a2.1
  have lb := b2.1
  have ba := a2.2.2
  have bb := b2.2.2
  rw [eA] at pa la ba
  rw [eB] at pb lb bb
  have hab : a ≠ b := fun e => by rw [e, bb] at ba; omega
  have := fb_holes 64 (d + 3) (fun i => if i = d + 2 then b else if i = d + 1 then a else sk i) (fun i hi => by
    show (if i = d + 2 then b else if i = d + 1 then a else sk i) < 64
    by_cases q1 : i = d + 2
    · rw [if_pos q1]; exact b1.1
    · rw [if_neg q1]
      by_cases q2 : i = d + 1
      · rw [if_pos q2]; exact a1.1
      · rw [if_neg q2]; exact (h2 i (by omega)).1.1) (fun i j hij hj e => by
    have e : (if i = d + 2 then b else if i = d + 1 then a else sk i) = (if j = d + 2 then b else if j = d + 1 then a else sk j) := e
    rw [if_neg (by omega)] at e
    by_cases q1 : j = d + 2
    · rw [if_pos q1] at e
      by_cases q2 : i = d + 1
      · rw [if_pos q2] at e; exact hab e
      · rw [if_neg q2] at e; exact kid b i pb lb (by omega) e
    · rw [if_neg q1] at e
      by_cases q2 : j = d + 1
      · rw [if_pos q2, if_neg (by omega)] at e
        exact kid a i pa la (by omega) e
      · rw [if_neg q2, if_neg (by omega)] at e
        exact dist i j hij (by omega) e)
  omega
end SET
end
section
/-! what settleAll leaves, told of what is held -/
section SEND
variable {us : Nat → Bool} {bi le : Nat → Nat} {ro fr : Option Nat} {ch pe : Nat → Option Nat} {D : Nat → Nat → Option Nat} {V : Nat → Bool} {ha : Nat → Option Nat} {su se : Nat → Int} {sk : Nat → Nat}
theorem hb_par (hT : TW us bi le ro ch) (hC : CT us bi le pe D) {n : Nat} {x : Option Nat} (h : HB D us bi le pe n x) : x.bind pe = parP D (bi n) (le n) := by
  unfold parP
  cases x with
  | none => rw [h.2 rfl]; rfl
  | some u =>
    obtain ⟨u1, u2, u3, u4⟩ := h.1 u rfl
    rw [u4]
    show pe u = D (ct (bi n) (le u)) (le u)
    rw [u2, ct_node hT hC u1]
theorem hb_none {n : Nat} {x : Option Nat} (h : HB D us bi le pe n x) : x = none ↔ look D (bi n) (le n) = none := by
  constructor
  · exact h.2
  · intro e
    cases x with
    | none => rfl
    | some u => rw [(h.1 u rfl).2.2.2] at e; cases e
theorem hb_some (hT : TW us bi le ro ch) {n k : Nat} {x : Option Nat} (hk : ud us k) (h : HB D us bi le pe n x) : x = some k ↔ look D (bi n) (le n) = some (le k) ∧ ct (bi n) (le k) = bi k := by
  constructor
  · intro e
    obtain ⟨-, u2, -, u4⟩ := h.1 k e
    exact ⟨u4, u2⟩
  · rintro ⟨e1, e2⟩
    cases x with
    | none => rw [h.2 rfl] at e1; cases e1
    | some u =>
      obtain ⟨u1, u2, -, u4⟩ := h.1 u rfl
      have e : le u = le k := Option.some.inj (u4.symm.trans e1)
      rw [hT.2.1 u k u1 hk e (by rw [← u2, ← e2, e])]
def SET (D : Nat → Nat → Option Nat) (us : Nat → Bool) (bi le : Nat → Nat) (pe : Nat → Option Nat) (su se : Nat → Int) (ha : Nat → Option Nat) : Prop :=
  (∀ y, y < 8 → su y = ownT D y) ∧ su 8 = ownN D ∧ (∀ k, ud us k → (pe k).isSome = true → se k = setD D (bi k) (le k)) ∧ ∀ k, ud us k → HB D us bi le pe k (ha k)
theorem set_end (hT : TW us bi le ro ch) (hC : CT us bi le pe D) (h : DI D us bi le pe V 0 sk ha) (hc : CV us bi le V 0 sk) (hs : SM V pe le ha su se) : SET D us bi le pe su se ha := by
  obtain ⟨s1, s2, s3⟩ := hs
  have hall : ∀ m, ud us m → V m = true := fun m hm => by
    rcases hc m hm with q | ⟨i, hi, -⟩
    · exact q
    · exact absurd hi (Nat.not_lt_zero i)
  have hV : ∀ m, m < 64 → V m = us m := fun m hm => by
    cases hu : us m with
    | true => exact hall m ⟨hm, hu⟩
    | false =>
      cases hv : V m with
      | false => rfl
      | true => have := (h.1 m hv).2; rw [hu] at this; cases this
  have hHB : ∀ k, ud us k → HB D us bi le pe k (ha k) := fun k hk => h.2.2.2.2.1 k (hall k hk)
  refine ⟨fun y hy => ?_, ?_, fun k hk hp => ?_, hHB⟩
  · rw [s1 y hy]
    unfold ownT T1 T2
    rw [← sum_tree hT hC, ← fb_si_sub]
    refine fb_si_cong (fun m hm => ?_)
    rw [hV m hm]
    cases hu : us m with
    | false => simp
    | true =>
      rw [hb_par hT hC (hHB m ⟨hm, hu⟩)]
      cases hp : pe m with
      | none => simp [ov]
      | some r => simp [ov]
  · rw [s2]
    unfold ownN T3
    rw [← sum_tree hT hC]
    congr 1
    refine fb_si_cong (fun m hm => ?_)
    rw [hV m hm]
    cases hu : us m with
    | false => simp
    | true =>
      have e := hb_none (hHB m ⟨hm, hu⟩)
      cases hp : pe m with
      | none => simp [ov]
      | some r => simp [ov, e]
  · rw [s3 k (hall k hk) hp]
    unfold setD T4
    rw [← sum_tree hT hC]
    congr 1
    refine fb_si_cong (fun m hm => ?_)
    rw [hV m hm]
    cases hu : us m with
    | false => simp
    | true =>
      have e := hb_some hT hk (hHB m ⟨hm, hu⟩)
      cases hp : pe m with
      | none => simp [ov]
      | some r => simp [ov, e]
theorem ent_tree (hT : TW us bi le ro ch) (hC : CT us bi le pe D) (y : Nat) : (fb_ct (fun m => us m && decide (pe m = some y)) 64 : Int) = entD D y := by
  unfold entD
  rw [ct_si, ← sum_tree hT hC]
  refine fb_si_cong (fun m _ => ?_)
  cases hu : us m <;> cases hp : pe m <;> simp [ov]
theorem cnt_tree (hT : TW us bi le ro ch) (hC : CT us bi le pe D) (c : Nat → Nat → Nat → Prop) [∀ a b r, Decidable (c a b r)] : (fb_ct (fun m => us m && (match pe m with | none => false | some r => decide (c (bi m) (le m) r))) 64 : Int) = sumD D (fun pp l r => if c pp l r then 1 else 0) := by
  rw [ct_si, ← sum_tree hT hC]
  refine fb_si_cong (fun m _ => ?_)
  cases hu : us m <;> cases hp : pe m <;> simp [ov]
/-- of no use: its addresses are all settled by others, or what is above has the same peer -/
def usl (D : Nat → Nat → Option Nat) (bi le : Nat → Nat) (pe : Nat → Option Nat) (m : Nat) : Bool := match pe m with
  | none => false
  | some r => decide (zI (setD D (bi m) (le m)) = 0 ∨ parP D (bi m) (le m) = some r)
theorem usl_tree (hT : TW us bi le ro ch) (hC : CT us bi le pe D) : (fb_ct (fun m => us m && usl D bi le pe m) 64 : Int) = uslD D := by
  exact cnt_tree hT hC (fun pp l r => zI (setD D pp l) = 0 ∨ parP D pp l = some r)
theorem ows_bad {x1 : Int32} (h : x1 < oI none ∨ nI 7 < x1) : OWS D x1 (-2) := by
  refine ⟨fun _ => rfl, fun e => ?_, fun y e hy => ?_⟩
  · exfalso
    rw [e] at h
    exact rng_not (y := none) (fun n q => by cases q) h
  · exfalso
    rw [e] at h
    exact rng_not (y := some y) (fun n q => by cases q; exact hy) h
theorem ows_good {y : Option Nat} {r : Int32} (hy : ∀ n, y = some n → n < 8) (h1 : y = none → r = zI (ownN D)) (h2 : ∀ n, y = some n → r = zI (ownT D n)) : OWS D (oI y) r := by
  refine ⟨fun q => absurd q (rng_not hy), fun e => h1 ?_, fun n e hn => h2 n ?_⟩
  · exact (oI_inj (rng_b hy) (fun n q => by cases q)).mp e
  · exact (oI_inj (rng_b hy) (fun n q => by cases q; omega)).mp (show oI y = oI (some n) from e)
theorem di_full (hT : TW us bi le ro ch) {d : Nat} (h : DI D us bi le pe V d sk ha) (hf : 64 ≤ fb_ct V 64) : d = 0 := by
  rcases Nat.eq_zero_or_pos d with q | q
  · exact q
  · exfalso
    have h1 := di_unseen hT h q
    have h2 : fb_ct V 64 = 64 := Nat.le_antisymm (fb_ct_le _ _) hf
    have := fb_ct_all.mp h2 (sk 0) (h.2.1 0 q).1.1
    rw [h1] at this
    cases this
theorem ct_up (V : Nat → Bool) {n : Nat} (hn : n < 64) (hV : V n = false) : fb_ct (va_up V n true) 64 = fb_ct V 64 + 1 := by
  have h := fb_ct_upd V true hn
  rw [hV] at h
  have e : fb_ct (va_up V n true) 64 = fb_ct (fun k => if k = n then true else V k) 64 := fb_ct_cong (fun k _ => rfl)
  rw [e]
  simpa using h
/-- a node of the stack is visited: all that holds before, holds behind -/
theorem di_visit (hT : TW us bi le ro ch) (hC : CT us bi le pe D) (hB : PB us pe) {d n : Nat} {up : Option Nat} {su' se' : Nat → Int} (h : DI D us bi le pe V (d + 1) sk ha) (hc : CV us bi le V (d + 1) sk) (hs : SM V pe le ha su se) (hn : sk d = n) (hv : VS pe le ha n su se su' se' up) :
    DI D us bi le pe (va_up V n true) (puT (ch (2 * n + 1)) (puT (ch (2 * n)) d)) (puS (ch (2 * n + 1)) (puT (ch (2 * n)) d) (puS (ch (2 * n)) d sk)) (puH (ch (2 * n + 1)) up (puH (ch (2 * n)) up ha)) ∧
    CV us bi le (va_up V n true) (puT (ch (2 * n + 1)) (puT (ch (2 * n)) d)) (puS (ch (2 * n + 1)) (puT (ch (2 * n)) d) (puS (ch (2 * n)) d sk)) ∧
    SM (va_up V n true) pe le (puH (ch (2 * n + 1)) up (puH (ch (2 * n)) up ha)) su' se' := by
  have hun := di_unseen hT h (Nat.lt_succ_self d)
  have hst := h.2.1 d (Nat.lt_succ_self d)
  rw [hn] at hun hst
  obtain ⟨hud, hhb⟩ := hst
  obtain ⟨a1, a2⟩ := di_take hT h hc hn
  have hupn : ((pe n).isSome = true ∧ up = some n) ∨ (pe n = none ∧ up = ha n) := by
    rcases hv with ⟨p1, -, -, p4⟩ | ⟨y, i, p1, p2, -⟩
    · exact Or.inr ⟨p1, p4⟩
    · exact Or.inl ⟨by rw [p1]; rfl, p2⟩
  have huv : ∀ u, up = some u → va_up V n true u = true := by
    intro u e
    rcases hupn with ⟨-, p2⟩ | ⟨-, p2⟩
    · rw [p2] at e; cases e; exact up_s _ _ _
    · rw [p2] at e
      exact a1.2.2.2.2.2.1 n u (up_s _ _ _) e
  obtain ⟨b1, b2, b3⟩ := di_push (b := 0) (up := up) hT (by decide) hud a1 a2 (fun c hc2 => hb_kid hT hC hud (by decide) hhb hc2 hupn) huv
  obtain ⟨c1, c2, c3⟩ := di_push (b := 1) (up := up) hT (by decide) hud b1 b2 (fun c hc2 => hb_kid hT hC hud (by decide) hhb hc2 hupn) huv
  refine ⟨c1, dn_end c2, ?_⟩
  have hs2 := sm_step hud.1 hun hB hud h.2.2.2.2.2.1 hhb hs hv
  exact sm_cong hs2 (fun m hm => (c3 m hm).trans (b3 m hm))
end SEND
section JOINH
variable {p : Program} {l : Launch} {e : Env} {R : Room} {s : State} {m : MethodId} {args : Array Value} {below : List Frame} {meth : Method} {c : Code} {H : Heap} {locs : List Loc} {cells slots : Nat} {Q : State → Prop}
variable {pc : Nat} {ls : Array Slot} {D : va_G} {A : Nat → Prop} {H0 : Heap}
theorem r_joinH {σ : Type} {nL : Nat} {cl : List vw_C} {st : List Value} (pj : Nat) (lv : σ → List (Nat × Value)) (ws : σ → va_W) (φ : σ → Prop) (hj : ∀ (x : σ) (ls : Array Slot) (H : Heap) (locs : List Loc), φ x → lv_has ls nL (lv x) → va_P D cl (ws x) H → va_D A (ws x) → va_S A H0 H locs → W p l e R s m args below meth c H locs cells slots Q (F0 m pj ls []))
    (kk : (∀ (x : σ) (ls : Array Slot) (H : Heap) (locs : List Loc), φ x → lv_has ls nL (lv x) → va_P D cl (ws x) H → va_D A (ws x) → va_S A H0 H locs → W p l e R s m args below meth c H locs cells slots Q (F0 m pj ls [])) → W p l e R s m args below meth c H locs cells slots Q (F0 m pc ls st)) : W p l e R s m args below meth c H locs cells slots Q (F0 m pc ls st) := kk hj
end JOINH
end
section
/-! the model: a plain list of prefixes (starts sr, lengths ln, peers pr; en of them) -/
def MOK (en : Nat) (sr ln pr : Nat → Nat) (D : Nat → Nat → Option Nat) : Prop :=
  en ≤ 32 ∧ (∀ e, e < en → ln e ≤ 16 ∧ sr e < 65536 ∧ ct (sr e) (ln e) = sr e ∧ pr e < 8) ∧ (∀ e f, e < en → f < en → ln e = ln f → sr e = sr f → e = f) ∧ ∀ pp l r, D pp l = some r ↔ ∃ e, e < en ∧ sr e = pp ∧ ln e = l ∧ pr e = r
section MODEL
variable {en : Nat} {sr ln pr : Nat → Nat} {D D2 : Nat → Nat → Option Nat}
theorem mo_D (h : MOK en sr ln pr D) {e : Nat} (he : e < en) : D (sr e) (ln e) = some (pr e) := (h.2.2.2 _ _ _).mpr ⟨e, he, rfl, rfl, rfl⟩
theorem mo_none (h : MOK en sr ln pr D) {pp k : Nat} (hn : ∀ e, e < en → ¬ (ln e = k ∧ sr e = pp)) : D pp k = none := by
  cases hd : D pp k with
  | none => rfl
  | some r =>
    obtain ⟨e, h1, h2, h3, -⟩ := (h.2.2.2 _ _ _).mp hd
    exact absurd ⟨h3, h2⟩ (hn e h1)
theorem sum_model (h : MOK en sr ln pr D) (g : Nat → Nat → Nat → Int) : fb_si (fun e => g (sr e) (ln e) (pr e)) en = sumD D g := by
  have k := si_re (fun x => ov (D (x % 65536) (x / 65536)) (g (x % 65536) (x / 65536))) 1114112 en (fun _ => true) (fun e => ln e * 65536 + sr e) (fun x => (D (x % 65536) (x / 65536)).isSome)
    (fun n hn _ => by have := h.2.1 n hn; omega)
    (fun n m hn hm _ _ e => by
      have a := h.2.1 n hn
      have b := h.2.1 m hm
      exact h.2.2.1 n m hn hm (by omega) (by omega))
    (fun x hx => by
      constructor
      · intro q
        cases hd : D (x % 65536) (x / 65536) with
        | none => rw [hd] at q; cases q
        | some r =>
          obtain ⟨n, hn, e1, e2, e3⟩ := (h.2.2.2 _ _ r).mp hd
          refine ⟨n, hn, rfl, ?_⟩
          show ln n * 65536 + sr n = x
          rw [e1, e2]
          omega
      · rintro ⟨n, hn, -, e⟩
        have hb := (h.2.1 n hn).2.1
        have hk := key_dm (l := ln n) hb
        have e : ln n * 65536 + sr n = x := e
        rw [← e, hk.1, hk.2, mo_D h hn]
        rfl)
  have e1 : fb_si (fun e => g (sr e) (ln e) (pr e)) en = fb_si (fun n => if (fun _ => true) n = true then ov (D ((ln n * 65536 + sr n) % 65536) ((ln n * 65536 + sr n) / 65536)) (g ((ln n * 65536 + sr n) % 65536) ((ln n * 65536 + sr n) / 65536)) else 0) en := by
    refine fb_si_cong (fun n hn => ?_)
    have hb := (h.2.1 n hn).2.1
    have hk := key_dm (l := ln n) hb
    rw [hk.1, hk.2, mo_D h hn]
    simp [ov]
  rw [e1, k]
  refine fb_si_cong (fun x _ => ?_)
  cases hd : D (x % 65536) (x / 65536) with
  | none => simp [ov]
  | some r => simp
theorem si_one : ∀ n, fb_si (fun _ => 1) n = (n : Int)
  | 0 => rfl
  | n + 1 => by rw [fb_si_succ, si_one n]; omega
theorem mok_cnt (h : MOK en sr ln pr D) : (en : Int) = cD D := by
  unfold cD
  rw [← sum_model h, si_one]
/-- the longest entry around an address, below a length w, among the first k -/
def LB (sr ln : Nat → Nat) (a w : Nat) (b : Option Nat) (k : Nat) : Prop :=
  (∀ e, b = some e → e < k ∧ ct a (ln e) = sr e ∧ ln e < w ∧ ∀ f, f < k → ct a (ln f) = sr f → ln f < w → ln f ≤ ln e) ∧ (b = none → ∀ f, f < k → ¬ (ct a (ln f) = sr f ∧ ln f < w))
theorem lb_0 (a w : Nat) : LB sr ln a w none 0 := ⟨fun e h => (by cases h), fun _ f hf => absurd hf (Nat.not_lt_zero f)⟩
theorem lb_skip {a w k : Nat} {b : Option Nat} (h : LB sr ln a w b k) (hn : ¬ (ct a (ln k) = sr k ∧ ln k < w)) : LB sr ln a w b (k + 1) := by
  refine ⟨fun e he => ?_, fun he f hf hh => ?_⟩
  · obtain ⟨h1, h2, h3, h4⟩ := h.1 e he
    refine ⟨by omega, h2, h3, fun f hf g1 g2 => ?_⟩
    rcases Nat.lt_or_ge f k with q | q
    · exact h4 f q g1 g2
    · rw [show f = k by omega] at g1 g2; exact absurd ⟨g1, g2⟩ hn
  · rcases Nat.lt_or_ge f k with q | q
    · exact h.2 he f q hh
    · rw [show f = k by omega] at hh; exact hn hh
theorem lb_keep {a w k e : Nat} (h : LB sr ln a w (some e) k) (hn : ln k ≤ ln e) : LB sr ln a w (some e) (k + 1) := by
  obtain ⟨h1, h2, h3, h4⟩ := h.1 e rfl
  refine ⟨fun e2 he => ?_, fun he => by cases he⟩
  cases he
  refine ⟨by omega, h2, h3, fun f hf g1 g2 => ?_⟩
  rcases Nat.lt_or_ge f k with q | q
  · exact h4 f q g1 g2
  · rw [show f = k by omega]; exact hn
theorem lb_take {a w k : Nat} {b : Option Nat} (h : LB sr ln a w b k) (h1 : ct a (ln k) = sr k) (h2 : ln k < w) (hb : ∀ e, b = some e → ln e < ln k) : LB sr ln a w (some k) (k + 1) := by
  refine ⟨fun e2 he => ?_, fun he => by cases he⟩
  cases he
  refine ⟨Nat.lt_succ_self _, h1, h2, fun f hf g1 g2 => ?_⟩
  rcases Nat.lt_or_ge f k with q | q
  · cases b with
    | none => exact absurd ⟨g1, g2⟩ (h.2 rfl f q)
    | some e =>
      have := (h.1 e rfl).2.2.2 f q g1 g2
      have := hb e rfl
      omega
  · rw [show f = k by omega]; exact Nat.le_refl _
def LO (D : Nat → Nat → Option Nat) (en : Nat) (sr ln : Nat → Nat) (a w : Nat) (x : Option Nat) : Prop := (∀ e, x = some e → e < en ∧ ct a (ln e) = sr e ∧ look D a w = some (ln e)) ∧ (x = none → look D a w = none)
theorem lb_end (h : MOK en sr ln pr D) {a w : Nat} {b : Option Nat} (hb : LB sr ln a w b en) : LO D en sr ln a w b := by
  refine ⟨fun e he => ?_, fun he => ?_⟩
  · obtain ⟨h1, h2, h3, h4⟩ := hb.1 e he
    refine ⟨h1, h2, look_is h3 (by rw [h2, mo_D h h1]; rfl) (fun j g1 g2 => mo_none h (fun f hf z => ?_))⟩
    have := h4 f hf (by rw [z.1]; exact z.2.symm) (by omega)
    omega
  · exact look_is0 (fun j hj => mo_none h (fun f hf z => hb.2 he f hf ⟨by rw [z.1]; exact z.2.symm, by omega⟩))
theorem lo_own (h : MOK en sr ln pr D) {a : Nat} {x : Option Nat} (hx : LO D en sr ln a 17 x) : ownD D a = x.map pr ∧ look D a 17 = x.map ln := by
  unfold ownD
  cases x with
  | none => rw [hx.2 rfl]; exact ⟨rfl, rfl⟩
  | some e =>
    obtain ⟨h1, h2, h3⟩ := hx.1 e rfl
    rw [h3]
    refine ⟨?_, rfl⟩
    show D (ct a (ln e)) (ln e) = some (pr e)
    rw [h2]
    exact mo_D h h1
theorem lo_par (h : MOK en sr ln pr D) {e : Nat} {x : Option Nat} (hx : LO D en sr ln (sr e) (ln e) x) : parP D (sr e) (ln e) = x.map pr := by
  unfold parP
  cases x with
  | none => rw [hx.2 rfl]; rfl
  | some f =>
    obtain ⟨h1, h2, h3⟩ := hx.1 f rfl
    rw [h3]
    show D (ct (sr e) (ln f)) (ln f) = some (pr f)
    rw [h2]
    exact mo_D h h1
/-- right inside the entry x (none: inside no other) -/
def cnd (D : Nat → Nat → Option Nat) (sr ln : Nat → Nat) (x : Option Nat) (f : Nat) : Prop := match x with
  | none => look D (sr f) (ln f) = none
  | some e => look D (sr f) (ln f) = some (ln e) ∧ ct (sr f) (ln e) = sr e
theorem lo_cnd (h : MOK en sr ln pr D) {f : Nat} {x b : Option Nat} (hx : ∀ e, x = some e → e < en) (hb : LO D en sr ln (sr f) (ln f) b) : b = x ↔ cnd D sr ln x f := by
  cases x with
  | none =>
    constructor
    · exact hb.2
    · intro q
      have q : look D (sr f) (ln f) = none := q
      cases b with
      | none => rfl
      | some e => rw [(hb.1 e rfl).2.2] at q; cases q
  | some e =>
    constructor
    · intro q
      obtain ⟨h1, h2, h3⟩ := hb.1 e q
      exact ⟨h3, h2⟩
    · rintro ⟨q1, q2⟩
      cases b with
      | none => rw [hb.2 rfl] at q1; cases q1
      | some e2 =>
        obtain ⟨h1, h2, h3⟩ := hb.1 e2 rfl
        have z : ln e2 = ln e := Option.some.inj (h3.symm.trans q1)
        rw [h.2.2.1 e2 e h1 (hx e rfl) z (by rw [← h2, ← q2, z])]
def bsz (ln : Nat → Nat) (x : Option Nat) : Int := match x with
  | none => 65536
  | some e => szI (ln e)
noncomputable def cnB (D : Nat → Nat → Option Nat) (sr ln : Nat → Nat) (x : Option Nat) (f : Nat) : Bool := @decide (cnd D sr ln x f) (Classical.propDecidable _)
theorem cnB_iff (x : Option Nat) (f : Nat) : cnB D sr ln x f = true ↔ cnd D sr ln x f := @decide_eq_true_iff (cnd D sr ln x f) (Classical.propDecidable _)
theorem cnB_no {x : Option Nat} {f : Nat} (h : ¬ cnd D sr ln x f) : cnB D sr ln x f = false := by
  cases hb : cnB D sr ln x f with
  | false => rfl
  | true => exact absurd ((cnB_iff x f).mp hb) h
theorem set_none (h : MOK en sr ln pr D) (P : Nat → Bool) (hP : ∀ f, f < en → (P f = true ↔ cnd D sr ln none f)) : bsz ln none - fb_si (fun f => if P f = true then szI (ln f) else 0) en = ownN D := by
  unfold ownN
  rw [← sum_model h]
  show (65536 : Int) - _ = _
  congr 1
  refine fb_si_cong (fun f hf => ?_)
  have : P f = true ↔ look D (sr f) (ln f) = none := hP f hf
  by_cases q : P f = true
  · rw [if_pos q, if_pos (this.mp q)]
  · rw [if_neg q, if_neg (fun z => q (this.mpr z))]
theorem set_some (h : MOK en sr ln pr D) {e : Nat} (P : Nat → Bool) (hP : ∀ f, f < en → (P f = true ↔ cnd D sr ln (some e) f)) : bsz ln (some e) - fb_si (fun f => if P f = true then szI (ln f) else 0) en = setD D (sr e) (ln e) := by
  unfold setD
  rw [← sum_model h]
  show szI (ln e) - _ = _
  congr 1
  refine fb_si_cong (fun f hf => ?_)
  have : P f = true ↔ (look D (sr f) (ln f) = some (ln e) ∧ ct (sr f) (ln e) = sr e) := hP f hf
  by_cases q : P f = true
  · rw [if_pos q, if_pos (this.mp q)]
  · rw [if_neg q, if_neg (fun z => q (this.mpr z))]
/-! sums of sums -/
theorem si_swap (F : Nat → Nat → Int) (m : Nat) : ∀ n, fb_si (fun e => fb_si (fun f => F e f) m) n = fb_si (fun f => fb_si (fun e => F e f) n) m
  | 0 => (fb_si_zero (fun _ _ => rfl)).symm
  | n + 1 => by
    rw [fb_si_succ, si_swap F m n, ← fb_si_add]
    exact fb_si_cong (fun k _ => rfl)
theorem si_single {P : Nat → Prop} [DecidablePred P] (v : Int) {e : Nat} : ∀ {n : Nat}, e < n → P e → (∀ f, f < n → P f → f = e) → fb_si (fun f => if P f then v else 0) n = v
  | 0, h, _, _ => absurd h (Nat.not_lt_zero e)
  | n + 1, h, he, hu => by
    rw [fb_si_succ]
    rcases Nat.lt_or_ge e n with q | q
    · rw [si_single v q he (fun f hf => hu f (by omega)), if_neg (fun z => by have := hu n (by omega) z; omega)]
      omega
    · have e2 : e = n := by omega
      subst e2
      rw [if_pos he, fb_si_zero (fun f hf => if_neg (fun z => by have := hu f (by omega) z; omega))]
      omega
theorem own_model (h : MOK en sr ln pr D) (y : Nat) : fb_si (fun e => if pr e = y then setD D (sr e) (ln e) else 0) en = ownT D y := by
  unfold ownT
  rw [← sum_model h]
  have e1 : fb_si (fun e => if pr e = y then setD D (sr e) (ln e) else 0) en = fb_si (fun e => (if pr e = y then szI (ln e) else 0) - fb_si (fun f => if pr e = y ∧ (look D (sr f) (ln f) = some (ln e) ∧ ct (sr f) (ln e) = sr e) then szI (ln f) else 0) en) en := by
    refine fb_si_cong (fun e he => ?_)
    by_cases q : pr e = y
    · rw [if_pos q, if_pos q]
      unfold setD
      rw [← sum_model h]
      congr 1
      refine fb_si_cong (fun f _ => ?_)
      simp [q]
    · rw [if_neg q, if_neg q, fb_si_zero (fun f _ => if_neg (fun z => q z.1))]
      rfl
  rw [e1, fb_si_sub, si_swap, ← fb_si_sub]
  refine fb_si_cong (fun f hf => ?_)
  show (if pr f = y then szI (ln f) else 0) - fb_si (fun e => if pr e = y ∧ (look D (sr f) (ln f) = some (ln e) ∧ ct (sr f) (ln e) = sr e) then szI (ln f) else 0) en = (if pr f = y then szI (ln f) else 0) - (if parP D (sr f) (ln f) = some y then szI (ln f) else 0)
  congr 1
  by_cases q : parP D (sr f) (ln f) = some y
  · rw [if_pos q]
    unfold parP at q
    cases hl : look D (sr f) (ln f) with
    | none => rw [hl] at q; cases q
    | some k =>
      rw [hl] at q
      obtain ⟨e, he, g1, g2, g3⟩ := (h.2.2.2 _ _ _).mp (show D (ct (sr f) k) k = some y from q)
      refine si_single (P := fun e => pr e = y ∧ (some k = some (ln e) ∧ ct (sr f) (ln e) = sr e)) (szI (ln f)) he ⟨g3, by rw [g2], by rw [g2]; exact g1.symm⟩ (fun e2 he2 z => ?_)
      have z2 : k = ln e2 := Option.some.inj z.2.1
      exact h.2.2.1 e2 e he2 he (by rw [g2, z2]) (by rw [g1, ← z.2.2, z2])
  · rw [if_neg q]
    refine fb_si_zero (fun e he => if_neg (fun z => q ?_))
    unfold parP
    rw [z.2.1]
    show D (ct (sr f) (ln e)) (ln e) = some y
    rw [z.2.2, mo_D h he, z.1]
theorem cnt_model (h : MOK en sr ln pr D) (c : Nat → Nat → Nat → Prop) [∀ a b r, Decidable (c a b r)] : (fb_ct (fun e => decide (c (sr e) (ln e) (pr e))) en : Int) = sumD D (fun pp l r => if c pp l r then 1 else 0) := by
  rw [ct_si, ← sum_model h]
  refine fb_si_cong (fun e _ => ?_)
  by_cases q : c (sr e) (ln e) (pr e) <;> simp [q]
/-! changes -/
theorem mok_set (h : MOK en sr ln pr D) {e y : Nat} (he : e < en) (hy : y < 8) : MOK en sr ln (va_up pr e y) (dset D (sr e) (ln e) y) := by
  obtain ⟨h1, h2, h3, h4⟩ := h
  refine ⟨h1, fun f hf => ?_, h3, fun pp l r => ?_⟩
  · obtain ⟨g1, g2, g3, g4⟩ := h2 f hf
    refine ⟨g1, g2, g3, ?_⟩
    by_cases q : f = e
    · rw [q, up_s]; exact hy
    · rw [up_n _ _ q]; exact g4
  · unfold dset
    by_cases q : pp = sr e ∧ l = ln e
    · rw [if_pos q]
      constructor
      · intro z; cases z; exact ⟨e, he, q.1.symm, q.2.symm, up_s _ _ _⟩
      · rintro ⟨f, hf, e1, e2, e3⟩
        have : f = e := h3 f e hf he (by rw [e2, q.2]) (by rw [e1, q.1])
        rw [this, up_s] at e3
        rw [e3]
    · rw [if_neg q, h4 pp l r]
      constructor
      · rintro ⟨f, hf, e1, e2, e3⟩
        exact ⟨f, hf, e1, e2, by rw [up_n _ _ (fun z => q (by rw [← e1, ← e2, z]; exact ⟨rfl, rfl⟩))]; exact e3⟩
      · rintro ⟨f, hf, e1, e2, e3⟩
        exact ⟨f, hf, e1, e2, by rw [up_n _ _ (fun z => q (by rw [← e1, ← e2, z]; exact ⟨rfl, rfl⟩))] at e3; exact e3⟩
theorem mok_add (h : MOK en sr ln pr D) {pp k y : Nat} (hen : en < 32) (hy : y < 8) (hp : pp < 65536) (hk : k ≤ 16) (hpk : ct pp k = pp) (hno : ∀ e, e < en → ¬ (ln e = k ∧ sr e = pp)) : MOK (en + 1) (va_up sr en pp) (va_up ln en k) (va_up pr en y) (dset D pp k y) := by
  obtain ⟨h1, h2, h3, h4⟩ := h
  have cs : ∀ f, f < en + 1 → f < en ∨ f = en := fun f hf => by omega
  have ne : ∀ f, f < en → f ≠ en := fun f hf => by omega
  refine ⟨by omega, fun f hf => ?_, fun e f he hf g1 g2 => ?_, fun p2 l r => ?_⟩
  · rcases cs f hf with q | q
    · rw [up_n _ _ (ne f q), up_n _ _ (ne f q), up_n _ _ (ne f q)]; exact h2 f q
    · rw [q, up_s, up_s, up_s]; exact ⟨hk, hp, hpk, hy⟩
  · rcases cs e he with q | q <;> rcases cs f hf with w | w
    · rw [up_n _ _ (ne e q), up_n _ _ (ne f w)] at g1 g2; exact h3 e f q w g1 g2
    · rw [w, up_n _ _ (ne e q), up_s] at g1 g2; exact absurd ⟨g1, g2⟩ (hno e q)
    · rw [q, up_n _ _ (ne f w), up_s] at g1 g2; exact absurd ⟨g1.symm, g2.symm⟩ (hno f w)
    · omega
  · unfold dset
    by_cases q : p2 = pp ∧ l = k
    · rw [if_pos q]
      constructor
      · intro z; cases z; exact ⟨en, Nat.lt_succ_self _, by rw [up_s, q.1], by rw [up_s, q.2], up_s _ _ _⟩
      · rintro ⟨f, hf, e1, e2, e3⟩
        rcases cs f hf with w | w
        · rw [up_n _ _ (ne f w)] at e1 e2; exact absurd ⟨by rw [e2, q.2], by rw [e1, q.1]⟩ (hno f w)
        · rw [w, up_s] at e3; rw [e3]
    · rw [if_neg q, h4 p2 l r]
      constructor
      · rintro ⟨f, hf, e1, e2, e3⟩
        exact ⟨f, by omega, by rw [up_n _ _ (ne f hf)]; exact e1, by rw [up_n _ _ (ne f hf)]; exact e2, by rw [up_n _ _ (ne f hf)]; exact e3⟩
      · rintro ⟨f, hf, e1, e2, e3⟩
        rcases cs f hf with w | w
        · rw [up_n _ _ (ne f w)] at e1 e2 e3; exact ⟨f, w, e1, e2, e3⟩
        · rw [w, up_s] at e1 e2; exact absurd ⟨e1.symm, e2.symm⟩ q
theorem mok_drop (h : MOK en sr ln pr D) {e : Nat} (he : e < en) : MOK (en - 1) (va_up sr e (sr (en - 1))) (va_up ln e (ln (en - 1))) (va_up pr e (pr (en - 1))) (ddel D (sr e) (ln e)) := by
  obtain ⟨h1, h2, h3, h4⟩ := h
  -- where an entry comes from
  have frm : ∀ f, f < en - 1 → ∃ g, g < en ∧ g ≠ e ∧ va_up sr e (sr (en - 1)) f = sr g ∧ va_up ln e (ln (en - 1)) f = ln g ∧ va_up pr e (pr (en - 1)) f = pr g ∧ ((f = e ∧ g = en - 1) ∨ (f ≠ e ∧ g = f)) := by
    intro f hf
    by_cases q : f = e
    · exact ⟨en - 1, by omega, by omega, by rw [q, up_s], by rw [q, up_s], by rw [q, up_s], Or.inl ⟨q, rfl⟩⟩
    · exact ⟨f, by omega, q, up_n _ _ q, up_n _ _ q, up_n _ _ q, Or.inr ⟨q, rfl⟩⟩
  refine ⟨by omega, fun f hf => ?_, fun a b ha hb g1 g2 => ?_, fun pp l r => ?_⟩
  · obtain ⟨g, g1, -, g3, g4, g5, -⟩ := frm f hf
    rw [g3, g4, g5]
    exact h2 g g1
  · obtain ⟨x, x1, -, x3, x4, -, x6⟩ := frm a ha
    obtain ⟨z, z1, -, z3, z4, -, z6⟩ := frm b hb
    rw [x4, z4] at g1
    rw [x3, z3] at g2
    have := h3 x z x1 z1 g1 g2
    omega
  · unfold ddel
    by_cases q : pp = sr e ∧ l = ln e
    · rw [if_pos q]
      constructor
      · intro z; cases z
      · rintro ⟨f, hf, e1, e2, e3⟩
        obtain ⟨g, g1, g2, g3, g4, -⟩ := frm f hf
        exact absurd (h3 g e g1 he (by rw [← g4, e2, q.2]) (by rw [← g3, e1, q.1])) g2
    · rw [if_neg q, h4 pp l r]
      constructor
      · rintro ⟨f, hf, e1, e2, e3⟩
        have hfe : f ≠ e := fun z => q (by rw [← e1, ← e2, z]; exact ⟨rfl, rfl⟩)
        rcases Nat.lt_or_ge f (en - 1) with w | w
        · exact ⟨f, w, by rw [up_n _ _ hfe]; exact e1, by rw [up_n _ _ hfe]; exact e2, by rw [up_n _ _ hfe]; exact e3⟩
        · have ef : f = en - 1 := by omega
          exact ⟨e, by omega, by rw [up_s, ← ef]; exact e1, by rw [up_s, ← ef]; exact e2, by rw [up_s, ← ef]; exact e3⟩
      · rintro ⟨f, hf, e1, e2, e3⟩
        obtain ⟨g, g1, -, g3, g4, g5, -⟩ := frm f hf
        exact ⟨g, g1, by rw [← g3]; exact e1, by rw [← g4]; exact e2, by rw [← g5]; exact e3⟩
/-! the next address of a peer -/
def mds (sr ln : Nat → Nat) (k z : Nat) : Prop := ∃ e, e < k ∧ (z = sr e ∨ z = sr e + 2 ^ (16 - ln e))
def NB (D : Nat → Nat → Option Nat) (y : Option Nat) (f : Nat) (E : Nat → Prop) (b : Option Nat) : Prop := (∀ x, b = some x → f < x ∧ x < 65536 ∧ ownD D x = y) ∧ ∀ z, E z → f < z → z < 65536 → ownD D z = y → ∃ x, b = some x ∧ x ≤ z
theorem nb_0 (y : Option Nat) (f : Nat) : NB D y f (mds sr ln 0) none := ⟨fun x h => (by cases h), fun z ⟨e, he, _⟩ => absurd he (Nat.not_lt_zero e)⟩
theorem nb_skip {y : Option Nat} {f z : Nat} {E : Nat → Prop} {b : Option Nat} (h : NB D y f E b) (hn : ¬ (f < z ∧ z < 65536 ∧ ownD D z = y)) : NB D y f (fun w => E w ∨ w = z) b := by
  refine ⟨h.1, fun w hw g1 g2 g3 => ?_⟩
  rcases hw with q | q
  · exact h.2 w q g1 g2 g3
  · rw [q] at g1 g2 g3; exact absurd ⟨g1, g2, g3⟩ hn
theorem nb_keep {y : Option Nat} {f z x : Nat} {E : Nat → Prop} (h : NB D y f E (some x)) (hx : x ≤ z) : NB D y f (fun w => E w ∨ w = z) (some x) := by
  refine ⟨h.1, fun w hw g1 g2 g3 => ?_⟩
  rcases hw with q | q
  · exact h.2 w q g1 g2 g3
  · exact ⟨x, rfl, by omega⟩
theorem nb_take {y : Option Nat} {f z : Nat} {E : Nat → Prop} {b : Option Nat} (h : NB D y f E b) (h1 : f < z) (h2 : z < 65536) (h3 : ownD D z = y) (hb : ∀ x, b = some x → z < x) : NB D y f (fun w => E w ∨ w = z) (some z) := by
  refine ⟨fun x hx => by cases hx; exact ⟨h1, h2, h3⟩, fun w hw g1 g2 g3 => ?_⟩
  rcases hw with q | q
  · obtain ⟨x, e, hx⟩ := h.2 w q g1 g2 g3
    have := hb x e
    exact ⟨z, rfl, by omega⟩
  · exact ⟨z, rfl, by omega⟩
theorem nb_step {y : Option Nat} {f k : Nat} {b : Option Nat} (h : NB D y f (fun w => (mds sr ln k w ∨ w = sr k) ∨ w = sr k + 2 ^ (16 - ln k)) b) : NB D y f (mds sr ln (k + 1)) b := by
  refine ⟨h.1, fun z hz => h.2 z ?_⟩
  obtain ⟨e, he, q⟩ := hz
  rcases Nat.lt_or_ge e k with w | w
  · exact Or.inl (Or.inl ⟨e, w, q⟩)
  · rw [show e = k by omega] at q
    rcases q with q | q
    · exact Or.inl (Or.inr q)
    · exact Or.inr q
/-- an address of y behind one that isn't: between them some prefix begins or has ended where y begins -/
theorem own_edge (h : MOK en sr ln pr D) {y : Option Nat} {f : Nat} (hf : ownD D f ≠ y) : ∀ j, ownD D (f + j) = y → ∃ z, f < z ∧ z ≤ f + j ∧ ownD D z = y ∧ mds sr ln en z
  | 0, hj => absurd hj hf
  | j + 1, hj => by
    rcases Classical.em (ownD D (f + j) = y) with q | q
    · obtain ⟨z, h1, h2, h3⟩ := own_edge h hf j q
      exact ⟨z, h1, by omega, h3⟩
    · refine ⟨f + (j + 1), by omega, Nat.le_refl _, hj, ?_⟩
      rcases Classical.em (mds sr ln en (f + (j + 1))) with w | w
      · exact w
      · exfalso
        refine q ?_
        rw [← hj]
        refine (own_step (fun pp l hd hl => ?_)).symm
        cases hx : D pp l with
        | none => rw [hx] at hd; cases hd
        | some r =>
          obtain ⟨e, he, e1, e2, -⟩ := (h.2.2.2 _ _ _).mp hx
          exact ⟨fun z => w ⟨e, he, Or.inl (by rw [e1]; exact z)⟩, fun z => w ⟨e, he, Or.inr (by rw [e1, e2]; exact z)⟩⟩
theorem nb_end (h : MOK en sr ln pr D) {y : Option Nat} {f : Nat} {b : Option Nat} (hf : ownD D f ≠ y) (hb : NB D y f (mds sr ln en) b) : NX D y f b := by
  have key : ∀ w, f ≤ w → w < 65536 → ownD D w = y → ∃ x, b = some x ∧ x ≤ w := by
    intro w h1 h2 h3
    obtain ⟨z, z1, z2, z3, z4⟩ := own_edge h hf (w - f) (by rw [show f + (w - f) = w by omega]; exact h3)
    obtain ⟨x, x1, x2⟩ := hb.2 z z4 z1 (by omega) z3
    exact ⟨x, x1, by omega⟩
  refine ⟨fun x hx => ?_, fun hx w h1 h2 h3 => ?_⟩
  · obtain ⟨g1, g2, g3⟩ := hb.1 x hx
    refine ⟨by omega, g2, g3, fun w h1 h2 h3 => ?_⟩
    obtain ⟨x', e, hx'⟩ := key w h1 (by omega) h3
    rw [hx] at e
    cases e
    omega
  · obtain ⟨x', e, -⟩ := key w h1 h2 h3
    rw [hx] at e
    cases e
def pr1 : Nat → Option Nat
  | 0 => none
  | k + 1 => some k
theorem dec_pr1 (k : Nat) : nI k + Int32.ofInt (-1) = oI (pr1 k) := by
  cases k with
  | zero => decide
  | succ k => exact pk_m1 k
theorem sub_pr1 (k : Nat) : nI k - nI 1 = oI (pr1 k) := by
  cases k with
  | zero => decide
  | succ k => exact nI_pred k
end MODEL
section JOINL
variable {p : Program} {l : Launch} {e : Env} {R : Room} {s : State} {m : MethodId} {args : Array Value} {below : List Frame} {meth : Method} {c : Code} {H : Heap} {locs : List Loc} {cells slots : Nat} {Q : State → Prop} {pc : Nat} {ls : Array Slot}
theorem r_joinL {σ : Type} {nL : Nat} {st : List Value} (pj : Nat) (lv : σ → List (Nat × Value)) (φ : σ → Prop) (hj : ∀ (x : σ) (ls : Array Slot), φ x → lv_has ls nL (lv x) → W p l e R s m args below meth c H locs cells slots Q (F0 m pj ls []))
    (kk : (∀ (x : σ) (ls : Array Slot), φ x → lv_has ls nL (lv x) → W p l e R s m args below meth c H locs cells slots Q (F0 m pj ls [])) → W p l e R s m args below meth c H locs cells slots Q (F0 m pc ls st)) : W p l e R s m args below meth c H locs cells slots Q (F0 m pc ls st) := kk hj
end JOINL
end
section
set_option maxRecDepth 100000
set_option maxHeartbeats 4000000 in
set_option maxRecDepth 100000 in
theorem metX0_cut (l : Launch) (a k : Nat) (ha : a < 65536) (hk : k ≤ 16) : Met l yX0_cut (ws_ yX0_cut cX0_cut 2 (some .int)) ({ frames := 0, cells := 0, slots := 0, locals := 0 }) (va_Pc [.int (nI a), .int (nI k)] (fun _ => True)) (vp_Si (fun r => r = nI (ct a k))) 0 0 (fun _ => False) := by
  refine Met.ofW (cc := cX0_cut) (maxL := 2) (ret := (some .int)) (by decide) rfl ?_
  intro p e s m args below meth c s₁ B hml hv
  obtain ⟨rfl, -⟩ := hv
  have hx := B.exec
  have hb := B.bytes
  have hr := B.returns
  have hts := atoms_spec (ws := (ws_ yX0_cut cX0_cut 2 (some .int))) B.pre
  have hts : ∀ w ∈ lw_all, w.before _ s = true := fun w h => hts w (List.mem_cons_of_mem _ h)
  have hown : s.vm.findClass RX0 = some m.cls := findClass_of_methodNamed B.named
  have hlocks := B.notSynchronized
  have hl := lv_entry ([.int (nI a), .int (nI k)]) (n := 2) (Nat.le_of_ble_eq_true rfl)
  rw [lg_entry_eq]
  generalize (lg_sl ([.int (nI a), .int (nI k)]) ++ List.replicate (2 - (lg_sl ([.int (nI a), .int (nI k)])).length) Slot.unset).toArray = ls at hl ⊢
  have hl : lv_has ls 2 [(0, .int (nI a)), (1, .int (nI k))] := hl
  have S : CallFix p m c _ _ s _ lw_all _ := ⟨hx, hb, hml, hown, hts⟩
  refine lv_iload_n hx hb dX0_cut_0 rfl (lv_at hl 0 rfl) ?_
  refine lv_ldc (v := nI 65535) hx hb hown (hts _ q76) dX0_cut_1 ?_
  refine lv_bipush (v := nI 16) hx hb dX0_cut_3 (by decide) ?_
  refine lv_iload_n hx hb dX0_cut_5 rfl (lv_at hl 1 rfl) ?_
  refine r_isub (a := 16) (b := k) hx hb (by omega) dX0_cut_6 ?_
  refine lv_ishl hx hb dX0_cut_7 ?_
  refine lv_iand hx hb dX0_cut_8 ?_
  refine lv_ldc (v := nI 65535) hx hb hown (hts _ q76) dX0_cut_9 ?_
  refine lv_iand hx hb dX0_cut_11 ?_
  refine r_top (y := nI (ct a k)) (cut_I ha hk) ?_
  exact W.iret (v := nI (ct a k)) hx hb hr (fun t ht hW => ⟨nI (ct a k), rfl, rfl, ht⟩) (fun _ h => absurd h List.not_mem_nil) dX0_cut_12
set_option maxRecDepth 100000 in
theorem kX0_X0_cut {p : Program} {l : Launch} {e : Env} {R : Room} {s : State} {m : MethodId} {args : Array Value} {below : List Frame} {meth : Method} {c : Code} {H : Heap} {locs : List Loc} {cells slots : Nat} {Q : State → Prop} {cc : ByteArray} {pc nL : Nat} {ls : Array Slot} {rest : List Value} (S : CallFix p m c cc nL s args lw_all RX0) (hls : ls.size = nL) (hR : 0 + 1 ≤ R.frames ∧ 8 + (2 + 11) + 0 ≤ R.locals) (hrest : (rest.map fun v => v.category).sum ≤ 8) (hc : cells ≤ R.cells ∧ slots ≤ R.slots) (a k : Nat) (ha : a < 65536) (hk : k ≤ 16) (hd : decode cc pc = .ok (.invokestatic 43, 3)) (kk : W p l e R s m args below meth c H locs cells slots Q (F0 m (pc + 3) ls (.int (nI (ct a k)) :: rest))) : W p l e R s m args below meth c H locs cells slots Q (F0 m pc ls (.int (nI k) :: .int (nI a) :: rest)) := vp_callSi (va_Run.run (va_runS (As := [.int (nI a), .int (nI k)]) (rest := rest) S (metX0_cut l a k ha hk) (va_cwS 2 S.2.2.2.2 (lw_S q77 q78 q17 q79) rfl rfl rfl (by decide +kernel) hR) ⟨fun a U g mk q => q, fun U hU hW => ⟨rfl, trivial⟩⟩ rfl rfl hls rfl (lv_room hrest) hd hc)) (fun r hr => by rw [hr]; exact kk)
set_option maxHeartbeats 4000000 in
set_option maxRecDepth 100000 in
theorem metX0_bitAt (l : Launch) (a i : Nat) (ha : a < 65536) (hi : i ≤ 15) : Met l yX0_bitAt (ws_ yX0_bitAt cX0_bitAt 2 (some .int)) ({ frames := 0, cells := 0, slots := 0, locals := 0 }) (va_Pc [.int (nI a), .int (nI i)] (fun _ => True)) (vp_Si (fun r => r = nI (bt a i))) 0 0 (fun _ => False) := by
  refine Met.ofW (cc := cX0_bitAt) (maxL := 2) (ret := (some .int)) (by decide) rfl ?_
  intro p e s m args below meth c s₁ B hml hv
  obtain ⟨rfl, -⟩ := hv
  have hx := B.exec
  have hb := B.bytes
  have hr := B.returns
  have hts := atoms_spec (ws := (ws_ yX0_bitAt cX0_bitAt 2 (some .int))) B.pre
  have hts : ∀ w ∈ lw_all, w.before _ s = true := fun w h => hts w (List.mem_cons_of_mem _ h)
  have hown : s.vm.findClass RX0 = some m.cls := findClass_of_methodNamed B.named
  have hlocks := B.notSynchronized
  have hl := lv_entry ([.int (nI a), .int (nI i)]) (n := 2) (Nat.le_of_ble_eq_true rfl)
  rw [lg_entry_eq]
  generalize (lg_sl ([.int (nI a), .int (nI i)]) ++ List.replicate (2 - (lg_sl ([.int (nI a), .int (nI i)])).length) Slot.unset).toArray = ls at hl ⊢
  have hl : lv_has ls 2 [(0, .int (nI a)), (1, .int (nI i))] := hl
  have S : CallFix p m c _ _ s _ lw_all _ := ⟨hx, hb, hml, hown, hts⟩
  refine lv_iload_n hx hb dX0_bitAt_0 rfl (lv_at hl 0 rfl) ?_
  refine lv_bipush (v := nI 15) hx hb dX0_bitAt_1 (by decide) ?_
  refine lv_iload_n hx hb dX0_bitAt_3 rfl (lv_at hl 1 rfl) ?_
  refine r_isub (a := 15) (b := i) hx hb (by omega) dX0_bitAt_4 ?_
  refine lv_iushr hx hb dX0_bitAt_5 rfl ?_
  refine lv_iconst (v := nI 1) hx hb dX0_bitAt_6 (by decide) ?_
  refine lv_iand hx hb dX0_bitAt_7 ?_
  refine r_top (y := nI (bt a i)) (bit_I ha) ?_
  exact W.iret (v := nI (bt a i)) hx hb hr (fun t ht hW => ⟨nI (bt a i), rfl, rfl, ht⟩) (fun _ h => absurd h List.not_mem_nil) dX0_bitAt_8
set_option maxRecDepth 100000 in
theorem kX0_X0_bitAt {p : Program} {l : Launch} {e : Env} {R : Room} {s : State} {m : MethodId} {args : Array Value} {below : List Frame} {meth : Method} {c : Code} {H : Heap} {locs : List Loc} {cells slots : Nat} {Q : State → Prop} {cc : ByteArray} {pc nL : Nat} {ls : Array Slot} {rest : List Value} (S : CallFix p m c cc nL s args lw_all RX0) (hls : ls.size = nL) (hR : 0 + 1 ≤ R.frames ∧ 8 + (2 + 11) + 0 ≤ R.locals) (hrest : (rest.map fun v => v.category).sum ≤ 8) (hc : cells ≤ R.cells ∧ slots ≤ R.slots) (a i : Nat) (ha : a < 65536) (hi : i ≤ 15) (hd : decode cc pc = .ok (.invokestatic 75, 3)) (kk : W p l e R s m args below meth c H locs cells slots Q (F0 m (pc + 3) ls (.int (nI (bt a i)) :: rest))) : W p l e R s m args below meth c H locs cells slots Q (F0 m pc ls (.int (nI i) :: .int (nI a) :: rest)) := vp_callSi (va_Run.run (va_runS (As := [.int (nI a), .int (nI i)]) (rest := rest) S (metX0_bitAt l a i ha hi) (va_cwS 2 S.2.2.2.2 (lw_S q88 q89 q17 q90) rfl rfl rfl (by decide +kernel) hR) ⟨fun a U g mk q => q, fun U hU hW => ⟨rfl, trivial⟩⟩ rfl rfl hls rfl (lv_room hrest) hd hc)) (fun r hr => by rw [hr]; exact kk)
set_option maxHeartbeats 4000000 in
set_option maxRecDepth 100000 in
theorem metX0_common (l : Launch) (a b k : Nat) (ha : a < 65536) (hb0 : b < 65536) (hk : k ≤ 16) : Met l yX0_common (ws_ yX0_common cX0_common 4 (some .int)) ({ frames := 1, cells := 0, slots := 0, locals := 21 }) (va_Pc [.int (nI a), .int (nI b), .int (nI k)] (fun _ => True)) (vp_Si (fun r => ∃ n, r = nI n ∧ n ≤ k ∧ (∀ j, j < n → bt a j = bt b j) ∧ (n < k → bt a n ≠ bt b n))) 0 0 (fun _ => False) := by
  refine Met.ofW (cc := cX0_common) (maxL := 4) (ret := (some .int)) (by decide) rfl ?_
  intro p e s m args below meth c s₁ B hml hv
  obtain ⟨rfl, -⟩ := hv
  have hx := B.exec
  have hb := B.bytes
  have hr := B.returns
  have hts := atoms_spec (ws := (ws_ yX0_common cX0_common 4 (some .int))) B.pre
  have hts : ∀ w ∈ lw_all, w.before _ s = true := fun w h => hts w (List.mem_cons_of_mem _ h)
  have hown : s.vm.findClass RX0 = some m.cls := findClass_of_methodNamed B.named
  have hlocks := B.notSynchronized
  have hl := lv_entry ([.int (nI a), .int (nI b), .int (nI k)]) (n := 4) (Nat.le_of_ble_eq_true rfl)
  rw [lg_entry_eq]
  generalize (lg_sl ([.int (nI a), .int (nI b), .int (nI k)]) ++ List.replicate (4 - (lg_sl ([.int (nI a), .int (nI b), .int (nI k)])).length) Slot.unset).toArray = ls at hl ⊢
  have hl : lv_has ls 4 [(0, .int (nI a)), (1, .int (nI b)), (2, .int (nI k))] := hl
  have S : CallFix p m c _ _ s _ lw_all _ := ⟨hx, hb, hml, hown, hts⟩
  refine lv_iconst (v := nI 0) hx hb dX0_common_0 (by decide) ?_
  refine lv_istore_n (lv' := [(3, .int (nI 0)), (0, .int (nI a)), (1, .int (nI b)), (2, .int (nI k))]) hx hb dX0_common_1 rfl hl (by decide) rfl (fun ls hl => ?_)
  refine r_loop (σ := Nat) (nL := 4) (fun n => [(0, .int (nI a)), (1, .int (nI b)), (2, .int (nI k)), (3, .int (nI n))]) (fun n => n ≤ k ∧ ∀ j, j < n → bt a j = bt b j) (fun n => k - n) (fun n ls hI hl ih => ?_) 0 ⟨Nat.zero_le _, fun j hj => absurd hj (Nat.not_lt_zero j)⟩ (lv_sub hl [1, 2, 3, 0] rfl)
  have hl : lv_has ls 4 [(0, .int (nI a)), (1, .int (nI b)), (2, .int (nI k)), (3, .int (nI n))] := hl
  obtain ⟨h1, h2⟩ := hI
  refine lv_iload_n hx hb dX0_common_2 rfl (lv_at hl 3 rfl) ?_
  refine lv_iload_n hx hb dX0_common_3 rfl (lv_at hl 2 rfl) ?_
  refine r_ge (a := n) (b := k) (tgt := 26) hx hb (by omega) (by omega) dX0_common_4 (by decide) (fun h => ?_) (fun h => ?_)
  · refine lv_iload_n hx hb dX0_common_26 rfl (lv_at hl 3 rfl) ?_
    exact W.iret (v := nI n) hx hb hr (fun t ht hW => ⟨nI n, rfl, ⟨n, rfl, h1, h2, fun q => absurd q (by omega)⟩, ht⟩) (fun _ h => absurd h List.not_mem_nil) dX0_common_27
  · refine lv_iload_n hx hb dX0_common_7 rfl (lv_at hl 0 rfl) ?_
    refine lv_iload_n hx hb dX0_common_8 rfl (lv_at hl 3 rfl) ?_
    refine kX0_X0_bitAt S hl.1 ⟨Nat.le_of_ble_eq_true rfl, Nat.le_of_ble_eq_true rfl⟩ (Nat.le_of_ble_eq_true rfl) ⟨Nat.zero_le _, Nat.zero_le _⟩ a n ha (by omega) dX0_common_9 ?_
    refine lv_iload_n hx hb dX0_common_12 rfl (lv_at hl 1 rfl) ?_
    refine lv_iload_n hx hb dX0_common_13 rfl (lv_at hl 3 rfl) ?_
    refine kX0_X0_bitAt S hl.1 ⟨Nat.le_of_ble_eq_true rfl, Nat.le_of_ble_eq_true rfl⟩ (Nat.le_of_ble_eq_true rfl) ⟨Nat.zero_le _, Nat.zero_le _⟩ b n hb0 (by omega) dX0_common_14 ?_
    have q1 := bt_lt a n
    have q2 := bt_lt b n
    refine r_ne (a := bt a n) (b := bt b n) (tgt := 26) hx hb (by omega) (by omega) dX0_common_17 (by decide) (fun h3 => ?_) (fun h3 => ?_)
    · refine lv_iload_n hx hb dX0_common_26 rfl (lv_at hl 3 rfl) ?_
      exact W.iret (v := nI n) hx hb hr (fun t ht hW => ⟨nI n, rfl, ⟨n, rfl, h1, h2, fun _ => h3⟩, ht⟩) (fun _ h => absurd h List.not_mem_nil) dX0_common_27
    · refine lv_iinc (v := nI (n + 1)) (lv' := [(3, .int (nI (n + 1))), (0, .int (nI a)), (1, .int (nI b)), (2, .int (nI k))]) hx hb dX0_common_20 hl (k := 3) rfl (nI_1 n) (by decide) rfl (fun ls hl => ?_)
      refine lv_goto (tgt := 2) hx hb dX0_common_23 (by decide) ?_
      exact ih (n + 1) ls ⟨h, fun j hj => by rcases Nat.lt_or_ge j n with q | q; exact h2 j q; rw [show j = n by omega]; exact h3⟩ (by omega) (lv_sub hl [1, 2, 3, 0] rfl)
set_option maxRecDepth 100000 in
theorem kX0_X0_common {p : Program} {l : Launch} {e : Env} {R : Room} {s : State} {m : MethodId} {args : Array Value} {below : List Frame} {meth : Method} {c : Code} {H : Heap} {locs : List Loc} {cells slots : Nat} {Q : State → Prop} {cc : ByteArray} {pc nL : Nat} {ls : Array Slot} {rest : List Value} (S : CallFix p m c cc nL s args lw_all RX0) (hls : ls.size = nL) (hR : 1 + 1 ≤ R.frames ∧ 8 + (4 + 11) + 21 ≤ R.locals) (hrest : (rest.map fun v => v.category).sum ≤ 8) (hc : cells ≤ R.cells ∧ slots ≤ R.slots) (a b k : Nat) (ha : a < 65536) (hb0 : b < 65536) (hk : k ≤ 16) (hd : decode cc pc = .ok (.invokestatic 98, 3)) (kk : ∀ r : Int32, (∃ n, r = nI n ∧ n ≤ k ∧ (∀ j, j < n → bt a j = bt b j) ∧ (n < k → bt a n ≠ bt b n)) → W p l e R s m args below meth c H locs cells slots Q (F0 m (pc + 3) ls (.int r :: rest))) : W p l e R s m args below meth c H locs cells slots Q (F0 m pc ls (.int (nI k) :: .int (nI b) :: .int (nI a) :: rest)) := vp_callSi (va_Run.run (va_runS (As := [.int (nI a), .int (nI b), .int (nI k)]) (rest := rest) S (metX0_common l a b k ha hb0 hk) (va_cwS 3 S.2.2.2.2 (lw_S q103 q104 q17 q105) rfl rfl rfl (by decide +kernel) hR) ⟨fun a U g mk q => q, fun U hU hW => ⟨rfl, trivial⟩⟩ rfl rfl hls rfl (lv_room hrest) hd hc)) kk
set_option maxHeartbeats 4000000 in
set_option maxRecDepth 100000 in
theorem metX0_covers (l : Launch) (dC : Nat → ClassId) (dI : Nat → Nat → Nat) (cI cZ : ClassId) (q : Nat → Nat) (he : Nat) (ro : Option Nat) (fr : Option Nat) (ab : Option Nat) (fu : Option Nat) (us : Nat → Bool) (bi : Nat → Nat) (le : Nat → Nat) (pe : Nat → Option Nat) (ch : Nat → Option Nat) (su : Nat → Int) (se : Nat → Int) (ha : Nat → Option Nat) (sk : Nat → Nat) (n a : Nat) (gn : n < 64) (ga : a < 65536) (gl : le n ≤ 16) (gb : bi n < 65536) : Met l yX0_covers (ws_ yX0_covers cX0_covers 3 (some .boolean)) ({ frames := 1, cells := 0, slots := 0, locals := 21 }) (va_Pc [.ref (q 0), .int (nI n), .int (nI a)] (fun U => va_P (dC, dI) vwCl (xW cI cZ q he ro fr ab fu us bi le pe ch su se ha sk) U.heap ∧ va_K (dC, dI) vwCl (xT cI cZ) U)) (vp_Si (fun r => r = bI (decide (ct a (le n) = bi n)))) 0 0 (fun _ => False) := by
  refine Met.ofW (cc := cX0_covers) (maxL := 3) (ret := (some .boolean)) (by decide) rfl ?_
  intro p e s m args below meth c s₁ B hml hv
  obtain ⟨rfl, hP, hK⟩ := hv
  have hx := B.exec
  have hb := B.bytes
  have hr := B.returns
  have hts := atoms_spec (ws := (ws_ yX0_covers cX0_covers 3 (some .boolean))) B.pre
  have hts : ∀ w ∈ lw_all, w.before _ s = true := fun w h => hts w (List.mem_cons_of_mem _ h)
  have hown : s.vm.findClass RX0 = some m.cls := findClass_of_methodNamed B.named
  have hlocks := B.notSynchronized
  have hl := lv_entry ([.ref (q 0), .int (nI n), .int (nI a)]) (n := 3) (Nat.le_of_ble_eq_true rfl)
  rw [lg_entry_eq]
  generalize (lg_sl ([.ref (q 0), .int (nI n), .int (nI a)]) ++ List.replicate (3 - (lg_sl ([.ref (q 0), .int (nI n), .int (nI a)])).length) Slot.unset).toArray = ls at hl ⊢
  have hl : lv_has ls 3 [(0, .ref (q 0)), (1, .int (nI n)), (2, .int (nI a))] := hl
  have S : CallFix p m c _ _ s _ lw_all _ := ⟨hx, hb, hml, hown, hts⟩
  refine lv_iload_n hx hb dX0_covers_0 rfl (lv_at hl 2 rfl) ?_
  refine lv_aload_n hx hb dX0_covers_1 rfl (lv_at hl 0 rfl) ?_
  refine gX0_length hx hb hts hown hK hP dX0_covers_2 ?_
  refine lv_iload_n hx hb dX0_covers_5 rfl (lv_at hl 1 rfl) ?_
  refine rX0_length (n := n) hx hb hK hP rfl (by omega) dX0_covers_6 ?_
  refine kX0_X0_cut S hl.1 ⟨Nat.le_of_ble_eq_true rfl, Nat.le_of_ble_eq_true rfl⟩ (Nat.le_of_ble_eq_true rfl) ⟨Nat.zero_le _, Nat.zero_le _⟩ a (le n) ga gl dX0_covers_7 ?_
  refine lv_aload_n hx hb dX0_covers_10 rfl (lv_at hl 0 rfl) ?_
  refine gX0_bits hx hb hts hown hK hP dX0_covers_11 ?_
  refine lv_iload_n hx hb dX0_covers_14 rfl (lv_at hl 1 rfl) ?_
  refine rX0_bits (n := n) hx hb hK hP rfl (by omega) dX0_covers_15 ?_
  have q1 := ct_lt (le n) ga
  refine r_ne (a := ct a (le n)) (b := bi n) (tgt := 23) hx hb (by omega) (by omega) dX0_covers_16 (by decide) (fun h => ?_) (fun h => ?_)
  · refine lv_iconst (v := nI 0) hx hb dX0_covers_23 (by decide) ?_
    exact W.zret (v := nI 0) hx hb hr (by first | rfl | decide | (exact nar_bb _)) (fun t ht hW => ⟨nI 0, rfl, by rw [decide_eq_false h]; rfl, ht⟩) (fun _ h => absurd h List.not_mem_nil) dX0_covers_24
  · refine lv_iconst (v := nI 1) hx hb dX0_covers_19 (by decide) ?_
    refine lv_goto (tgt := 24) hx hb dX0_covers_20 (by decide) ?_
    exact W.zret (v := nI 1) hx hb hr (by first | rfl | decide | (exact nar_bb _)) (fun t ht hW => ⟨nI 1, rfl, by rw [decide_eq_true h]; rfl, ht⟩) (fun _ h => absurd h List.not_mem_nil) dX0_covers_24
set_option maxRecDepth 100000 in
theorem kX0_X0_covers {p : Program} {l : Launch} {e : Env} {R : Room} {s : State} {m : MethodId} {args : Array Value} {below : List Frame} {meth : Method} {c : Code} {H : Heap} {locs : List Loc} {cells slots : Nat} {Q : State → Prop} {cc : ByteArray} {pc nL : Nat} {ls : Array Slot} {rest : List Value} {dC : Nat → ClassId} {dI : Nat → Nat → Nat} {cI cZ : ClassId} {q : Nat → Nat} {he : Nat} {ro : Option Nat} {fr : Option Nat} {ab : Option Nat} {fu : Option Nat} {us : Nat → Bool} {bi : Nat → Nat} {le : Nat → Nat} {pe : Nat → Option Nat} {ch : Nat → Option Nat} {su : Nat → Int} {se : Nat → Int} {ha : Nat → Option Nat} {sk : Nat → Nat} (S : CallFix p m c cc nL s args lw_all RX0) (hls : ls.size = nL) (hR : 1 + 1 ≤ R.frames ∧ 8 + (3 + 11) + 21 ≤ R.locals) (hrest : (rest.map fun v => v.category).sum ≤ 8) (hc : cells ≤ R.cells ∧ slots ≤ R.slots) (hK : va_K (dC, dI) vwCl (xT cI cZ) s) (hP : va_P (dC, dI) vwCl (xW cI cZ q he ro fr ab fu us bi le pe ch su se ha sk) H) (n a : Nat) (gn : n < 64) (ga : a < 65536) (gl : le n ≤ 16) (gb : bi n < 65536) (hd : decode cc pc = .ok (.invokevirtual 84, 3)) (kk : W p l e R s m args below meth c H locs cells slots Q (F0 m (pc + 3) ls (.int (bI (decide (ct a (le n) = bi n))) :: rest))) : W p l e R s m args below meth c H locs cells slots Q (F0 m pc ls (.int (nI a) :: .int (nI n) :: .ref (q 0) :: rest)) := vp_callSi (va_Run.run (va_runV (As := [.int (nI n), .int (nI a)]) (rest := rest) S (metX0_covers l dC dI cI cZ q he ro fr ab fu us bi le pe ch su se ha sk n a gn ga gl gb) (cwV 2 S.2.2.2.2 (lw_V q84 q86 qs1 q17 q87) rfl rfl rfl (by decide +kernel) hR) ⟨fun a U g mk q => by obtain ⟨q0, qP, qK⟩ := q; exact ⟨q0, qP, va_K.moved (u := U) (U := U.calling g mk a) (Vm.Alike.refl U.vm) qK⟩, va_recv hK hP (ci := 0) (q0 := 0) rfl rfl, fun U hU hW => ⟨rfl, by rw [hU]; exact hP, va_K.moved hW.alike hK⟩⟩ rfl rfl hls rfl (lv_room hrest) hd hc)) (fun r hr => by rw [hr]; exact kk)
end
section
set_option maxRecDepth 100000
set_option maxHeartbeats 4000000 in
set_option maxRecDepth 100000 in
theorem metX0_find (l : Launch) (dC : Nat → ClassId) (dI : Nat → Nat → Nat) (cI cZ : ClassId) (q : Nat → Nat) (sz : Nat) (he : Nat) (ro : Option Nat) (fr : Option Nat) (ab : Option Nat) (fu : Option Nat) (us : Nat → Bool) (bi : Nat → Nat) (le : Nat → Nat) (pe : Nat → Option Nat) (ch : Nat → Option Nat) (su : Nat → Int) (se : Nat → Int) (ha : Nat → Option Nat) (sk : Nat → Nat) (pp k : Nat) (gp : pp < 65536) (gc : ct pp k = pp) (gk : k ≤ 16) (gT : TW us bi le ro ch) : Met l yX0_find (ws_ yX0_find cX0_find 5 (some .int)) ({ frames := 2, cells := 0, slots := 0, locals := 43 }) (va_Pc [.ref (q 0), .int (nI pp), .int (nI k)] (fun U => U.heap.size = sz ∧ va_P (dC, dI) vwCl (xW cI cZ q he ro fr ab fu us bi le pe ch su se ha sk) U.heap ∧ va_K (dC, dI) vwCl (xT cI cZ) U ∧ va_D (fun _ => True) (xW cI cZ q he ro fr ab fu us bi le pe ch su se ha sk))) (va_Qi (fun (r : Int32) (u : Option Nat × Option Nat) => ∃ x, r = oI x ∧ FP us bi le ro ch pp k x u.1 u.2) (fun (u : Option Nat × Option Nat) t => va_P (dC, dI) vwCl (xW cI cZ q he ro fr u.1 u.2 us bi le pe ch su se ha sk) t.heap ∧ va_K (dC, dI) vwCl (xT cI cZ) t ∧ va_D (va_A (xW cI cZ q he ro fr ab fu us bi le pe ch su se ha sk) sz) (xW cI cZ q he ro fr u.1 u.2 us bi le pe ch su se ha sk)) (va_A (xW cI cZ q he ro fr ab fu us bi le pe ch su se ha sk) sz)) 0 0 (va_A (xW cI cZ q he ro fr ab fu us bi le pe ch su se ha sk) sz) := by
  refine Met.ofW (cc := cX0_find) (maxL := 5) (ret := (some .int)) (by decide) rfl ?_
  intro p e s m args below meth c s₁ B hml hv
  obtain ⟨rfl, hsz, hP, hK, hD0⟩ := hv
  have hx := B.exec
  have hb := B.bytes
  have hr := B.returns
  have hts := atoms_spec (ws := (ws_ yX0_find cX0_find 5 (some .int))) B.pre
  have hts : ∀ w ∈ lw_all, w.before _ s = true := fun w h => hts w (List.mem_cons_of_mem _ h)
  have hown : s.vm.findClass RX0 = some m.cls := findClass_of_methodNamed B.named
  have hlocks := B.notSynchronized
  subst hsz
  have hD := hD0.self (sz := s.heap.size)
  generalize hAe : va_A (xW cI cZ q he ro fr ab fu us bi le pe ch su se ha sk) s.heap.size = A at hD ⊢
  have hA : ∀ q : Nat, s.heap.size ≤ q → A q := fun q h => by rw [← hAe]; exact Or.inr h
  have hS : va_S A s.heap s.heap [] := va_S.rf
  have hl := lv_entry ([.ref (q 0), .int (nI pp), .int (nI k)]) (n := 5) (Nat.le_of_ble_eq_true rfl)
  rw [lg_entry_eq]
  generalize (lg_sl ([.ref (q 0), .int (nI pp), .int (nI k)]) ++ List.replicate (5 - (lg_sl ([.ref (q 0), .int (nI pp), .int (nI k)])).length) Slot.unset).toArray = ls at hl ⊢
  have hl : lv_has ls 5 [(0, .ref (q 0)), (1, .int (nI pp)), (2, .int (nI k))] := hl
  have S : CallFix p m c _ _ s _ lw_all _ := ⟨hx, hb, hml, hown, hts⟩
  refine lv_aload_n hx hb dX0_find_0 rfl (lv_at hl 0 rfl) ?_
  refine lv_iconst (v := oI none) hx hb dX0_find_1 (by decide) ?_
  refine pX0_above (v := none) hx hb hts hown hK hP hD hS dX0_find_2 (fun H locs hP hD hS => ?_)
  refine lv_aload_n hx hb dX0_find_5 rfl (lv_at hl 0 rfl) ?_
  refine lv_iconst (v := oI none) hx hb dX0_find_6 (by decide) ?_
  refine pX0_furtherUp (v := none) hx hb hts hown hK hP hD hS dX0_find_7 (fun H locs hP hD hS => ?_)
  refine lv_aload_n hx hb dX0_find_10 rfl (lv_at hl 0 rfl) ?_
  refine gX0_root hx hb hts hown hK hP dX0_find_11 ?_
  refine lv_istore_n (lv' := [(3, .int (oI ro)), (0, .ref (q 0)), (1, .int (nI pp)), (2, .int (nI k))]) hx hb dX0_find_14 rfl hl (by decide) rfl (fun ls hl => ?_)
  refine lv_iconst (v := nI 0) hx hb dX0_find_15 (by decide) ?_
  refine lv_istore (lv' := [(4, .int (nI 0)), (3, .int (oI ro)), (0, .ref (q 0)), (1, .int (nI pp)), (2, .int (nI k))]) hx hb dX0_find_16 hl (by decide) rfl (fun ls hl => ?_)
  refine r_loopH (σ := Option Nat × Option Nat × Option Nat × Nat) (nL := 5) (fun | (x, ab, fu, t) => [(0, .ref (q 0)), (1, .int (nI pp)), (2, .int (nI k)), (3, .int (oI x)), (4, .int (nI t))]) (fun | (x, ab, fu, t) => xW cI cZ q he ro fr ab fu us bi le pe ch su se ha sk) (fun | (x, ab, fu, t) => FI us bi le ro ch pp k x ab fu t) (fun | (x, ab, fu, t) => 18 - t) (fun x ls H locs hI hl hP hD hS ih => ?_) (ro, none, none, 0) (fi_0 pp k) (lv_sub hl [2, 3, 4, 1, 0] rfl) hP hD hS
  obtain ⟨x, ab, fu, t⟩ := x
  have hl : lv_has ls 5 [(0, .ref (q 0)), (1, .int (nI pp)), (2, .int (nI k)), (3, .int (oI x)), (4, .int (nI t))] := hl
  have hP : va_P (dC, dI) vwCl (xW cI cZ q he ro fr ab fu us bi le pe ch su se ha sk) H := hP
  have hD : va_D A (xW cI cZ q he ro fr ab fu us bi le pe ch su se ha sk) := hD
  have hI : FI us bi le ro ch pp k x ab fu t := hI
  have ht := fi_t hI gk
  refine lv_iload hx hb dX0_find_18 (lv_at hl 4 rfl) ?_
  refine lv_bipush (v := nI 18) hx hb dX0_find_20 (by decide) ?_
  refine r_ge (a := t) (b := 18) (tgt := 101) hx hb (by omega) (by omega) dX0_find_22 (by decide) (fun h => ?_) (fun h => ?_)
  · exact absurd h (by omega)
  · refine lv_iload_n hx hb dX0_find_25 rfl (lv_at hl 3 rfl) ?_
    refine r_ifltO (x := x) (tgt := 101) hx hb (fun n hn => by have := (fi_ud gT (by rw [← hn]; exact hI)).1; omega) dX0_find_26 (by decide) (fun h => ?_) (fun d h => ?_)
    · subst h
      refine lv_iconst (v := oI none) hx hb dX0_find_101 (by decide) ?_
      exact W.iret (v := oI none) hx hb hr (fun t ht hW => ⟨⟨oI none, (ab, fu), rfl, ⟨none, rfl, fi_end hI⟩, by rw [ht]; exact hP, va_K.moved hW.alike hK, hD⟩, hS.F ht⟩) hS.2.2 dX0_find_102
    · subst h
      have hl : lv_has ls 5 [(0, .ref (q 0)), (1, .int (nI pp)), (2, .int (nI k)), (3, .int (nI d)), (4, .int (nI t))] := hl
      have hu := fi_ud gT hI
      obtain ⟨g1, g2, g3⟩ := gT.1 d hu
      have hd6 := hu.1
      refine lv_aload_n hx hb dX0_find_29 rfl (lv_at hl 0 rfl) ?_
      refine gX0_length hx hb hts hown hK hP dX0_find_30 ?_
      refine lv_iload_n hx hb dX0_find_33 rfl (lv_at hl 3 rfl) ?_
      refine rX0_length (n := d) hx hb hK hP rfl (by omega) dX0_find_34 ?_
      refine lv_iload_n hx hb dX0_find_35 rfl (lv_at hl 2 rfl) ?_
      refine r_gt (a := le d) (b := k) (tgt := 48) hx hb (by omega) (by omega) dX0_find_36 (by decide) (fun h2 => ?_) (fun h2 => ?_)
      · refine lv_iconst (v := oI none) hx hb dX0_find_48 (by decide) ?_
        exact W.iret (v := oI none) hx hb hr (fun t ht hW => ⟨⟨oI none, (ab, fu), rfl, ⟨none, rfl, fi_no hI (fun z => by omega)⟩, by rw [ht]; exact hP, va_K.moved hW.alike hK, hD⟩, hS.F ht⟩) hS.2.2 dX0_find_49
      · refine lv_aload_n hx hb dX0_find_39 rfl (lv_at hl 0 rfl) ?_
        refine lv_iload_n hx hb dX0_find_40 rfl (lv_at hl 3 rfl) ?_
        refine lv_iload_n hx hb dX0_find_41 rfl (lv_at hl 1 rfl) ?_
        refine kX0_X0_covers S hl.1 ⟨Nat.le_of_ble_eq_true rfl, Nat.le_of_ble_eq_true rfl⟩ (Nat.le_of_ble_eq_true rfl) ⟨Nat.zero_le _, Nat.zero_le _⟩ hK hP d pp hd6 gp g1 g2 dX0_find_42 ?_
        refine r_ifneB (b := decide (ct pp (le d) = bi d)) (tgt := 50) hx hb dX0_find_45 (by decide) (fun h3 => ?_) (fun h3 => ?_)
        · have h3 := of_decide_eq_true h3
          refine lv_aload_n hx hb dX0_find_50 rfl (lv_at hl 0 rfl) ?_
          refine gX0_length hx hb hts hown hK hP dX0_find_51 ?_
          refine lv_iload_n hx hb dX0_find_54 rfl (lv_at hl 3 rfl) ?_
          refine rX0_length (n := d) hx hb hK hP rfl (by omega) dX0_find_55 ?_
          refine lv_iload_n hx hb dX0_find_56 rfl (lv_at hl 2 rfl) ?_
          refine r_ne (a := le d) (b := k) (tgt := 62) hx hb (by omega) (by omega) dX0_find_57 (by decide) (fun h4 => ?_) (fun h4 => ?_)
          · refine lv_aload_n hx hb dX0_find_62 rfl (lv_at hl 0 rfl) ?_
            refine lv_aload_n hx hb dX0_find_63 rfl (lv_at hl 0 rfl) ?_
            refine gX0_above hx hb hts hown hK hP dX0_find_64 ?_
            refine pX0_furtherUp (v := ab) hx hb hts hown hK hP hD hS dX0_find_67 (fun H locs hP hD hS => ?_)
            refine lv_aload_n hx hb dX0_find_70 rfl (lv_at hl 0 rfl) ?_
            refine lv_iload_n hx hb dX0_find_71 rfl (lv_at hl 3 rfl) ?_
            refine pX0_above (v := some d) hx hb hts hown hK hP hD hS dX0_find_72 (fun H locs hP hD hS => ?_)
            refine lv_aload_n hx hb dX0_find_75 rfl (lv_at hl 0 rfl) ?_
            refine gX0_child hx hb hts hown hK hP dX0_find_76 ?_
            refine lv_iconst (v := nI 2) hx hb dX0_find_79 (by decide) ?_
            refine lv_iload_n hx hb dX0_find_80 rfl (lv_at hl 3 rfl) ?_
            refine r_imul (a := 2) (b := d) hx hb dX0_find_81 ?_
            refine lv_iload_n hx hb dX0_find_82 rfl (lv_at hl 1 rfl) ?_
            refine lv_aload_n hx hb dX0_find_83 rfl (lv_at hl 0 rfl) ?_
            refine gX0_length hx hb hts hown hK hP dX0_find_84 ?_
            refine lv_iload_n hx hb dX0_find_87 rfl (lv_at hl 3 rfl) ?_
            refine rX0_length (n := d) hx hb hK hP rfl (by omega) dX0_find_88 ?_
            refine kX0_X0_bitAt S hl.1 ⟨Nat.le_of_ble_eq_true rfl, Nat.le_of_ble_eq_true rfl⟩ (Nat.le_of_ble_eq_true rfl) ⟨Nat.zero_le _, Nat.zero_le _⟩ pp (le d) gp (by omega) dX0_find_89 ?_
            refine r_iadd (a := 2 * d) (b := bt pp (le d)) hx hb dX0_find_92 ?_
            refine rX0_child (n := (2 * d) + (bt pp (le d))) hx hb hK hP rfl (by have := bt_lt pp (le d); omega) dX0_find_93 ?_
            refine lv_istore_n (lv' := [(3, .int (oI (ch ((2 * d) + (bt pp (le d)))))), (0, .ref (q 0)), (1, .int (nI pp)), (2, .int (nI k)), (4, .int (nI t))]) hx hb dX0_find_94 rfl hl (by decide) rfl (fun ls hl => ?_)
            refine lv_iinc (v := nI (t + 1)) (lv' := [(4, .int (nI (t + 1))), (3, .int (oI (ch ((2 * d) + (bt pp (le d)))))), (0, .ref (q 0)), (1, .int (nI pp)), (2, .int (nI k))]) hx hb dX0_find_95 hl (k := 4) rfl (nI_1 t) (by decide) rfl (fun ls hl => ?_)
            refine lv_goto (tgt := 18) hx hb dX0_find_98 (by decide) ?_
            exact ih (ch (2 * d + bt pp (le d)), some d, ab, t + 1) ls H locs (fi_next gT hI (by omega) h3) (by show 18 - (t + 1) < 18 - t; omega) (lv_sub hl [2, 3, 4, 1, 0] rfl) hP hD hS
          · refine lv_iload_n hx hb dX0_find_60 rfl (lv_at hl 3 rfl) ?_
            exact W.iret (v := nI d) hx hb hr (fun t ht hW => ⟨⟨nI d, (ab, fu), rfl, ⟨some d, rfl, fi_yes gT hI h4 h3 gc⟩, by rw [ht]; exact hP, va_K.moved hW.alike hK, hD⟩, hS.F ht⟩) hS.2.2 dX0_find_61
        · refine lv_iconst (v := oI none) hx hb dX0_find_48 (by decide) ?_
          exact W.iret (v := oI none) hx hb hr (fun t ht hW => ⟨⟨oI none, (ab, fu), rfl, ⟨none, rfl, fi_no hI (fun z => (of_decide_eq_false h3) z.2)⟩, by rw [ht]; exact hP, va_K.moved hW.alike hK, hD⟩, hS.F ht⟩) hS.2.2 dX0_find_49
set_option maxRecDepth 100000 in
theorem kX0_X0_find {p : Program} {l : Launch} {e : Env} {R : Room} {s : State} {m : MethodId} {args : Array Value} {below : List Frame} {meth : Method} {c : Code} {H : Heap} {locs : List Loc} {cells slots : Nat} {Q : State → Prop} {cc : ByteArray} {pc nL : Nat} {ls : Array Slot} {rest : List Value} {A : Nat → Prop} {H0 : Heap} {dC : Nat → ClassId} {dI : Nat → Nat → Nat} {cI cZ : ClassId} {q : Nat → Nat} {he : Nat} {ro : Option Nat} {fr : Option Nat} {ab : Option Nat} {fu : Option Nat} {us : Nat → Bool} {bi : Nat → Nat} {le : Nat → Nat} {pe : Nat → Option Nat} {ch : Nat → Option Nat} {su : Nat → Int} {se : Nat → Int} {ha : Nat → Option Nat} {sk : Nat → Nat} (S : CallFix p m c cc nL s args lw_all RX0) (hls : ls.size = nL) (hR : 2 + 1 ≤ R.frames ∧ 8 + (5 + 11) + 43 ≤ R.locals) (hrest : (rest.map fun v => v.category).sum ≤ 8) (hc : cells ≤ R.cells ∧ slots ≤ R.slots) (hK : va_K (dC, dI) vwCl (xT cI cZ) s) (hP : va_P (dC, dI) vwCl (xW cI cZ q he ro fr ab fu us bi le pe ch su se ha sk) H) (hD : va_D A (xW cI cZ q he ro fr ab fu us bi le pe ch su se ha sk)) (hS : va_S A H0 H locs) (hA : ∀ q : Nat, H0.size ≤ q → A q) (pp k : Nat) (gp : pp < 65536) (gc : ct pp k = pp) (gk : k ≤ 16) (gT : TW us bi le ro ch) (hd : decode cc pc = .ok (.invokevirtual 47, 3)) (kk : ∀ (r : Int32) (u : Option Nat × Option Nat) (H : Heap) (locs : List Loc), (∃ x, r = oI x ∧ FP us bi le ro ch pp k x u.1 u.2) → va_P (dC, dI) vwCl (xW cI cZ q he ro fr u.1 u.2 us bi le pe ch su se ha sk) H → va_D A (xW cI cZ q he ro fr u.1 u.2 us bi le pe ch su se ha sk) → va_S A H0 H locs → W p l e R s m args below meth c H locs cells slots Q (F0 m (pc + 3) ls (.int r :: rest))) : W p l e R s m args below meth c H locs cells slots Q (F0 m pc ls (.int (nI k) :: .int (nI pp) :: .ref (q 0) :: rest)) := by
  have hFc := va_free (wc := xW cI cZ q he ro fr ab fu us bi le pe ch su se ha sk) hD hS hA [0, 1, 2, 3, 4, 5, 6, 7, 8, 9] rfl
  refine va_calli (va_runV (As := [.int (nI pp), .int (nI k)]) (rest := rest) S (metX0_find l dC dI cI cZ q H.size he ro fr ab fu us bi le pe ch su se ha sk pp k gp gc gk gT) (cwV 2 S.2.2.2.2 (lw_V q80 q82 qs0 q17 q83) rfl rfl rfl (by decide +kernel) hR) ⟨fun a U g mk q => by obtain ⟨q0, q1, qP, qK, qD⟩ := q; exact ⟨q0, q1, qP, va_K.moved (u := U) (U := U.calling g mk a) (Vm.Alike.refl U.vm) qK, qD⟩, va_recv hK hP (ci := 0) (q0 := 0) rfl rfl, fun U hU hW => ⟨rfl, by rw [hU], by rw [hU]; exact hP, va_K.moved hW.alike hK, hD.weaken (fun _ _ _ _ => trivial)⟩⟩ rfl rfl hls rfl (lv_room hrest) hd hc) hS (fun q _ h => hFc q h) hFc (fun r u t H1 locs1 ht hvm hw hB hz1 hk1 hS1 => ?_)
  obtain ⟨hP1, hK1, hD1⟩ := hB
  rw [ht] at hP1
  obtain ⟨hP2, hD2⟩ := va_join (wr := []) (w1 := xW cI cZ q he ro fr u.1 u.2 us bi le pe ch su se ha sk) hP hD [0, 1, 2, 3, 4, 5, 6, 7, 8, 9] [] rfl rfl (by decide) (by decide) hk1 hFc hP1 hD1
  exact kk r u H1 locs1 hw hP2 hD2 hS1
set_option maxHeartbeats 4000000 in
set_option maxRecDepth 100000 in
theorem metX0_settling (l : Launch) (dC : Nat → ClassId) (dI : Nat → Nat → Nat) (cI cZ : ClassId) (q : Nat → Nat) (he : Nat) (ro : Option Nat) (fr : Option Nat) (ab : Option Nat) (fu : Option Nat) (us : Nat → Bool) (bi : Nat → Nat) (le : Nat → Nat) (pe : Nat → Option Nat) (ch : Nat → Option Nat) (su : Nat → Int) (se : Nat → Int) (ha : Nat → Option Nat) (sk : Nat → Nat) (a : Nat) (D : Nat → Nat → Option Nat) (ga : a < 65536) (gT : TW us bi le ro ch) (gC : CT us bi le pe D) (gB : ∀ n r, ud us n → pe n = some r → r < 8) : Met l yX0_settling (ws_ yX0_settling cX0_settling 5 (some .int)) ({ frames := 2, cells := 0, slots := 0, locals := 43 }) (va_Pc [.ref (q 0), .int (nI a)] (fun U => va_P (dC, dI) vwCl (xW cI cZ q he ro fr ab fu us bi le pe ch su se ha sk) U.heap ∧ va_K (dC, dI) vwCl (xT cI cZ) U)) (vp_Si (fun r => ∃ x, r = oI x ∧ BO D us bi le pe a x 17)) 0 0 (fun _ => False) := by
  refine Met.ofW (cc := cX0_settling) (maxL := 5) (ret := (some .int)) (by decide) rfl ?_
  intro p e s m args below meth c s₁ B hml hv
  obtain ⟨rfl, hP, hK⟩ := hv
  have hx := B.exec
  have hb := B.bytes
  have hr := B.returns
  have hts := atoms_spec (ws := (ws_ yX0_settling cX0_settling 5 (some .int))) B.pre
  have hts : ∀ w ∈ lw_all, w.before _ s = true := fun w h => hts w (List.mem_cons_of_mem _ h)
  have hown : s.vm.findClass RX0 = some m.cls := findClass_of_methodNamed B.named
  have hlocks := B.notSynchronized
  have hl := lv_entry ([.ref (q 0), .int (nI a)]) (n := 5) (Nat.le_of_ble_eq_true rfl)
  rw [lg_entry_eq]
  generalize (lg_sl ([.ref (q 0), .int (nI a)]) ++ List.replicate (5 - (lg_sl ([.ref (q 0), .int (nI a)])).length) Slot.unset).toArray = ls at hl ⊢
  have hl : lv_has ls 5 [(0, .ref (q 0)), (1, .int (nI a))] := hl
  have S : CallFix p m c _ _ s _ lw_all _ := ⟨hx, hb, hml, hown, hts⟩
  refine lv_iconst (v := oI none) hx hb dX0_settling_0 (by decide) ?_
  refine lv_istore_n (lv' := [(2, .int (oI none)), (0, .ref (q 0)), (1, .int (nI a))]) hx hb dX0_settling_1 rfl hl (by decide) rfl (fun ls hl => ?_)
  refine lv_aload_n hx hb dX0_settling_2 rfl (lv_at hl 1 rfl) ?_
  refine gX0_root hx hb hts hown hK hP dX0_settling_3 ?_
  refine lv_istore_n (lv' := [(3, .int (oI ro)), (2, .int (oI none)), (0, .ref (q 0)), (1, .int (nI a))]) hx hb dX0_settling_6 rfl hl (by decide) rfl (fun ls hl => ?_)
  refine lv_iconst (v := nI 0) hx hb dX0_settling_7 (by decide) ?_
  refine lv_istore (lv' := [(4, .int (nI 0)), (3, .int (oI ro)), (2, .int (oI none)), (0, .ref (q 0)), (1, .int (nI a))]) hx hb dX0_settling_8 hl (by decide) rfl (fun ls hl => ?_)
  refine r_loop (σ := Option Nat × Option Nat × Nat) (nL := 5) (fun | (b, x, t) => [(0, .ref (q 0)), (1, .int (nI a)), (2, .int (oI b)), (3, .int (oI x)), (4, .int (nI t))]) (fun | (b, x, t) => SI D us bi le pe a b x t) (fun | (b, x, t) => 18 - t) (fun x ls hI hl ih => ?_) (none, ro, 0) (si_0 gT a) (lv_sub hl [3, 4, 2, 1, 0] rfl)
  obtain ⟨b, x, t⟩ := x
  have hl : lv_has ls 5 [(0, .ref (q 0)), (1, .int (nI a)), (2, .int (oI b)), (3, .int (oI x)), (4, .int (nI t))] := hl
  have hI : SI D us bi le pe a b x t := hI
  have ht := si_t hI
  refine lv_iload hx hb dX0_settling_10 (lv_at hl 4 rfl) ?_
  refine lv_bipush (v := nI 18) hx hb dX0_settling_12 (by decide) ?_
  refine r_ge (a := t) (b := 18) (tgt := 86) hx hb (by omega) (by omega) dX0_settling_14 (by decide) (fun h => ?_) (fun h => ?_)
  · exact absurd h (by omega)
  · refine lv_iload_n hx hb dX0_settling_17 rfl (lv_at hl 3 rfl) ?_
    refine r_ifltO (x := x) (tgt := 86) hx hb (fun n hn => by have := (si_ud (by rw [← hn]; exact hI)).1; omega) dX0_settling_18 (by decide) (fun h => ?_) (fun d h => ?_)
    · subst h
      refine lv_iload_n hx hb dX0_settling_86 rfl (lv_at hl 2 rfl) ?_
      exact W.iret (v := oI b) hx hb hr (fun t ht hW => ⟨oI b, rfl, ⟨b, rfl, si_end gT gC hI (fun d e => (by cases e))⟩, ht⟩) (fun _ h => absurd h List.not_mem_nil) dX0_settling_87
    · subst h
      have hl : lv_has ls 5 [(0, .ref (q 0)), (1, .int (nI a)), (2, .int (oI b)), (3, .int (nI d)), (4, .int (nI t))] := hl
      have hu := si_ud hI
      obtain ⟨g1, g2, g3⟩ := gT.1 d hu
      have hd6 := hu.1
      refine lv_aload_n hx hb dX0_settling_21 rfl (lv_at hl 0 rfl) ?_
      refine lv_iload_n hx hb dX0_settling_22 rfl (lv_at hl 3 rfl) ?_
      refine lv_iload_n hx hb dX0_settling_23 rfl (lv_at hl 1 rfl) ?_
      refine kX0_X0_covers S hl.1 ⟨Nat.le_of_ble_eq_true rfl, Nat.le_of_ble_eq_true rfl⟩ (Nat.le_of_ble_eq_true rfl) ⟨Nat.zero_le _, Nat.zero_le _⟩ hK hP d a hd6 ga g1 g2 dX0_settling_24 ?_
      refine r_ifeqB (b := decide (ct a (le d) = bi d)) (tgt := 86) hx hb dX0_settling_27 (by decide) (fun h3 => ?_) (fun h3 => ?_)
      · refine lv_iload_n hx hb dX0_settling_86 rfl (lv_at hl 2 rfl) ?_
        exact W.iret (v := oI b) hx hb hr (fun t ht hW => ⟨oI b, rfl, ⟨b, rfl, si_end gT gC hI (fun d2 e => by cases e; exact of_decide_eq_false h3)⟩, ht⟩) (fun _ h => absurd h List.not_mem_nil) dX0_settling_87
      · have h3 := of_decide_eq_true h3
        refine lv_aload_n hx hb dX0_settling_30 rfl (lv_at hl 0 rfl) ?_
        refine gX0_peerOf hx hb hts hown hK hP dX0_settling_31 ?_
        refine lv_iload_n hx hb dX0_settling_34 rfl (lv_at hl 3 rfl) ?_
        refine rX0_peerOf (n := d) hx hb hK hP rfl (by omega) dX0_settling_35 ?_
        refine r_join (rest := []) 44 (fun v => ∃ b2, v = oI b2 ∧ (((pe d).isSome = true ∧ b2 = some d) ∨ (pe d = none ∧ b2 = b))) (fun v hv => ?_) (fun J => ?_)
        · obtain ⟨b2, rfl, hb2⟩ := hv
          refine lv_istore_n (lv' := [(2, .int (oI b2)), (0, .ref (q 0)), (1, .int (nI a)), (3, .int (nI d)), (4, .int (nI t))]) hx hb dX0_settling_44 rfl hl (by decide) rfl (fun ls hl => ?_)
          refine lv_aload_n hx hb dX0_settling_45 rfl (lv_at hl 1 rfl) ?_
          refine gX0_length hx hb hts hown hK hP dX0_settling_46 ?_
          refine lv_iload_n hx hb dX0_settling_49 rfl (lv_at hl 3 rfl) ?_
          refine rX0_length (n := d) hx hb hK hP rfl (by omega) dX0_settling_50 ?_
          refine lv_bipush (v := nI 16) hx hb dX0_settling_51 (by decide) ?_
          refine r_join (rest := []) 79 (fun v => ∃ x2, v = oI x2 ∧ ((le d = 16 ∧ x2 = none) ∨ (le d ≠ 16 ∧ x2 = ch (2 * d + bt a (le d))))) (fun v hv => ?_) (fun J => ?_)
          · obtain ⟨x2, rfl, hx2⟩ := hv
            refine lv_istore_n (lv' := [(3, .int (oI x2)), (2, .int (oI b2)), (0, .ref (q 0)), (1, .int (nI a)), (4, .int (nI t))]) hx hb dX0_settling_79 rfl hl (by decide) rfl (fun ls hl => ?_)
            refine lv_iinc (v := nI (t + 1)) (lv' := [(4, .int (nI (t + 1))), (3, .int (oI x2)), (2, .int (oI b2)), (0, .ref (q 0)), (1, .int (nI a))]) hx hb dX0_settling_80 hl (k := 4) rfl (nI_1 t) (by decide) rfl (fun ls hl => ?_)
            refine lv_goto (tgt := 10) hx hb dX0_settling_83 (by decide) ?_
            exact ih (b2, x2, t + 1) ls (si_next gT gC hI h3 hb2 hx2) (by show 18 - (t + 1) < 18 - t; omega) (lv_sub hl [3, 4, 2, 1, 0] rfl)
          · refine r_ne (a := le d) (b := 16) (tgt := 60) hx hb (by omega) (by omega) dX0_settling_53 (by decide) (fun h4 => ?_) (fun h4 => ?_)
            · refine lv_aload_n hx hb dX0_settling_60 rfl (lv_at hl 1 rfl) ?_
              refine gX0_child hx hb hts hown hK hP dX0_settling_61 ?_
              refine lv_iconst (v := nI 2) hx hb dX0_settling_64 (by decide) ?_
              refine lv_iload_n hx hb dX0_settling_65 rfl (lv_at hl 3 rfl) ?_
              refine r_imul (a := 2) (b := d) hx hb dX0_settling_66 ?_
              refine lv_iload_n hx hb dX0_settling_67 rfl (lv_at hl 2 rfl) ?_
              refine lv_aload_n hx hb dX0_settling_68 rfl (lv_at hl 1 rfl) ?_
              refine gX0_length hx hb hts hown hK hP dX0_settling_69 ?_
              refine lv_iload_n hx hb dX0_settling_72 rfl (lv_at hl 3 rfl) ?_
              refine rX0_length (n := d) hx hb hK hP rfl (by omega) dX0_settling_73 ?_
              refine kX0_X0_bitAt S hl.1 ⟨Nat.le_of_ble_eq_true rfl, Nat.le_of_ble_eq_true rfl⟩ (Nat.le_of_ble_eq_true rfl) ⟨Nat.zero_le _, Nat.zero_le _⟩ a (le d) ga (by omega) dX0_settling_74 ?_
              refine r_iadd (a := 2 * d) (b := bt a (le d)) hx hb dX0_settling_77 ?_
              refine rX0_child (n := (2 * d) + (bt a (le d))) hx hb hK hP rfl (by have := bt_lt a (le d); omega) dX0_settling_78 ?_
              exact J _ ⟨_, rfl, Or.inr ⟨h4, rfl⟩⟩
            · refine lv_iconst (v := oI none) hx hb dX0_settling_56 (by decide) ?_
              refine lv_goto (tgt := 79) hx hb dX0_settling_57 (by decide) ?_
              exact J _ ⟨none, rfl, Or.inl ⟨h4, rfl⟩⟩
        · refine r_ifltO (x := pe d) (tgt := 43) hx hb (fun n hn => by have := gB d n hu hn; omega) dX0_settling_36 (by decide) (fun h4 => ?_) (fun r2 h4 => ?_)
          · refine lv_iload_n hx hb dX0_settling_43 rfl (lv_at hl 2 rfl) ?_
            exact J _ ⟨b, rfl, Or.inr ⟨h4, rfl⟩⟩
          · refine lv_iload_n hx hb dX0_settling_39 rfl (lv_at hl 3 rfl) ?_
            refine lv_goto (tgt := 44) hx hb dX0_settling_40 (by decide) ?_
            exact J _ ⟨some d, rfl, Or.inl ⟨by rw [h4]; rfl, rfl⟩⟩
set_option maxRecDepth 100000 in
theorem kX0_X0_settling {p : Program} {l : Launch} {e : Env} {R : Room} {s : State} {m : MethodId} {args : Array Value} {below : List Frame} {meth : Method} {c : Code} {H : Heap} {locs : List Loc} {cells slots : Nat} {Q : State → Prop} {cc : ByteArray} {pc nL : Nat} {ls : Array Slot} {rest : List Value} {dC : Nat → ClassId} {dI : Nat → Nat → Nat} {cI cZ : ClassId} {q : Nat → Nat} {he : Nat} {ro : Option Nat} {fr : Option Nat} {ab : Option Nat} {fu : Option Nat} {us : Nat → Bool} {bi : Nat → Nat} {le : Nat → Nat} {pe : Nat → Option Nat} {ch : Nat → Option Nat} {su : Nat → Int} {se : Nat → Int} {ha : Nat → Option Nat} {sk : Nat → Nat} (S : CallFix p m c cc nL s args lw_all RX0) (hls : ls.size = nL) (hR : 2 + 1 ≤ R.frames ∧ 8 + (5 + 11) + 43 ≤ R.locals) (hrest : (rest.map fun v => v.category).sum ≤ 8) (hc : cells ≤ R.cells ∧ slots ≤ R.slots) (hK : va_K (dC, dI) vwCl (xT cI cZ) s) (hP : va_P (dC, dI) vwCl (xW cI cZ q he ro fr ab fu us bi le pe ch su se ha sk) H) (a : Nat) (D : Nat → Nat → Option Nat) (ga : a < 65536) (gT : TW us bi le ro ch) (gC : CT us bi le pe D) (gB : ∀ n r, ud us n → pe n = some r → r < 8) (hd : decode cc pc = .ok (.invokevirtual 61, 3)) (kk : ∀ r : Int32, (∃ x, r = oI x ∧ BO D us bi le pe a x 17) → W p l e R s m args below meth c H locs cells slots Q (F0 m (pc + 3) ls (.int r :: rest))) : W p l e R s m args below meth c H locs cells slots Q (F0 m pc ls (.int (nI a) :: .ref (q 0) :: rest)) := vp_callSi (va_Run.run (va_runV (As := [.int (nI a)]) (rest := rest) S (metX0_settling l dC dI cI cZ q he ro fr ab fu us bi le pe ch su se ha sk a D ga gT gC gB) (cwV 1 S.2.2.2.2 (lw_V q126 q128 qs7 q17 q129) rfl rfl rfl (by decide +kernel) hR) ⟨fun a U g mk q => by obtain ⟨q0, qP, qK⟩ := q; exact ⟨q0, qP, va_K.moved (u := U) (U := U.calling g mk a) (Vm.Alike.refl U.vm) qK⟩, va_recv hK hP (ci := 0) (q0 := 0) rfl rfl, fun U hU hW => ⟨rfl, by rw [hU]; exact hP, va_K.moved hW.alike hK⟩⟩ rfl rfl hls rfl (lv_room hrest) hd hc)) kk
set_option maxHeartbeats 4000000 in
set_option maxRecDepth 100000 in
theorem metX0_owner (l : Launch) (dC : Nat → ClassId) (dI : Nat → Nat → Nat) (cI cZ : ClassId) (q : Nat → Nat) (he : Nat) (ro : Option Nat) (fr : Option Nat) (ab : Option Nat) (fu : Option Nat) (us : Nat → Bool) (bi : Nat → Nat) (le : Nat → Nat) (pe : Nat → Option Nat) (ch : Nat → Option Nat) (su : Nat → Int) (se : Nat → Int) (ha : Nat → Option Nat) (sk : Nat → Nat) (x : Int32) (a : Nat) (D : Nat → Nat → Option Nat) (gx : x &&& nI 65535 = nI a) (ga : a < 65536) (gT : TW us bi le ro ch) (gC : CT us bi le pe D) (gB : ∀ n r, ud us n → pe n = some r → r < 8) : Met l yX0_owner (ws_ yX0_owner cX0_owner 3 (some .int)) ({ frames := 3, cells := 0, slots := 0, locals := 67 }) (va_Pc [.ref (q 0), .int x] (fun U => va_P (dC, dI) vwCl (xW cI cZ q he ro fr ab fu us bi le pe ch su se ha sk) U.heap ∧ va_K (dC, dI) vwCl (xT cI cZ) U)) (vp_Si (fun r => r = oI (ownD D a))) 0 0 (fun _ => False) := by
  refine Met.ofW (cc := cX0_owner) (maxL := 3) (ret := (some .int)) (by decide) rfl ?_
  intro p e s m args below meth c s₁ B hml hv
  obtain ⟨rfl, hP, hK⟩ := hv
  have hx := B.exec
  have hb := B.bytes
  have hr := B.returns
  have hts := atoms_spec (ws := (ws_ yX0_owner cX0_owner 3 (some .int))) B.pre
  have hts : ∀ w ∈ lw_all, w.before _ s = true := fun w h => hts w (List.mem_cons_of_mem _ h)
  have hown : s.vm.findClass RX0 = some m.cls := findClass_of_methodNamed B.named
  have hlocks := B.notSynchronized
  have hl := lv_entry ([.ref (q 0), .int x]) (n := 3) (Nat.le_of_ble_eq_true rfl)
  rw [lg_entry_eq]
  generalize (lg_sl ([.ref (q 0), .int x]) ++ List.replicate (3 - (lg_sl ([.ref (q 0), .int x])).length) Slot.unset).toArray = ls at hl ⊢
  have hl : lv_has ls 3 [(0, .ref (q 0)), (1, .int x)] := hl
  have S : CallFix p m c _ _ s _ lw_all _ := ⟨hx, hb, hml, hown, hts⟩
  refine lv_aload_n hx hb dX0_owner_0 rfl (lv_at hl 0 rfl) ?_
  refine lv_iload_n hx hb dX0_owner_1 rfl (lv_at hl 1 rfl) ?_
  refine lv_ldc (v := nI 65535) hx hb hown (hts _ q76) dX0_owner_2 ?_
  refine lv_iand hx hb dX0_owner_4 ?_
  refine r_top (y := nI a) gx ?_
  refine kX0_X0_settling S hl.1 ⟨Nat.le_of_ble_eq_true rfl, Nat.le_of_ble_eq_true rfl⟩ (Nat.le_of_ble_eq_true rfl) ⟨Nat.zero_le _, Nat.zero_le _⟩ hK hP a D ga gT gC gB dX0_owner_5 (fun r2 ⟨b, hr2, h2⟩ => ?_)
  subst hr2
  refine lv_istore_n (lv' := [(2, .int (oI b)), (0, .ref (q 0)), (1, .int x)]) hx hb dX0_owner_8 rfl hl (by decide) rfl (fun ls hl => ?_)
  refine lv_iload_n hx hb dX0_owner_9 rfl (lv_at hl 0 rfl) ?_
  refine r_ifgeO (x := b) (tgt := 17) hx hb (fun n hn => by have := (h2.1 n hn).1.1; omega) dX0_owner_10 (by decide) (fun d h => ?_) (fun h => ?_)
  · subst h
    have hl : lv_has ls 3 [(2, .int (nI d)), (0, .ref (q 0)), (1, .int x)] := hl
    have hu := (h2.1 d rfl).1
    have hd6 := hu.1
    refine lv_aload_n hx hb dX0_owner_17 rfl (lv_at hl 1 rfl) ?_
    refine gX0_peerOf hx hb hts hown hK hP dX0_owner_18 ?_
    refine lv_iload_n hx hb dX0_owner_21 rfl (lv_at hl 0 rfl) ?_
    refine rX0_peerOf (n := d) hx hb hK hP rfl (by omega) dX0_owner_22 ?_
    exact W.iret (v := oI (pe d)) hx hb hr (fun t ht hW => ⟨oI (pe d), rfl, by rw [(bo_own gT gC h2).1]; rfl, ht⟩) (fun _ h => absurd h List.not_mem_nil) dX0_owner_23
  · subst h
    refine lv_iconst (v := oI none) hx hb dX0_owner_13 (by decide) ?_
    refine lv_goto (tgt := 23) hx hb dX0_owner_14 (by decide) ?_
    exact W.iret (v := oI none) hx hb hr (fun t ht hW => ⟨oI none, rfl, by rw [(bo_own gT gC h2).1]; rfl, ht⟩) (fun _ h => absurd h List.not_mem_nil) dX0_owner_23
set_option maxRecDepth 100000 in
theorem kX0_X0_owner {p : Program} {l : Launch} {e : Env} {R : Room} {s : State} {m : MethodId} {args : Array Value} {below : List Frame} {meth : Method} {c : Code} {H : Heap} {locs : List Loc} {cells slots : Nat} {Q : State → Prop} {cc : ByteArray} {pc nL : Nat} {ls : Array Slot} {rest : List Value} {dC : Nat → ClassId} {dI : Nat → Nat → Nat} {cI cZ : ClassId} {q : Nat → Nat} {he : Nat} {ro : Option Nat} {fr : Option Nat} {ab : Option Nat} {fu : Option Nat} {us : Nat → Bool} {bi : Nat → Nat} {le : Nat → Nat} {pe : Nat → Option Nat} {ch : Nat → Option Nat} {su : Nat → Int} {se : Nat → Int} {ha : Nat → Option Nat} {sk : Nat → Nat} (S : CallFix p m c cc nL s args lw_all RX0) (hls : ls.size = nL) (hR : 3 + 1 ≤ R.frames ∧ 8 + (3 + 11) + 67 ≤ R.locals) (hrest : (rest.map fun v => v.category).sum ≤ 8) (hc : cells ≤ R.cells ∧ slots ≤ R.slots) (hK : va_K (dC, dI) vwCl (xT cI cZ) s) (hP : va_P (dC, dI) vwCl (xW cI cZ q he ro fr ab fu us bi le pe ch su se ha sk) H) (x : Int32) (a : Nat) (D : Nat → Nat → Option Nat) (gx : x &&& nI 65535 = nI a) (ga : a < 65536) (gT : TW us bi le ro ch) (gC : CT us bi le pe D) (gB : ∀ n r, ud us n → pe n = some r → r < 8) (hd : decode cc pc = .ok (.invokevirtual 69, 3)) (kk : W p l e R s m args below meth c H locs cells slots Q (F0 m (pc + 3) ls (.int (oI (ownD D a)) :: rest))) : W p l e R s m args below meth c H locs cells slots Q (F0 m pc ls (.int x :: .ref (q 0) :: rest)) := vp_callSi (va_Run.run (va_runV (As := [.int x]) (rest := rest) S (metX0_owner l dC dI cI cZ q he ro fr ab fu us bi le pe ch su se ha sk x a D gx ga gT gC gB) (cwV 1 S.2.2.2.2 (lw_V q151 q123 q124 q17 q125) rfl rfl rfl (by decide +kernel) hR) ⟨fun a U g mk q => by obtain ⟨q0, qP, qK⟩ := q; exact ⟨q0, qP, va_K.moved (u := U) (U := U.calling g mk a) (Vm.Alike.refl U.vm) qK⟩, va_recv hK hP (ci := 0) (q0 := 0) rfl rfl, fun U hU hW => ⟨rfl, by rw [hU]; exact hP, va_K.moved hW.alike hK⟩⟩ rfl rfl hls rfl (lv_room hrest) hd hc)) (fun r hr => by rw [hr]; exact kk)
set_option maxHeartbeats 4000000 in
set_option maxRecDepth 100000 in
theorem metX0_length (l : Launch) (dC : Nat → ClassId) (dI : Nat → Nat → Nat) (cI cZ : ClassId) (q : Nat → Nat) (he : Nat) (ro : Option Nat) (fr : Option Nat) (ab : Option Nat) (fu : Option Nat) (us : Nat → Bool) (bi : Nat → Nat) (le : Nat → Nat) (pe : Nat → Option Nat) (ch : Nat → Option Nat) (su : Nat → Int) (se : Nat → Int) (ha : Nat → Option Nat) (sk : Nat → Nat) (x : Int32) (a : Nat) (D : Nat → Nat → Option Nat) (gx : x &&& nI 65535 = nI a) (ga : a < 65536) (gT : TW us bi le ro ch) (gC : CT us bi le pe D) (gB : ∀ n r, ud us n → pe n = some r → r < 8) : Met l yX0_length (ws_ yX0_length cX0_length 3 (some .int)) ({ frames := 3, cells := 0, slots := 0, locals := 67 }) (va_Pc [.ref (q 0), .int x] (fun U => va_P (dC, dI) vwCl (xW cI cZ q he ro fr ab fu us bi le pe ch su se ha sk) U.heap ∧ va_K (dC, dI) vwCl (xT cI cZ) U)) (vp_Si (fun r => r = oI (look D a 17))) 0 0 (fun _ => False) := by
  refine Met.ofW (cc := cX0_length) (maxL := 3) (ret := (some .int)) (by decide) rfl ?_
  intro p e s m args below meth c s₁ B hml hv
  obtain ⟨rfl, hP, hK⟩ := hv
  have hx := B.exec
  have hb := B.bytes
  have hr := B.returns
  have hts := atoms_spec (ws := (ws_ yX0_length cX0_length 3 (some .int))) B.pre
  have hts : ∀ w ∈ lw_all, w.before _ s = true := fun w h => hts w (List.mem_cons_of_mem _ h)
  have hown : s.vm.findClass RX0 = some m.cls := findClass_of_methodNamed B.named
  have hlocks := B.notSynchronized
  have hl := lv_entry ([.ref (q 0), .int x]) (n := 3) (Nat.le_of_ble_eq_true rfl)
  rw [lg_entry_eq]
  generalize (lg_sl ([.ref (q 0), .int x]) ++ List.replicate (3 - (lg_sl ([.ref (q 0), .int x])).length) Slot.unset).toArray = ls at hl ⊢
  have hl : lv_has ls 3 [(0, .ref (q 0)), (1, .int x)] := hl
  have S : CallFix p m c _ _ s _ lw_all _ := ⟨hx, hb, hml, hown, hts⟩
  refine lv_aload_n hx hb dX0_length_0 rfl (lv_at hl 0 rfl) ?_
  refine lv_iload_n hx hb dX0_length_1 rfl (lv_at hl 1 rfl) ?_
  refine lv_ldc (v := nI 65535) hx hb hown (hts _ q76) dX0_length_2 ?_
  refine lv_iand hx hb dX0_length_4 ?_
  refine r_top (y := nI a) gx ?_
  refine kX0_X0_settling S hl.1 ⟨Nat.le_of_ble_eq_true rfl, Nat.le_of_ble_eq_true rfl⟩ (Nat.le_of_ble_eq_true rfl) ⟨Nat.zero_le _, Nat.zero_le _⟩ hK hP a D ga gT gC gB dX0_length_5 (fun r2 ⟨b, hr2, h2⟩ => ?_)
  subst hr2
  refine lv_istore_n (lv' := [(2, .int (oI b)), (0, .ref (q 0)), (1, .int x)]) hx hb dX0_length_8 rfl hl (by decide) rfl (fun ls hl => ?_)
  refine lv_iload_n hx hb dX0_length_9 rfl (lv_at hl 0 rfl) ?_
  refine r_ifgeO (x := b) (tgt := 17) hx hb (fun n hn => by have := (h2.1 n hn).1.1; omega) dX0_length_10 (by decide) (fun d h => ?_) (fun h => ?_)
  · subst h
    have hl : lv_has ls 3 [(2, .int (nI d)), (0, .ref (q 0)), (1, .int x)] := hl
    have hu := (h2.1 d rfl).1
    have hd6 := hu.1
    refine lv_aload_n hx hb dX0_length_17 rfl (lv_at hl 1 rfl) ?_
    refine gX0_length hx hb hts hown hK hP dX0_length_18 ?_
    refine lv_iload_n hx hb dX0_length_21 rfl (lv_at hl 0 rfl) ?_
    refine rX0_length (n := d) hx hb hK hP rfl (by omega) dX0_length_22 ?_
    exact W.iret (v := nI (le d)) hx hb hr (fun t ht hW => ⟨nI (le d), rfl, by rw [(bo_own gT gC h2).2]; rfl, ht⟩) (fun _ h => absurd h List.not_mem_nil) dX0_length_23
  · subst h
    refine lv_iconst (v := oI none) hx hb dX0_length_13 (by decide) ?_
    refine lv_goto (tgt := 23) hx hb dX0_length_14 (by decide) ?_
    exact W.iret (v := oI none) hx hb hr (fun t ht hW => ⟨oI none, rfl, by rw [(bo_own gT gC h2).2]; rfl, ht⟩) (fun _ h => absurd h List.not_mem_nil) dX0_length_23
set_option maxHeartbeats 4000000 in
set_option maxRecDepth 100000 in
theorem metX0_nextEdge (l : Launch) (dC : Nat → ClassId) (dI : Nat → Nat → Nat) (cI cZ : ClassId) (q : Nat → Nat) (he : Nat) (ro : Option Nat) (fr : Option Nat) (ab : Option Nat) (fu : Option Nat) (us : Nat → Bool) (bi : Nat → Nat) (le : Nat → Nat) (pe : Nat → Option Nat) (ch : Nat → Option Nat) (su : Nat → Int) (se : Nat → Int) (ha : Nat → Option Nat) (sk : Nat → Nat) (a : Nat) (ga : a < 65536) (gT : TW us bi le ro ch) : Met l yX0_nextEdge (ws_ yX0_nextEdge cX0_nextEdge 5 (some .int)) ({ frames := 0, cells := 0, slots := 0, locals := 0 }) (va_Pc [.ref (q 0), .int (nI a)] (fun U => va_P (dC, dI) vwCl (xW cI cZ q he ro fr ab fu us bi le pe ch su se ha sk) U.heap ∧ va_K (dC, dI) vwCl (xT cI cZ) U)) (vp_Si (fun r => ∃ g, r = nI g ∧ NEg (eds us bi le 64) a g)) 0 0 (fun _ => False) := by
  refine Met.ofW (cc := cX0_nextEdge) (maxL := 5) (ret := (some .int)) (by decide) rfl ?_
  intro p e s m args below meth c s₁ B hml hv
  obtain ⟨rfl, hP, hK⟩ := hv
  have hx := B.exec
  have hb := B.bytes
  have hr := B.returns
  have hts := atoms_spec (ws := (ws_ yX0_nextEdge cX0_nextEdge 5 (some .int))) B.pre
  have hts : ∀ w ∈ lw_all, w.before _ s = true := fun w h => hts w (List.mem_cons_of_mem _ h)
  have hown : s.vm.findClass RX0 = some m.cls := findClass_of_methodNamed B.named
  have hlocks := B.notSynchronized
  have hl := lv_entry ([.ref (q 0), .int (nI a)]) (n := 5) (Nat.le_of_ble_eq_true rfl)
  rw [lg_entry_eq]
  generalize (lg_sl ([.ref (q 0), .int (nI a)]) ++ List.replicate (5 - (lg_sl ([.ref (q 0), .int (nI a)])).length) Slot.unset).toArray = ls at hl ⊢
  have hl : lv_has ls 5 [(0, .ref (q 0)), (1, .int (nI a))] := hl
  have S : CallFix p m c _ _ s _ lw_all _ := ⟨hx, hb, hml, hown, hts⟩
  refine lv_ldc (v := nI 65536) hx hb hown (hts _ q142) dX0_nextEdge_0 ?_
  refine lv_istore_n (lv' := [(2, .int (nI 65536)), (0, .ref (q 0)), (1, .int (nI a))]) hx hb dX0_nextEdge_2 rfl hl (by decide) rfl (fun ls hl => ?_)
  refine lv_iconst (v := nI 0) hx hb dX0_nextEdge_3 (by decide) ?_
  refine lv_istore_n (lv' := [(3, .int (nI 0)), (2, .int (nI 65536)), (0, .ref (q 0)), (1, .int (nI a))]) hx hb dX0_nextEdge_4 rfl hl (by decide) rfl (fun ls hl => ?_)
  refine r_loop (σ := Nat × Nat) (nL := 5) (fun | (g, k) => [(0, .ref (q 0)), (1, .int (nI a)), (2, .int (nI g)), (3, .int (nI k))]) (fun | (g, k) => k ≤ 64 ∧ NEg (eds us bi le k) a g) (fun | (g, k) => 64 - k) (fun x ls hI hl ih => ?_) (65536, 0) ⟨by decide, neg_cong (neg_0 ga) (fun x => ⟨fun h => h.elim, fun ⟨n, h1, _⟩ => absurd h1 (Nat.not_lt_zero n)⟩)⟩ (lv_sub hl [2, 3, 1, 0] rfl)
  obtain ⟨g, k⟩ := x
  have hl : lv_has ls 5 [(0, .ref (q 0)), (1, .int (nI a)), (2, .int (nI g)), (3, .int (nI k))] := hl
  have hI : k ≤ 64 ∧ NEg (eds us bi le k) a g := hI
  obtain ⟨h1, h2⟩ := hI
  have hg6 := h2.2.1
  refine lv_iload_n hx hb dX0_nextEdge_5 rfl (lv_at hl 3 rfl) ?_
  refine lv_bipush (v := nI 64) hx hb dX0_nextEdge_6 (by decide) ?_
  refine r_ge (a := k) (b := 64) (tgt := 94) hx hb (by omega) (by omega) dX0_nextEdge_8 (by decide) (fun h => ?_) (fun h => ?_)
  · have e : k = 64 := by omega
    subst e
    refine lv_iload_n hx hb dX0_nextEdge_94 rfl (lv_at hl 2 rfl) ?_
    exact W.iret (v := nI g) hx hb hr (fun t ht hW => ⟨nI g, rfl, ⟨g, rfl, h2⟩, ht⟩) (fun _ h => absurd h List.not_mem_nil) dX0_nextEdge_95
  · refine lv_aload_n hx hb dX0_nextEdge_11 rfl (lv_at hl 0 rfl) ?_
    refine gX0_used hx hb hts hown hK hP dX0_nextEdge_12 ?_
    refine lv_iload_n hx hb dX0_nextEdge_15 rfl (lv_at hl 3 rfl) ?_
    refine rX0_used (n := k) hx hb hK hP rfl (by omega) dX0_nextEdge_16 ?_
    refine r_ifeqB (b := us k) (tgt := 88) hx hb dX0_nextEdge_17 (by decide) (fun hu => ?_) (fun hu => ?_)
    · refine lv_iinc (v := nI (k + 1)) (lv' := [(3, .int (nI (k + 1))), (0, .ref (q 0)), (1, .int (nI a)), (2, .int (nI g))]) hx hb dX0_nextEdge_88 hl (k := 3) rfl (nI_1 k) (by decide) rfl (fun ls hl => ?_)
      refine lv_goto (tgt := 5) hx hb dX0_nextEdge_91 (by decide) ?_
      exact ih (g, k + 1) ls ⟨by omega, neg_cong h2 (eds_no hu)⟩ (by show 64 - (k + 1) < 64 - k; omega) (lv_sub hl [1, 2, 3, 0] rfl)
    · obtain ⟨g1, g2, g3⟩ := gT.1 k ⟨h, hu⟩
      have g4 := sz_le (le k)
      refine lv_aload_n hx hb dX0_nextEdge_20 rfl (lv_at hl 0 rfl) ?_
      refine gX0_bits hx hb hts hown hK hP dX0_nextEdge_21 ?_
      refine lv_iload_n hx hb dX0_nextEdge_24 rfl (lv_at hl 3 rfl) ?_
      refine rX0_bits (n := k) hx hb hK hP rfl (by omega) dX0_nextEdge_25 ?_
      refine lv_ldc (v := nI 65536) hx hb hown (hts _ q142) dX0_nextEdge_26 ?_
      refine lv_aload_n hx hb dX0_nextEdge_28 rfl (lv_at hl 0 rfl) ?_
      refine gX0_length hx hb hts hown hK hP dX0_nextEdge_29 ?_
      refine lv_iload_n hx hb dX0_nextEdge_32 rfl (lv_at hl 3 rfl) ?_
      refine rX0_length (n := k) hx hb hK hP rfl (by omega) dX0_nextEdge_33 ?_
      refine lv_ishr hx hb dX0_nextEdge_34 ?_
      refine r_top (y := nI (2 ^ (16 - le k))) (shr_I g1) ?_
      refine r_iadd (a := bi k) (b := 2 ^ (16 - le k)) hx hb dX0_nextEdge_35 ?_
      refine lv_istore (lv' := [(4, .int (nI ((bi k) + (2 ^ (16 - le k))))), (0, .ref (q 0)), (1, .int (nI a)), (2, .int (nI g)), (3, .int (nI k))]) hx hb dX0_nextEdge_36 hl (by decide) rfl (fun ls hl => ?_)
      refine r_join (rest := []) 68 (fun v => ∃ g5, v = nI g5 ∧ NEg (fun y => eds us bi le k y ∨ y = bi k) a g5) (fun v hv => ?_) (fun J => ?_)
      · obtain ⟨g5, rfl, h5⟩ := hv
        have h6 := h5.2.1
        refine lv_istore_n (lv' := [(2, .int (nI g5)), (4, .int (nI ((bi k) + (2 ^ (16 - le k))))), (0, .ref (q 0)), (1, .int (nI a)), (3, .int (nI k))]) hx hb dX0_nextEdge_68 rfl hl (by decide) rfl (fun ls hl => ?_)
        refine r_join (rest := []) 87 (fun v => ∃ g7, v = nI g7 ∧ NEg (fun y => (eds us bi le k y ∨ y = bi k) ∨ y = bi k + 2 ^ (16 - le k)) a g7) (fun v hv => ?_) (fun J => ?_)
        · obtain ⟨g7, rfl, h7⟩ := hv
          refine lv_istore_n (lv' := [(2, .int (nI g7)), (4, .int (nI ((bi k) + (2 ^ (16 - le k))))), (0, .ref (q 0)), (1, .int (nI a)), (3, .int (nI k))]) hx hb dX0_nextEdge_87 rfl hl (by decide) rfl (fun ls hl => ?_)
          refine lv_iinc (v := nI (k + 1)) (lv' := [(3, .int (nI (k + 1))), (2, .int (nI g7)), (4, .int (nI ((bi k) + (2 ^ (16 - le k))))), (0, .ref (q 0)), (1, .int (nI a))]) hx hb dX0_nextEdge_88 hl (k := 4) rfl (nI_1 k) (by decide) rfl (fun ls hl => ?_)
          refine lv_goto (tgt := 5) hx hb dX0_nextEdge_91 (by decide) ?_
          exact ih (g7, k + 1) ls ⟨by omega, neg_cong h7 (eds_yes hu)⟩ (by show 64 - (k + 1) < 64 - k; omega) (lv_sub hl [3, 4, 1, 0] rfl)
        · refine lv_iload hx hb dX0_nextEdge_69 (lv_at hl 1 rfl) ?_
          refine lv_iload_n hx hb dX0_nextEdge_71 rfl (lv_at hl 3 rfl) ?_
          refine r_le (a := (bi k) + (2 ^ (16 - le k))) (b := a) (tgt := 86) hx hb (by omega) (by omega) dX0_nextEdge_72 (by decide) (fun h8 => ?_) (fun h8 => ?_)
          · refine lv_iload_n hx hb dX0_nextEdge_86 rfl (lv_at hl 0 rfl) ?_
            exact J _ ⟨g5, rfl, neg_out h5 (by omega)⟩
          · refine lv_iload hx hb dX0_nextEdge_75 (lv_at hl 1 rfl) ?_
            refine lv_iload_n hx hb dX0_nextEdge_77 rfl (lv_at hl 0 rfl) ?_
            refine r_ge (a := (bi k) + (2 ^ (16 - le k))) (b := g5) (tgt := 86) hx hb (by omega) (by omega) dX0_nextEdge_78 (by decide) (fun h9 => ?_) (fun h9 => ?_)
            · refine lv_iload_n hx hb dX0_nextEdge_86 rfl (lv_at hl 0 rfl) ?_
              exact J _ ⟨g5, rfl, neg_out h5 (by omega)⟩
            · refine lv_iload hx hb dX0_nextEdge_81 (lv_at hl 1 rfl) ?_
              refine lv_goto (tgt := 87) hx hb dX0_nextEdge_83 (by decide) ?_
              exact J _ ⟨_, rfl, neg_in h5 (by omega) (by omega)⟩
      · refine lv_aload_n hx hb dX0_nextEdge_38 rfl (lv_at hl 1 rfl) ?_
        refine gX0_bits hx hb hts hown hK hP dX0_nextEdge_39 ?_
        refine lv_iload_n hx hb dX0_nextEdge_42 rfl (lv_at hl 4 rfl) ?_
        refine rX0_bits (n := k) hx hb hK hP rfl (by omega) dX0_nextEdge_43 ?_
        refine lv_iload_n hx hb dX0_nextEdge_44 rfl (lv_at hl 2 rfl) ?_
        refine r_le (a := bi k) (b := a) (tgt := 67) hx hb (by omega) (by omega) dX0_nextEdge_45 (by decide) (fun h8 => ?_) (fun h8 => ?_)
        · refine lv_iload_n hx hb dX0_nextEdge_67 rfl (lv_at hl 3 rfl) ?_
          exact J _ ⟨g, rfl, neg_out h2 (by omega)⟩
        · refine lv_aload_n hx hb dX0_nextEdge_48 rfl (lv_at hl 1 rfl) ?_
          refine gX0_bits hx hb hts hown hK hP dX0_nextEdge_49 ?_
          refine lv_iload_n hx hb dX0_nextEdge_52 rfl (lv_at hl 4 rfl) ?_
          refine rX0_bits (n := k) hx hb hK hP rfl (by omega) dX0_nextEdge_53 ?_
          refine lv_iload_n hx hb dX0_nextEdge_54 rfl (lv_at hl 3 rfl) ?_
          refine r_ge (a := bi k) (b := g) (tgt := 67) hx hb (by omega) (by omega) dX0_nextEdge_55 (by decide) (fun h9 => ?_) (fun h9 => ?_)
          · refine lv_iload_n hx hb dX0_nextEdge_67 rfl (lv_at hl 3 rfl) ?_
            exact J _ ⟨g, rfl, neg_out h2 (by omega)⟩
          · refine lv_aload_n hx hb dX0_nextEdge_58 rfl (lv_at hl 1 rfl) ?_
            refine gX0_bits hx hb hts hown hK hP dX0_nextEdge_59 ?_
            refine lv_iload_n hx hb dX0_nextEdge_62 rfl (lv_at hl 4 rfl) ?_
            refine rX0_bits (n := k) hx hb hK hP rfl (by omega) dX0_nextEdge_63 ?_
            refine lv_goto (tgt := 68) hx hb dX0_nextEdge_64 (by decide) ?_
            exact J _ ⟨_, rfl, neg_in h2 (by omega) (by omega)⟩
set_option maxRecDepth 100000 in
theorem kX0_X0_nextEdge {p : Program} {l : Launch} {e : Env} {R : Room} {s : State} {m : MethodId} {args : Array Value} {below : List Frame} {meth : Method} {c : Code} {H : Heap} {locs : List Loc} {cells slots : Nat} {Q : State → Prop} {cc : ByteArray} {pc nL : Nat} {ls : Array Slot} {rest : List Value} {dC : Nat → ClassId} {dI : Nat → Nat → Nat} {cI cZ : ClassId} {q : Nat → Nat} {he : Nat} {ro : Option Nat} {fr : Option Nat} {ab : Option Nat} {fu : Option Nat} {us : Nat → Bool} {bi : Nat → Nat} {le : Nat → Nat} {pe : Nat → Option Nat} {ch : Nat → Option Nat} {su : Nat → Int} {se : Nat → Int} {ha : Nat → Option Nat} {sk : Nat → Nat} (S : CallFix p m c cc nL s args lw_all RX0) (hls : ls.size = nL) (hR : 0 + 1 ≤ R.frames ∧ 8 + (5 + 11) + 0 ≤ R.locals) (hrest : (rest.map fun v => v.category).sum ≤ 8) (hc : cells ≤ R.cells ∧ slots ≤ R.slots) (hK : va_K (dC, dI) vwCl (xT cI cZ) s) (hP : va_P (dC, dI) vwCl (xW cI cZ q he ro fr ab fu us bi le pe ch su se ha sk) H) (a : Nat) (ga : a < 65536) (gT : TW us bi le ro ch) (hd : decode cc pc = .ok (.invokevirtual 72, 3)) (kk : ∀ r : Int32, (∃ g, r = nI g ∧ NEg (eds us bi le 64) a g) → W p l e R s m args below meth c H locs cells slots Q (F0 m (pc + 3) ls (.int r :: rest))) : W p l e R s m args below meth c H locs cells slots Q (F0 m pc ls (.int (nI a) :: .ref (q 0) :: rest)) := vp_callSi (va_Run.run (va_runV (As := [.int (nI a)]) (rest := rest) S (metX0_nextEdge l dC dI cI cZ q he ro fr ab fu us bi le pe ch su se ha sk a ga gT) (cwV 1 S.2.2.2.2 (lw_V q152 q154 qs10 q17 q155) rfl rfl rfl (by decide +kernel) hR) ⟨fun a U g mk q => by obtain ⟨q0, qP, qK⟩ := q; exact ⟨q0, qP, va_K.moved (u := U) (U := U.calling g mk a) (Vm.Alike.refl U.vm) qK⟩, va_recv hK hP (ci := 0) (q0 := 0) rfl rfl, fun U hU hW => ⟨rfl, by rw [hU]; exact hP, va_K.moved hW.alike hK⟩⟩ rfl rfl hls rfl (lv_room hrest) hd hc)) kk
set_option maxHeartbeats 4000000 in
set_option maxRecDepth 100000 in
theorem metX0_next (l : Launch) (dC : Nat → ClassId) (dI : Nat → Nat → Nat) (cI cZ : ClassId) (q : Nat → Nat) (he : Nat) (ro : Option Nat) (fr : Option Nat) (ab : Option Nat) (fu : Option Nat) (us : Nat → Bool) (bi : Nat → Nat) (le : Nat → Nat) (pe : Nat → Option Nat) (ch : Nat → Option Nat) (su : Nat → Int) (se : Nat → Int) (ha : Nat → Option Nat) (sk : Nat → Nat) (x1 x2 : Int32) (D : Nat → Nat → Option Nat) (gT : TW us bi le ro ch) (gC : CT us bi le pe D) (gB : ∀ n r, ud us n → pe n = some r → r < 8) : Met l yX0_next (ws_ yX0_next cX0_next 6 (some .int)) ({ frames := 4, cells := 0, slots := 0, locals := 89 }) (va_Pc [.ref (q 0), .int x1, .int x2] (fun U => va_P (dC, dI) vwCl (xW cI cZ q he ro fr ab fu us bi le pe ch su se ha sk) U.heap ∧ va_K (dC, dI) vwCl (xT cI cZ) U)) (vp_Si (fun r => NXS D x1 x2 r)) 0 0 (fun _ => False) := by
  refine Met.ofW (cc := cX0_next) (maxL := 6) (ret := (some .int)) (by decide) rfl ?_
  intro p e s m args below meth c s₁ B hml hv
  obtain ⟨rfl, hP, hK⟩ := hv
  have hx := B.exec
  have hb := B.bytes
  have hr := B.returns
  have hts := atoms_spec (ws := (ws_ yX0_next cX0_next 6 (some .int))) B.pre
  have hts : ∀ w ∈ lw_all, w.before _ s = true := fun w h => hts w (List.mem_cons_of_mem _ h)
  have hown : s.vm.findClass RX0 = some m.cls := findClass_of_methodNamed B.named
  have hlocks := B.notSynchronized
  have hl := lv_entry ([.ref (q 0), .int x1, .int x2]) (n := 6) (Nat.le_of_ble_eq_true rfl)
  rw [lg_entry_eq]
  generalize (lg_sl ([.ref (q 0), .int x1, .int x2]) ++ List.replicate (6 - (lg_sl ([.ref (q 0), .int x1, .int x2])).length) Slot.unset).toArray = ls at hl ⊢
  have hl : lv_has ls 6 [(0, .ref (q 0)), (1, .int x1), (2, .int x2)] := hl
  have S : CallFix p m c _ _ s _ lw_all _ := ⟨hx, hb, hml, hown, hts⟩
  refine lv_iload_n hx hb dX0_next_0 rfl (lv_at hl 1 rfl) ?_
  refine lv_iconst (v := oI none) hx hb dX0_next_1 (by decide) ?_
  refine lv_icmp_lt (tgt := 11) hx hb dX0_next_2 (by decide) (fun h => ?_) (fun h => ?_)
  · refine lv_bipush (v := (-2)) hx hb dX0_next_11 (by decide) ?_
    exact W.iret (v := (-2)) hx hb hr (fun t ht hW => ⟨(-2), rfl, ⟨fun _ => rfl, fun y hy hyb => absurd h (by rw [hy]; exact (rng_in hyb).1)⟩, ht⟩) (fun _ h => absurd h List.not_mem_nil) dX0_next_13
  · refine lv_iload_n hx hb dX0_next_5 rfl (lv_at hl 1 rfl) ?_
    refine lv_bipush (v := nI 7) hx hb dX0_next_6 (by decide) ?_
    refine lv_icmp_le (tgt := 14) hx hb dX0_next_8 (by decide) (fun h2 => ?_) (fun h2 => ?_)
    · obtain ⟨y, hy, hyb⟩ := rng_o h h2
      subst hy
      have hl : lv_has ls 6 [(0, .ref (q 0)), (1, .int (oI y)), (2, .int x2)] := hl
      refine lv_iload_n hx hb dX0_next_14 rfl (lv_at hl 2 rfl) ?_
      refine r_join (rest := []) 23 (fun v => v = nI x2.toNatClampNeg) (fun v hv => ?_) (fun J => ?_)
      · subst hv
        have hf := clamp_lt x2
        generalize hfe : x2.toNatClampNeg = f at hf ⊢
        refine lv_istore_n (lv' := [(3, .int (nI f)), (0, .ref (q 0)), (1, .int (oI y)), (2, .int x2)]) hx hb dX0_next_23 rfl hl (by decide) rfl (fun ls hl => ?_)
        refine lv_iconst (v := nI 0) hx hb dX0_next_24 (by decide) ?_
        refine lv_istore (lv' := [(4, .int (nI 0)), (3, .int (nI f)), (0, .ref (q 0)), (1, .int (oI y)), (2, .int x2)]) hx hb dX0_next_25 hl (by decide) rfl (fun ls hl => ?_)
        refine r_loop (σ := Nat × Nat) (nL := 6) (fun | (at1, t) => [(0, .ref (q 0)), (1, .int (oI y)), (2, .int x2), (3, .int (nI at1)), (4, .int (nI t))]) (fun | (at1, t) => f ≤ at1 ∧ at1 < 2 ^ 31 ∧ (∀ b, f ≤ b → b < at1 → b < 65536 → ownD D b ≠ y) ∧ (at1 < 65536 → t + ec us bi le at1 ≤ 128) ∧ t ≤ 130) (fun | (at1, t) => 130 - t) (fun x ls hI hl ih => ?_) (f, 0) ⟨Nat.le_refl _, hf, fun b h1 h2 => absurd h1 (by omega), fun _ => by have := ec_le (us := us) (bi := bi) (le := le) f; omega, by decide⟩ (lv_sub hl [2, 3, 4, 1, 0] rfl)
        obtain ⟨at1, t⟩ := x
        have hl : lv_has ls 6 [(0, .ref (q 0)), (1, .int (oI y)), (2, .int x2), (3, .int (nI at1)), (4, .int (nI t))] := hl
        have hI : f ≤ at1 ∧ at1 < 2 ^ 31 ∧ (∀ b, f ≤ b → b < at1 → b < 65536 → ownD D b ≠ y) ∧ (at1 < 65536 → t + ec us bi le at1 ≤ 128) ∧ t ≤ 130 := hI
        obtain ⟨i1, i2, i3, i4, i5⟩ := hI
        refine lv_iload hx hb dX0_next_27 (lv_at hl 4 rfl) ?_
        refine lv_sipush (v := nI 130) hx hb dX0_next_29 (by decide) ?_
        refine r_ge (a := t) (b := 130) (tgt := 68) hx hb (by omega) (by omega) dX0_next_32 (by decide) (fun h3 => ?_) (fun h3 => ?_)
        · have hge : 65536 ≤ at1 := by
            rcases Nat.lt_or_ge at1 65536 with z | z
            · have := i4 z; omega
            · exact z
          refine lv_iconst (v := oI none) hx hb dX0_next_68 (by decide) ?_
          exact W.iret (v := oI none) hx hb hr (fun t ht hW => ⟨oI none, rfl, ⟨fun z => absurd z (rng_not hyb), fun y2 hy2 hyb2 => ⟨none, rfl, by rw [← (oI_inj (rng_b hyb) (rng_b hyb2)).mp hy2, hfe]; exact ⟨fun w hw => (by cases hw), fun _ b hb1 hb2 => i3 b hb1 (by omega) hb2⟩⟩⟩, ht⟩) (fun _ h => absurd h List.not_mem_nil) dX0_next_69
        · refine lv_iload_n hx hb dX0_next_35 rfl (lv_at hl 3 rfl) ?_
          refine lv_ldc (v := nI 65536) hx hb hown (hts _ q142) dX0_next_36 ?_
          refine r_ge (a := at1) (b := 65536) (tgt := 68) hx hb (by omega) (by omega) dX0_next_38 (by decide) (fun h4 => ?_) (fun h4 => ?_)
          · refine lv_iconst (v := oI none) hx hb dX0_next_68 (by decide) ?_
            exact W.iret (v := oI none) hx hb hr (fun t ht hW => ⟨oI none, rfl, ⟨fun z => absurd z (rng_not hyb), fun y2 hy2 hyb2 => ⟨none, rfl, by rw [← (oI_inj (rng_b hyb) (rng_b hyb2)).mp hy2, hfe]; exact ⟨fun w hw => (by cases hw), fun _ b hb1 hb2 => i3 b hb1 (by omega) hb2⟩⟩⟩, ht⟩) (fun _ h => absurd h List.not_mem_nil) dX0_next_69
          · refine lv_aload_n hx hb dX0_next_41 rfl (lv_at hl 0 rfl) ?_
            refine lv_iload_n hx hb dX0_next_42 rfl (lv_at hl 3 rfl) ?_
            refine kX0_X0_owner S hl.1 ⟨Nat.le_of_ble_eq_true rfl, Nat.le_of_ble_eq_true rfl⟩ (Nat.le_of_ble_eq_true rfl) ⟨Nat.zero_le _, Nat.zero_le _⟩ hK hP (nI at1) at1 D (and16_n h4) h4 gT gC gB dX0_next_43 ?_
            refine lv_istore (lv' := [(5, .int (oI (ownD D at1))), (0, .ref (q 0)), (1, .int (oI y)), (2, .int x2), (3, .int (nI at1)), (4, .int (nI t))]) hx hb dX0_next_46 hl (by decide) rfl (fun ls hl => ?_)
            refine lv_iload hx hb dX0_next_48 (lv_at hl 0 rfl) ?_
            refine lv_iload_n hx hb dX0_next_50 rfl (lv_at hl 2 rfl) ?_
            refine r_neo (x := ownD D at1) (y := y) (tgt := 56) hx hb (fun n hn => by have := own_lt gC gB hn; omega) (rng_b hyb) dX0_next_51 (by decide) (fun h5 => ?_) (fun h5 => ?_)
            · refine lv_aload_n hx hb dX0_next_56 rfl (lv_at hl 1 rfl) ?_
              refine lv_iload_n hx hb dX0_next_57 rfl (lv_at hl 4 rfl) ?_
              refine kX0_X0_nextEdge S hl.1 ⟨Nat.le_of_ble_eq_true rfl, Nat.le_of_ble_eq_true rfl⟩ (Nat.le_of_ble_eq_true rfl) ⟨Nat.zero_le _, Nat.zero_le _⟩ hK hP at1 h4 gT dX0_next_58 (fun r2 ⟨g2, hr2, h6⟩ => ?_)
              subst hr2
              have h7 := h6.1
              have h8 := h6.2.1
              refine lv_istore_n (lv' := [(3, .int (nI g2)), (5, .int (oI (ownD D at1))), (0, .ref (q 0)), (1, .int (oI y)), (2, .int x2), (4, .int (nI t))]) hx hb dX0_next_61 rfl hl (by decide) rfl (fun ls hl => ?_)
              refine lv_iinc (v := nI (t + 1)) (lv' := [(4, .int (nI (t + 1))), (3, .int (nI g2)), (5, .int (oI (ownD D at1))), (0, .ref (q 0)), (1, .int (oI y)), (2, .int x2)]) hx hb dX0_next_62 hl (k := 5) rfl (nI_1 t) (by decide) rfl (fun ls hl => ?_)
              refine lv_goto (tgt := 27) hx hb dX0_next_65 (by decide) ?_
              exact ih (g2, t + 1) ls ⟨by omega, by omega, fun b hb1 hb2 hb3 => by
                rcases Nat.lt_or_ge b at1 with z | z
                · exact i3 b hb1 z hb3
                · have z2 := own_flat (eds_D gT gC h6) (b - at1) (by omega)
                  rw [show at1 + (b - at1) = b by omega] at z2
                  rw [z2]; exact h5, fun z => by have z2 := ec_lt h6 z; have z3 := i4 h4; omega, by have z3 := i4 h4; omega⟩ (by show 130 - (t + 1) < 130 - t; omega) (lv_sub hl [3, 4, 5, 1, 0] rfl)
            · refine lv_iload_n hx hb dX0_next_54 rfl (lv_at hl 4 rfl) ?_
              exact W.iret (v := nI at1) hx hb hr (fun t ht hW => ⟨nI at1, rfl, ⟨fun z => absurd z (rng_not hyb), fun y2 hy2 hyb2 => ⟨some at1, rfl, by rw [← (oI_inj (rng_b hyb) (rng_b hyb2)).mp hy2, hfe]; exact ⟨fun w hw => (by cases hw; exact ⟨i1, h4, h5, fun b hb1 hb2 => i3 b hb1 hb2 (by omega)⟩), fun hw => (by cases hw)⟩⟩⟩, ht⟩) (fun _ h => absurd h List.not_mem_nil) dX0_next_55
      · refine lv_if_ge (tgt := 22) hx hb dX0_next_15 (by decide) (fun h3 => ?_) (fun h3 => ?_)
        · refine lv_iload_n hx hb dX0_next_22 rfl (lv_at hl 2 rfl) ?_
          exact J _ (clamp_pos h3)
        · refine lv_iconst (v := nI 0) hx hb dX0_next_18 (by decide) ?_
          refine lv_goto (tgt := 23) hx hb dX0_next_19 (by decide) ?_
          exact J _ (clamp_neg h3)
    · refine lv_bipush (v := (-2)) hx hb dX0_next_11 (by decide) ?_
      exact W.iret (v := (-2)) hx hb hr (fun t ht hW => ⟨(-2), rfl, ⟨fun _ => rfl, fun y hy hyb => absurd (by rw [hy]; exact (rng_in hyb).2) h2⟩, ht⟩) (fun _ h => absurd h List.not_mem_nil) dX0_next_13
end
section
set_option maxRecDepth 100000
set_option maxHeartbeats 4000000 in
set_option maxRecDepth 100000 in
theorem metX0_newNode (l : Launch) (dC : Nat → ClassId) (dI : Nat → Nat → Nat) (cI cZ : ClassId) (q : Nat → Nat) (sz : Nat) (he : Nat) (ro : Option Nat) (fr : Option Nat) (ab : Option Nat) (fu : Option Nat) (us : Nat → Bool) (bi : Nat → Nat) (le : Nat → Nat) (pe : Nat → Option Nat) (ch : Nat → Option Nat) (su : Nat → Int) (se : Nat → Int) (ha : Nat → Option Nat) (sk : Nat → Nat) (x pp k : Nat) (y : Option Nat) (gf : fr = some x) (gx : x < 64) : Met l yX0_newNode (ws_ yX0_newNode cX0_newNode 5 (some .int)) ({ frames := 0, cells := 0, slots := 0, locals := 0 }) (va_Pc [.ref (q 0), .int (nI pp), .int (nI k), .int (oI y)] (fun U => U.heap.size = sz ∧ va_P (dC, dI) vwCl (xW cI cZ q he ro fr ab fu us bi le pe ch su se ha sk) U.heap ∧ va_K (dC, dI) vwCl (xT cI cZ) U ∧ va_D (fun _ => True) (xW cI cZ q he ro fr ab fu us bi le pe ch su se ha sk))) (va_Qi (fun (r : Int32) (u : Unit) => r = nI x) (fun (u : Unit) t => va_P (dC, dI) vwCl (xW cI cZ q he ro (ch (2 * x)) ab fu (va_up us x true) (va_up bi x pp) (va_up le x k) (va_up pe x y) (va_up (va_up ch (2 * x) none) (2 * x + 1) none) su se ha sk) t.heap ∧ va_K (dC, dI) vwCl (xT cI cZ) t ∧ va_D (va_A (xW cI cZ q he ro fr ab fu us bi le pe ch su se ha sk) sz) (xW cI cZ q he ro (ch (2 * x)) ab fu (va_up us x true) (va_up bi x pp) (va_up le x k) (va_up pe x y) (va_up (va_up ch (2 * x) none) (2 * x + 1) none) su se ha sk)) (va_A (xW cI cZ q he ro fr ab fu us bi le pe ch su se ha sk) sz)) 0 0 (va_A (xW cI cZ q he ro fr ab fu us bi le pe ch su se ha sk) sz) := by
  refine Met.ofW (cc := cX0_newNode) (maxL := 5) (ret := (some .int)) (by decide) rfl ?_
  intro p e s m args below meth c s₁ B hml hv
  obtain ⟨rfl, hsz, hP, hK, hD0⟩ := hv
  have hx := B.exec
  have hb := B.bytes
  have hr := B.returns
  have hts := atoms_spec (ws := (ws_ yX0_newNode cX0_newNode 5 (some .int))) B.pre
  have hts : ∀ w ∈ lw_all, w.before _ s = true := fun w h => hts w (List.mem_cons_of_mem _ h)
  have hown : s.vm.findClass RX0 = some m.cls := findClass_of_methodNamed B.named
  have hlocks := B.notSynchronized
  subst hsz
  have hD := hD0.self (sz := s.heap.size)
  generalize hAe : va_A (xW cI cZ q he ro fr ab fu us bi le pe ch su se ha sk) s.heap.size = A at hD ⊢
  have hA : ∀ q : Nat, s.heap.size ≤ q → A q := fun q h => by rw [← hAe]; exact Or.inr h
  have hS : va_S A s.heap s.heap [] := va_S.rf
  have hl := lv_entry ([.ref (q 0), .int (nI pp), .int (nI k), .int (oI y)]) (n := 5) (Nat.le_of_ble_eq_true rfl)
  rw [lg_entry_eq]
  generalize (lg_sl ([.ref (q 0), .int (nI pp), .int (nI k), .int (oI y)]) ++ List.replicate (5 - (lg_sl ([.ref (q 0), .int (nI pp), .int (nI k), .int (oI y)])).length) Slot.unset).toArray = ls at hl ⊢
  have hl : lv_has ls 5 [(0, .ref (q 0)), (1, .int (nI pp)), (2, .int (nI k)), (3, .int (oI y))] := hl
  have S : CallFix p m c _ _ s _ lw_all _ := ⟨hx, hb, hml, hown, hts⟩
  subst gf
  refine lv_aload_n hx hb dX0_newNode_0 rfl (lv_at hl 0 rfl) ?_
  refine gX0_freeNode hx hb hts hown hK hP dX0_newNode_1 ?_
  refine r_top (y := nI x) rfl ?_
  refine lv_istore (lv' := [(4, .int (nI x)), (0, .ref (q 0)), (1, .int (nI pp)), (2, .int (nI k)), (3, .int (oI y))]) hx hb dX0_newNode_4 hl (by decide) rfl (fun ls hl => ?_)
  refine lv_aload_n hx hb dX0_newNode_6 rfl (lv_at hl 1 rfl) ?_
  refine lv_aload_n hx hb dX0_newNode_7 rfl (lv_at hl 1 rfl) ?_
  refine gX0_child hx hb hts hown hK hP dX0_newNode_8 ?_
  refine lv_iconst (v := nI 2) hx hb dX0_newNode_11 (by decide) ?_
  refine lv_iload hx hb dX0_newNode_12 (lv_at hl 0 rfl) ?_
  refine r_imul (a := 2) (b := x) hx hb dX0_newNode_14 ?_
  refine rX0_child (n := 2 * x) hx hb hK hP rfl (by omega) dX0_newNode_15 ?_
  refine pX0_freeNode (v := ch (2 * x)) hx hb hts hown hK hP hD hS dX0_newNode_16 (fun H locs hP hD hS => ?_)
  refine lv_aload_n hx hb dX0_newNode_19 rfl (lv_at hl 1 rfl) ?_
  refine gX0_used hx hb hts hown hK hP dX0_newNode_20 ?_
  refine lv_iload hx hb dX0_newNode_23 (lv_at hl 0 rfl) ?_
  refine lv_iconst (v := nI 1) hx hb dX0_newNode_25 (by decide) ?_
  refine wX0_used (n := x) (v := true) hx hb hK hP hD hS rfl (by omega) dX0_newNode_26 (fun H locs hP hD hS => ?_)
  refine lv_aload_n hx hb dX0_newNode_27 rfl (lv_at hl 1 rfl) ?_
  refine gX0_bits hx hb hts hown hK hP dX0_newNode_28 ?_
  refine lv_iload hx hb dX0_newNode_31 (lv_at hl 0 rfl) ?_
  refine lv_iload_n hx hb dX0_newNode_33 rfl (lv_at hl 2 rfl) ?_
  refine wX0_bits (n := x) (v := pp) hx hb hK hP hD hS rfl (by omega) dX0_newNode_34 (fun H locs hP hD hS => ?_)
  refine lv_aload_n hx hb dX0_newNode_35 rfl (lv_at hl 1 rfl) ?_
  refine gX0_length hx hb hts hown hK hP dX0_newNode_36 ?_
  refine lv_iload hx hb dX0_newNode_39 (lv_at hl 0 rfl) ?_
  refine lv_iload_n hx hb dX0_newNode_41 rfl (lv_at hl 3 rfl) ?_
  refine wX0_length (n := x) (v := k) hx hb hK hP hD hS rfl (by omega) dX0_newNode_42 (fun H locs hP hD hS => ?_)
  refine lv_aload_n hx hb dX0_newNode_43 rfl (lv_at hl 1 rfl) ?_
  refine gX0_peerOf hx hb hts hown hK hP dX0_newNode_44 ?_
  refine lv_iload hx hb dX0_newNode_47 (lv_at hl 0 rfl) ?_
  refine lv_iload_n hx hb dX0_newNode_49 rfl (lv_at hl 4 rfl) ?_
  refine wX0_peerOf (n := x) (v := y) hx hb hK hP hD hS rfl (by omega) dX0_newNode_50 (fun H locs hP hD hS => ?_)
  refine lv_aload_n hx hb dX0_newNode_51 rfl (lv_at hl 1 rfl) ?_
  refine gX0_child hx hb hts hown hK hP dX0_newNode_52 ?_
  refine lv_iconst (v := nI 2) hx hb dX0_newNode_55 (by decide) ?_
  refine lv_iload hx hb dX0_newNode_56 (lv_at hl 0 rfl) ?_
  refine r_imul (a := 2) (b := x) hx hb dX0_newNode_58 ?_
  refine lv_iconst (v := oI none) hx hb dX0_newNode_59 (by decide) ?_
  refine wX0_child (n := 2 * x) (v := none) hx hb hK hP hD hS rfl (by omega) dX0_newNode_60 (fun H locs hP hD hS => ?_)
  refine lv_aload_n hx hb dX0_newNode_61 rfl (lv_at hl 1 rfl) ?_
  refine gX0_child hx hb hts hown hK hP dX0_newNode_62 ?_
  refine lv_iconst (v := nI 2) hx hb dX0_newNode_65 (by decide) ?_
  refine lv_iload hx hb dX0_newNode_66 (lv_at hl 0 rfl) ?_
  refine r_imul (a := 2) (b := x) hx hb dX0_newNode_68 ?_
  refine lv_iconst (v := nI 1) hx hb dX0_newNode_69 (by decide) ?_
  refine r_iadd (a := 2 * x) (b := 1) hx hb dX0_newNode_70 ?_
  refine lv_iconst (v := oI none) hx hb dX0_newNode_71 (by decide) ?_
  refine wX0_child (n := (2 * x) + 1) (v := none) hx hb hK hP hD hS rfl (by omega) dX0_newNode_72 (fun H locs hP hD hS => ?_)
  refine lv_iload hx hb dX0_newNode_73 (lv_at hl 0 rfl) ?_
  exact W.iret (v := nI x) hx hb hr (fun t ht hW => ⟨⟨nI x, (), rfl, rfl, by rw [ht]; exact hP, va_K.moved hW.alike hK, hD⟩, hS.F ht⟩) hS.2.2 dX0_newNode_75
set_option maxRecDepth 100000 in
theorem kX0_X0_newNode {p : Program} {l : Launch} {e : Env} {R : Room} {s : State} {m : MethodId} {args : Array Value} {below : List Frame} {meth : Method} {c : Code} {H : Heap} {locs : List Loc} {cells slots : Nat} {Q : State → Prop} {cc : ByteArray} {pc nL : Nat} {ls : Array Slot} {rest : List Value} {A : Nat → Prop} {H0 : Heap} {dC : Nat → ClassId} {dI : Nat → Nat → Nat} {cI cZ : ClassId} {q : Nat → Nat} {he : Nat} {ro : Option Nat} {fr : Option Nat} {ab : Option Nat} {fu : Option Nat} {us : Nat → Bool} {bi : Nat → Nat} {le : Nat → Nat} {pe : Nat → Option Nat} {ch : Nat → Option Nat} {su : Nat → Int} {se : Nat → Int} {ha : Nat → Option Nat} {sk : Nat → Nat} (S : CallFix p m c cc nL s args lw_all RX0) (hls : ls.size = nL) (hR : 0 + 1 ≤ R.frames ∧ 8 + (5 + 11) + 0 ≤ R.locals) (hrest : (rest.map fun v => v.category).sum ≤ 8) (hc : cells ≤ R.cells ∧ slots ≤ R.slots) (hK : va_K (dC, dI) vwCl (xT cI cZ) s) (hP : va_P (dC, dI) vwCl (xW cI cZ q he ro fr ab fu us bi le pe ch su se ha sk) H) (hD : va_D A (xW cI cZ q he ro fr ab fu us bi le pe ch su se ha sk)) (hS : va_S A H0 H locs) (hA : ∀ q : Nat, H0.size ≤ q → A q) (x pp k : Nat) (y : Option Nat) (gf : fr = some x) (gx : x < 64) (hd : decode cc pc = .ok (.invokevirtual 91, 3)) (kk : ∀ (r : Int32) (u : Unit) (H : Heap) (locs : List Loc), (r = nI x) → va_P (dC, dI) vwCl (xW cI cZ q he ro (ch (2 * x)) ab fu (va_up us x true) (va_up bi x pp) (va_up le x k) (va_up pe x y) (va_up (va_up ch (2 * x) none) (2 * x + 1) none) su se ha sk) H → va_D A (xW cI cZ q he ro (ch (2 * x)) ab fu (va_up us x true) (va_up bi x pp) (va_up le x k) (va_up pe x y) (va_up (va_up ch (2 * x) none) (2 * x + 1) none) su se ha sk) → va_S A H0 H locs → W p l e R s m args below meth c H locs cells slots Q (F0 m (pc + 3) ls (.int r :: rest))) : W p l e R s m args below meth c H locs cells slots Q (F0 m pc ls (.int (oI y) :: .int (nI k) :: .int (nI pp) :: .ref (q 0) :: rest)) := by
  have hFc := va_free (wc := xW cI cZ q he ro fr ab fu us bi le pe ch su se ha sk) hD hS hA [0, 1, 2, 3, 4, 5, 6, 7, 8, 9] rfl
  refine va_calli (va_runV (As := [.int (nI pp), .int (nI k), .int (oI y)]) (rest := rest) S (metX0_newNode l dC dI cI cZ q H.size he ro fr ab fu us bi le pe ch su se ha sk x pp k y gf gx) (cwV 3 S.2.2.2.2 (lw_V q95 q97 qs3 q17 q98) rfl rfl rfl (by decide +kernel) hR) ⟨fun a U g mk q => by obtain ⟨q0, q1, qP, qK, qD⟩ := q; exact ⟨q0, q1, qP, va_K.moved (u := U) (U := U.calling g mk a) (Vm.Alike.refl U.vm) qK, qD⟩, va_recv hK hP (ci := 0) (q0 := 0) rfl rfl, fun U hU hW => ⟨rfl, by rw [hU], by rw [hU]; exact hP, va_K.moved hW.alike hK, hD.weaken (fun _ _ _ _ => trivial)⟩⟩ rfl rfl hls rfl (lv_room hrest) hd hc) hS (fun q _ h => hFc q h) hFc (fun r u t H1 locs1 ht hvm hw hB hz1 hk1 hS1 => ?_)
  obtain ⟨hP1, hK1, hD1⟩ := hB
  rw [ht] at hP1
  obtain ⟨hP2, hD2⟩ := va_join (wr := []) (w1 := xW cI cZ q he ro (ch (2 * x)) ab fu (va_up us x true) (va_up bi x pp) (va_up le x k) (va_up pe x y) (va_up (va_up ch (2 * x) none) (2 * x + 1) none) su se ha sk) hP hD [0, 1, 2, 3, 4, 5, 6, 7, 8, 9] [] rfl rfl (by decide) (by decide) hk1 hFc hP1 hD1
  exact kk r u H1 locs1 hw hP2 hD2 hS1
set_option maxHeartbeats 4000000 in
set_option maxRecDepth 100000 in
theorem metX0_lead (l : Launch) (dC : Nat → ClassId) (dI : Nat → Nat → Nat) (cI cZ : ClassId) (q : Nat → Nat) (sz : Nat) (he : Nat) (ro : Option Nat) (fr : Option Nat) (ab : Option Nat) (fu : Option Nat) (us : Nat → Bool) (bi : Nat → Nat) (le : Nat → Nat) (pe : Nat → Option Nat) (ch : Nat → Option Nat) (su : Nat → Int) (se : Nat → Int) (ha : Nat → Option Nat) (sk : Nat → Nat) (x : Option Nat) (pp : Nat) (to : Option Nat) (gp : pp < 65536) (gx : ∀ f, x = some f → f < 64 ∧ le f ≤ 15) : Met l yX0_lead (ws_ yX0_lead cX0_lead 4 none) ({ frames := 1, cells := 0, slots := 0, locals := 21 }) (va_Pc [.ref (q 0), .int (oI x), .int (nI pp), .int (oI to)] (fun U => U.heap.size = sz ∧ va_P (dC, dI) vwCl (xW cI cZ q he ro fr ab fu us bi le pe ch su se ha sk) U.heap ∧ va_K (dC, dI) vwCl (xT cI cZ) U ∧ va_D (fun _ => True) (xW cI cZ q he ro fr ab fu us bi le pe ch su se ha sk))) (va_Qv (fun (u : Unit) => True) (fun (u : Unit) t => va_P (dC, dI) vwCl (xW cI cZ q he (ldR x to ro) fr ab fu us bi le pe (ldC le pp x to ch) su se ha sk) t.heap ∧ va_K (dC, dI) vwCl (xT cI cZ) t ∧ va_D (va_A (xW cI cZ q he ro fr ab fu us bi le pe ch su se ha sk) sz) (xW cI cZ q he (ldR x to ro) fr ab fu us bi le pe (ldC le pp x to ch) su se ha sk)) (va_A (xW cI cZ q he ro fr ab fu us bi le pe ch su se ha sk) sz)) 0 0 (va_A (xW cI cZ q he ro fr ab fu us bi le pe ch su se ha sk) sz) := by
  refine Met.ofW (cc := cX0_lead) (maxL := 4) (ret := none) (by decide) rfl ?_
  intro p e s m args below meth c s₁ B hml hv
  obtain ⟨rfl, hsz, hP, hK, hD0⟩ := hv
  have hx := B.exec
  have hb := B.bytes
  have hr := B.returns
  have hts := atoms_spec (ws := (ws_ yX0_lead cX0_lead 4 none)) B.pre
  have hts : ∀ w ∈ lw_all, w.before _ s = true := fun w h => hts w (List.mem_cons_of_mem _ h)
  have hown : s.vm.findClass RX0 = some m.cls := findClass_of_methodNamed B.named
  have hlocks := B.notSynchronized
  subst hsz
  have hD := hD0.self (sz := s.heap.size)
  generalize hAe : va_A (xW cI cZ q he ro fr ab fu us bi le pe ch su se ha sk) s.heap.size = A at hD ⊢
  have hA : ∀ q : Nat, s.heap.size ≤ q → A q := fun q h => by rw [← hAe]; exact Or.inr h
  have hS : va_S A s.heap s.heap [] := va_S.rf
  have hl := lv_entry ([.ref (q 0), .int (oI x), .int (nI pp), .int (oI to)]) (n := 4) (Nat.le_of_ble_eq_true rfl)
  rw [lg_entry_eq]
  generalize (lg_sl ([.ref (q 0), .int (oI x), .int (nI pp), .int (oI to)]) ++ List.replicate (4 - (lg_sl ([.ref (q 0), .int (oI x), .int (nI pp), .int (oI to)])).length) Slot.unset).toArray = ls at hl ⊢
  have hl : lv_has ls 4 [(0, .ref (q 0)), (1, .int (oI x)), (2, .int (nI pp)), (3, .int (oI to))] := hl
  have S : CallFix p m c _ _ s _ lw_all _ := ⟨hx, hb, hml, hown, hts⟩
  refine lv_iload_n hx hb dX0_lead_0 rfl (lv_at hl 1 rfl) ?_
  refine r_ifgeO (x := x) (tgt := 12) hx hb (fun n hn => by have := (gx n hn).1; omega) dX0_lead_1 (by decide) (fun f h => ?_) (fun h => ?_)
  · subst h
    obtain ⟨g1, g2⟩ := gx f rfl
    have hl : lv_has ls 4 [(0, .ref (q 0)), (1, .int (nI f)), (2, .int (nI pp)), (3, .int (oI to))] := hl
    refine lv_aload_n hx hb dX0_lead_12 rfl (lv_at hl 0 rfl) ?_
    refine gX0_child hx hb hts hown hK hP dX0_lead_13 ?_
    refine lv_iconst (v := nI 2) hx hb dX0_lead_16 (by decide) ?_
    refine lv_iload_n hx hb dX0_lead_17 rfl (lv_at hl 1 rfl) ?_
    refine r_imul (a := 2) (b := f) hx hb dX0_lead_18 ?_
    refine lv_iload_n hx hb dX0_lead_19 rfl (lv_at hl 2 rfl) ?_
    refine lv_aload_n hx hb dX0_lead_20 rfl (lv_at hl 0 rfl) ?_
    refine gX0_length hx hb hts hown hK hP dX0_lead_21 ?_
    refine lv_iload_n hx hb dX0_lead_24 rfl (lv_at hl 1 rfl) ?_
    refine rX0_length (n := f) hx hb hK hP rfl (by omega) dX0_lead_25 ?_
    refine kX0_X0_bitAt S hl.1 ⟨Nat.le_of_ble_eq_true rfl, Nat.le_of_ble_eq_true rfl⟩ (Nat.le_of_ble_eq_true rfl) ⟨Nat.zero_le _, Nat.zero_le _⟩ pp (le f) gp g2 dX0_lead_26 ?_
    refine r_iadd (a := 2 * f) (b := bt pp (le f)) hx hb dX0_lead_29 ?_
    refine lv_iload_n hx hb dX0_lead_30 rfl (lv_at hl 3 rfl) ?_
    refine wX0_child (n := (2 * f) + (bt pp (le f))) (v := to) hx hb hK hP hD hS rfl (by have := bt_lt pp (le f); omega) dX0_lead_31 (fun H locs hP hD hS => ?_)
    exact W.vret hx hb hr (fun t ht hW => ⟨⟨(), rfl, trivial, by rw [ht]; exact hP, va_K.moved hW.alike hK, hD⟩, hS.F ht⟩) hS.2.2 dX0_lead_32
  · subst h
    refine lv_aload_n hx hb dX0_lead_4 rfl (lv_at hl 0 rfl) ?_
    refine lv_iload_n hx hb dX0_lead_5 rfl (lv_at hl 3 rfl) ?_
    refine pX0_root (v := to) hx hb hts hown hK hP hD hS dX0_lead_6 (fun H locs hP hD hS => ?_)
    refine lv_goto (tgt := 32) hx hb dX0_lead_9 (by decide) ?_
    exact W.vret hx hb hr (fun t ht hW => ⟨⟨(), rfl, trivial, by rw [ht]; exact hP, va_K.moved hW.alike hK, hD⟩, hS.F ht⟩) hS.2.2 dX0_lead_32
set_option maxRecDepth 100000 in
theorem kX0_X0_lead {p : Program} {l : Launch} {e : Env} {R : Room} {s : State} {m : MethodId} {args : Array Value} {below : List Frame} {meth : Method} {c : Code} {H : Heap} {locs : List Loc} {cells slots : Nat} {Q : State → Prop} {cc : ByteArray} {pc nL : Nat} {ls : Array Slot} {rest : List Value} {A : Nat → Prop} {H0 : Heap} {dC : Nat → ClassId} {dI : Nat → Nat → Nat} {cI cZ : ClassId} {q : Nat → Nat} {he : Nat} {ro : Option Nat} {fr : Option Nat} {ab : Option Nat} {fu : Option Nat} {us : Nat → Bool} {bi : Nat → Nat} {le : Nat → Nat} {pe : Nat → Option Nat} {ch : Nat → Option Nat} {su : Nat → Int} {se : Nat → Int} {ha : Nat → Option Nat} {sk : Nat → Nat} (S : CallFix p m c cc nL s args lw_all RX0) (hls : ls.size = nL) (hR : 1 + 1 ≤ R.frames ∧ 8 + (4 + 11) + 21 ≤ R.locals) (hrest : (rest.map fun v => v.category).sum ≤ 8) (hc : cells ≤ R.cells ∧ slots ≤ R.slots) (hK : va_K (dC, dI) vwCl (xT cI cZ) s) (hP : va_P (dC, dI) vwCl (xW cI cZ q he ro fr ab fu us bi le pe ch su se ha sk) H) (hD : va_D A (xW cI cZ q he ro fr ab fu us bi le pe ch su se ha sk)) (hS : va_S A H0 H locs) (hA : ∀ q : Nat, H0.size ≤ q → A q) (x : Option Nat) (pp : Nat) (to : Option Nat) (gp : pp < 65536) (gx : ∀ f, x = some f → f < 64 ∧ le f ≤ 15) (hd : decode cc pc = .ok (.invokevirtual 95, 3)) (kk : ∀ (u : Unit) (H : Heap) (locs : List Loc), (True) → va_P (dC, dI) vwCl (xW cI cZ q he (ldR x to ro) fr ab fu us bi le pe (ldC le pp x to ch) su se ha sk) H → va_D A (xW cI cZ q he (ldR x to ro) fr ab fu us bi le pe (ldC le pp x to ch) su se ha sk) → va_S A H0 H locs → W p l e R s m args below meth c H locs cells slots Q (F0 m (pc + 3) ls (rest))) : W p l e R s m args below meth c H locs cells slots Q (F0 m pc ls (.int (oI to) :: .int (nI pp) :: .int (oI x) :: .ref (q 0) :: rest)) := by
  have hFc := va_free (wc := xW cI cZ q he ro fr ab fu us bi le pe ch su se ha sk) hD hS hA [0, 1, 2, 3, 4, 5, 6, 7, 8, 9] rfl
  refine va_callv (va_runV (As := [.int (oI x), .int (nI pp), .int (oI to)]) (rest := rest) S (metX0_lead l dC dI cI cZ q H.size he ro fr ab fu us bi le pe ch su se ha sk x pp to gp gx) (cwV 3 S.2.2.2.2 (lw_V q99 q101 qs4 q17 q102) rfl rfl rfl (by decide +kernel) hR) ⟨fun a U g mk q => by obtain ⟨q0, q1, qP, qK, qD⟩ := q; exact ⟨q0, q1, qP, va_K.moved (u := U) (U := U.calling g mk a) (Vm.Alike.refl U.vm) qK, qD⟩, va_recv hK hP (ci := 0) (q0 := 0) rfl rfl, fun U hU hW => ⟨rfl, by rw [hU], by rw [hU]; exact hP, va_K.moved hW.alike hK, hD.weaken (fun _ _ _ _ => trivial)⟩⟩ rfl rfl hls rfl (lv_room hrest) hd hc) hS (fun q _ h => hFc q h) hFc (fun u t H1 locs1 ht hvm hw hB hz1 hk1 hS1 => ?_)
  obtain ⟨hP1, hK1, hD1⟩ := hB
  rw [ht] at hP1
  obtain ⟨hP2, hD2⟩ := va_join (wr := []) (w1 := xW cI cZ q he (ldR x to ro) fr ab fu us bi le pe (ldC le pp x to ch) su se ha sk) hP hD [0, 1, 2, 3, 4, 5, 6, 7, 8, 9] [] rfl rfl (by decide) (by decide) hk1 hFc hP1 hD1
  exact kk u H1 locs1 hw hP2 hD2 hS1
set_option maxHeartbeats 4000000 in
set_option maxRecDepth 100000 in
theorem metX0_release (l : Launch) (dC : Nat → ClassId) (dI : Nat → Nat → Nat) (cI cZ : ClassId) (q : Nat → Nat) (sz : Nat) (he : Nat) (ro : Option Nat) (fr : Option Nat) (ab : Option Nat) (fu : Option Nat) (us : Nat → Bool) (bi : Nat → Nat) (le : Nat → Nat) (pe : Nat → Option Nat) (ch : Nat → Option Nat) (su : Nat → Int) (se : Nat → Int) (ha : Nat → Option Nat) (sk : Nat → Nat) (n : Nat) (gn : n < 64) : Met l yX0_release (ws_ yX0_release cX0_release 2 none) ({ frames := 0, cells := 0, slots := 0, locals := 0 }) (va_Pc [.ref (q 0), .int (nI n)] (fun U => U.heap.size = sz ∧ va_P (dC, dI) vwCl (xW cI cZ q he ro fr ab fu us bi le pe ch su se ha sk) U.heap ∧ va_K (dC, dI) vwCl (xT cI cZ) U ∧ va_D (fun _ => True) (xW cI cZ q he ro fr ab fu us bi le pe ch su se ha sk))) (va_Qv (fun (u : Unit) => True) (fun (u : Unit) t => va_P (dC, dI) vwCl (xW cI cZ q he ro (some n) ab fu (va_up us n false) bi le pe (va_up ch (2 * n) fr) su se ha sk) t.heap ∧ va_K (dC, dI) vwCl (xT cI cZ) t ∧ va_D (va_A (xW cI cZ q he ro fr ab fu us bi le pe ch su se ha sk) sz) (xW cI cZ q he ro (some n) ab fu (va_up us n false) bi le pe (va_up ch (2 * n) fr) su se ha sk)) (va_A (xW cI cZ q he ro fr ab fu us bi le pe ch su se ha sk) sz)) 0 0 (va_A (xW cI cZ q he ro fr ab fu us bi le pe ch su se ha sk) sz) := by
  refine Met.ofW (cc := cX0_release) (maxL := 2) (ret := none) (by decide) rfl ?_
  intro p e s m args below meth c s₁ B hml hv
  obtain ⟨rfl, hsz, hP, hK, hD0⟩ := hv
  have hx := B.exec
  have hb := B.bytes
  have hr := B.returns
  have hts := atoms_spec (ws := (ws_ yX0_release cX0_release 2 none)) B.pre
  have hts : ∀ w ∈ lw_all, w.before _ s = true := fun w h => hts w (List.mem_cons_of_mem _ h)
  have hown : s.vm.findClass RX0 = some m.cls := findClass_of_methodNamed B.named
  have hlocks := B.notSynchronized
  subst hsz
  have hD := hD0.self (sz := s.heap.size)
  generalize hAe : va_A (xW cI cZ q he ro fr ab fu us bi le pe ch su se ha sk) s.heap.size = A at hD ⊢
  have hA : ∀ q : Nat, s.heap.size ≤ q → A q := fun q h => by rw [← hAe]; exact Or.inr h
  have hS : va_S A s.heap s.heap [] := va_S.rf
  have hl := lv_entry ([.ref (q 0), .int (nI n)]) (n := 2) (Nat.le_of_ble_eq_true rfl)
  rw [lg_entry_eq]
  generalize (lg_sl ([.ref (q 0), .int (nI n)]) ++ List.replicate (2 - (lg_sl ([.ref (q 0), .int (nI n)])).length) Slot.unset).toArray = ls at hl ⊢
  have hl : lv_has ls 2 [(0, .ref (q 0)), (1, .int (nI n))] := hl
  have S : CallFix p m c _ _ s _ lw_all _ := ⟨hx, hb, hml, hown, hts⟩
  refine lv_aload_n hx hb dX0_release_0 rfl (lv_at hl 0 rfl) ?_
  refine gX0_used hx hb hts hown hK hP dX0_release_1 ?_
  refine lv_iload_n hx hb dX0_release_4 rfl (lv_at hl 1 rfl) ?_
  refine lv_iconst (v := nI 0) hx hb dX0_release_5 (by decide) ?_
  refine wX0_used (n := n) (v := false) hx hb hK hP hD hS rfl (by omega) dX0_release_6 (fun H locs hP hD hS => ?_)
  refine lv_aload_n hx hb dX0_release_7 rfl (lv_at hl 0 rfl) ?_
  refine gX0_child hx hb hts hown hK hP dX0_release_8 ?_
  refine lv_iconst (v := nI 2) hx hb dX0_release_11 (by decide) ?_
  refine lv_iload_n hx hb dX0_release_12 rfl (lv_at hl 1 rfl) ?_
  refine r_imul (a := 2) (b := n) hx hb dX0_release_13 ?_
  refine lv_aload_n hx hb dX0_release_14 rfl (lv_at hl 0 rfl) ?_
  refine gX0_freeNode hx hb hts hown hK hP dX0_release_15 ?_
  refine wX0_child (n := 2 * n) (v := fr) hx hb hK hP hD hS rfl (by omega) dX0_release_18 (fun H locs hP hD hS => ?_)
  refine lv_aload_n hx hb dX0_release_19 rfl (lv_at hl 0 rfl) ?_
  refine lv_iload_n hx hb dX0_release_20 rfl (lv_at hl 1 rfl) ?_
  refine pX0_freeNode (v := some n) hx hb hts hown hK hP hD hS dX0_release_21 (fun H locs hP hD hS => ?_)
  exact W.vret hx hb hr (fun t ht hW => ⟨⟨(), rfl, trivial, by rw [ht]; exact hP, va_K.moved hW.alike hK, hD⟩, hS.F ht⟩) hS.2.2 dX0_release_24
set_option maxRecDepth 100000 in
theorem kX0_X0_release {p : Program} {l : Launch} {e : Env} {R : Room} {s : State} {m : MethodId} {args : Array Value} {below : List Frame} {meth : Method} {c : Code} {H : Heap} {locs : List Loc} {cells slots : Nat} {Q : State → Prop} {cc : ByteArray} {pc nL : Nat} {ls : Array Slot} {rest : List Value} {A : Nat → Prop} {H0 : Heap} {dC : Nat → ClassId} {dI : Nat → Nat → Nat} {cI cZ : ClassId} {q : Nat → Nat} {he : Nat} {ro : Option Nat} {fr : Option Nat} {ab : Option Nat} {fu : Option Nat} {us : Nat → Bool} {bi : Nat → Nat} {le : Nat → Nat} {pe : Nat → Option Nat} {ch : Nat → Option Nat} {su : Nat → Int} {se : Nat → Int} {ha : Nat → Option Nat} {sk : Nat → Nat} (S : CallFix p m c cc nL s args lw_all RX0) (hls : ls.size = nL) (hR : 0 + 1 ≤ R.frames ∧ 8 + (2 + 11) + 0 ≤ R.locals) (hrest : (rest.map fun v => v.category).sum ≤ 8) (hc : cells ≤ R.cells ∧ slots ≤ R.slots) (hK : va_K (dC, dI) vwCl (xT cI cZ) s) (hP : va_P (dC, dI) vwCl (xW cI cZ q he ro fr ab fu us bi le pe ch su se ha sk) H) (hD : va_D A (xW cI cZ q he ro fr ab fu us bi le pe ch su se ha sk)) (hS : va_S A H0 H locs) (hA : ∀ q : Nat, H0.size ≤ q → A q) (n : Nat) (gn : n < 64) (hd : decode cc pc = .ok (.invokevirtual 101, 3)) (kk : ∀ (u : Unit) (H : Heap) (locs : List Loc), (True) → va_P (dC, dI) vwCl (xW cI cZ q he ro (some n) ab fu (va_up us n false) bi le pe (va_up ch (2 * n) fr) su se ha sk) H → va_D A (xW cI cZ q he ro (some n) ab fu (va_up us n false) bi le pe (va_up ch (2 * n) fr) su se ha sk) → va_S A H0 H locs → W p l e R s m args below meth c H locs cells slots Q (F0 m (pc + 3) ls (rest))) : W p l e R s m args below meth c H locs cells slots Q (F0 m pc ls (.int (nI n) :: .ref (q 0) :: rest)) := by
  have hFc := va_free (wc := xW cI cZ q he ro fr ab fu us bi le pe ch su se ha sk) hD hS hA [0, 1, 2, 3, 4, 5, 6, 7, 8, 9] rfl
  refine va_callv (va_runV (As := [.int (nI n)]) (rest := rest) S (metX0_release l dC dI cI cZ q H.size he ro fr ab fu us bi le pe ch su se ha sk n gn) (cwV 1 S.2.2.2.2 (lw_V q114 q116 qs6 q17 q117) rfl rfl rfl (by decide +kernel) hR) ⟨fun a U g mk q => by obtain ⟨q0, q1, qP, qK, qD⟩ := q; exact ⟨q0, q1, qP, va_K.moved (u := U) (U := U.calling g mk a) (Vm.Alike.refl U.vm) qK, qD⟩, va_recv hK hP (ci := 0) (q0 := 0) rfl rfl, fun U hU hW => ⟨rfl, by rw [hU], by rw [hU]; exact hP, va_K.moved hW.alike hK, hD.weaken (fun _ _ _ _ => trivial)⟩⟩ rfl rfl hls rfl (lv_room hrest) hd hc) hS (fun q _ h => hFc q h) hFc (fun u t H1 locs1 ht hvm hw hB hz1 hk1 hS1 => ?_)
  obtain ⟨hP1, hK1, hD1⟩ := hB
  rw [ht] at hP1
  obtain ⟨hP2, hD2⟩ := va_join (wr := []) (w1 := xW cI cZ q he ro (some n) ab fu (va_up us n false) bi le pe (va_up ch (2 * n) fr) su se ha sk) hP hD [0, 1, 2, 3, 4, 5, 6, 7, 8, 9] [] rfl rfl (by decide) (by decide) hk1 hFc hP1 hD1
  exact kk u H1 locs1 hw hP2 hD2 hS1
set_option maxHeartbeats 4000000 in
set_option maxRecDepth 100000 in
theorem metX0_insert (l : Launch) (dC : Nat → ClassId) (dI : Nat → Nat → Nat) (cI cZ : ClassId) (q : Nat → Nat) (sz : Nat) (he : Nat) (ro : Option Nat) (fr : Option Nat) (ab : Option Nat) (fu : Option Nat) (us : Nat → Bool) (bi : Nat → Nat) (le : Nat → Nat) (pe : Nat → Option Nat) (ch : Nat → Option Nat) (su : Nat → Int) (se : Nat → Int) (ha : Nat → Option Nat) (sk : Nat → Nat) (pp k y he0 : Nat) (D : Nat → Nat → Option Nat) (g0 : he = he0 + 1) (gh : he0 < 32) (gy : y < 8) (gp : pp < 65536) (gk : k ≤ 16) (gc : ct pp k = pp) (gt : TOK he0 ro fr us bi le pe ch D) (gF : FP us bi le ro ch pp k none ab fu) : Met l yX0_insert (ws_ yX0_insert cX0_insert 10 none) ({ frames := 2, cells := 0, slots := 0, locals := 44 }) (va_Pc [.ref (q 0), .int (nI pp), .int (nI k), .int (nI y)] (fun U => U.heap.size = sz ∧ va_P (dC, dI) vwCl (xW cI cZ q he ro fr ab fu us bi le pe ch su se ha sk) U.heap ∧ va_K (dC, dI) vwCl (xT cI cZ) U ∧ va_D (fun _ => True) (xW cI cZ q he ro fr ab fu us bi le pe ch su se ha sk))) (va_Qv (fun (u : Option Nat × Option Nat × (Nat → Bool) × (Nat → Nat) × (Nat → Nat) × (Nat → Option Nat) × (Nat → Option Nat)) => TOK he u.1 u.2.1 u.2.2.1 u.2.2.2.1 u.2.2.2.2.1 u.2.2.2.2.2.1 u.2.2.2.2.2.2 (dset D pp k y)) (fun (u : Option Nat × Option Nat × (Nat → Bool) × (Nat → Nat) × (Nat → Nat) × (Nat → Option Nat) × (Nat → Option Nat)) t => va_P (dC, dI) vwCl (xW cI cZ q he u.1 u.2.1 ab fu u.2.2.1 u.2.2.2.1 u.2.2.2.2.1 u.2.2.2.2.2.1 u.2.2.2.2.2.2 su se ha sk) t.heap ∧ va_K (dC, dI) vwCl (xT cI cZ) t ∧ va_D (va_A (xW cI cZ q he ro fr ab fu us bi le pe ch su se ha sk) sz) (xW cI cZ q he u.1 u.2.1 ab fu u.2.2.1 u.2.2.2.1 u.2.2.2.2.1 u.2.2.2.2.2.1 u.2.2.2.2.2.2 su se ha sk)) (va_A (xW cI cZ q he ro fr ab fu us bi le pe ch su se ha sk) sz)) 0 0 (va_A (xW cI cZ q he ro fr ab fu us bi le pe ch su se ha sk) sz) := by
  refine Met.ofW (cc := cX0_insert) (maxL := 10) (ret := none) (by decide) rfl ?_
  intro p e s m args below meth c s₁ B hml hv
  obtain ⟨rfl, hsz, hP, hK, hD0⟩ := hv
  have hx := B.exec
  have hb := B.bytes
  have hr := B.returns
  have hts := atoms_spec (ws := (ws_ yX0_insert cX0_insert 10 none)) B.pre
  have hts : ∀ w ∈ lw_all, w.before _ s = true := fun w h => hts w (List.mem_cons_of_mem _ h)
  have hown : s.vm.findClass RX0 = some m.cls := findClass_of_methodNamed B.named
  have hlocks := B.notSynchronized
  subst hsz
  have hD := hD0.self (sz := s.heap.size)
  generalize hAe : va_A (xW cI cZ q he ro fr ab fu us bi le pe ch su se ha sk) s.heap.size = A at hD ⊢
  have hA : ∀ q : Nat, s.heap.size ≤ q → A q := fun q h => by rw [← hAe]; exact Or.inr h
  have hS : va_S A s.heap s.heap [] := va_S.rf
  have hl := lv_entry ([.ref (q 0), .int (nI pp), .int (nI k), .int (nI y)]) (n := 10) (Nat.le_of_ble_eq_true rfl)
  rw [lg_entry_eq]
  generalize (lg_sl ([.ref (q 0), .int (nI pp), .int (nI k), .int (nI y)]) ++ List.replicate (10 - (lg_sl ([.ref (q 0), .int (nI pp), .int (nI k), .int (nI y)])).length) Slot.unset).toArray = ls at hl ⊢
  have hl : lv_has ls 10 [(0, .ref (q 0)), (1, .int (nI pp)), (2, .int (nI k)), (3, .int (nI y))] := hl
  have S : CallFix p m c _ _ s _ lw_all _ := ⟨hx, hb, hml, hown, hts⟩
  subst g0
  obtain ⟨x, rfl, x1, x2, z, z1, z2, z3, z4⟩ := tok_room gt gh
  have gT := gt.1
  refine lv_aload_n hx hb dX0_insert_0 rfl (lv_at hl 0 rfl) ?_
  refine gX0_above hx hb hts hown hK hP dX0_insert_1 ?_
  refine lv_istore (lv' := [(4, .int (oI ab)), (0, .ref (q 0)), (1, .int (nI pp)), (2, .int (nI k)), (3, .int (nI y))]) hx hb dX0_insert_4 hl (by decide) rfl (fun ls hl => ?_)
  refine lv_iload hx hb dX0_insert_6 (lv_at hl 0 rfl) ?_
  refine r_join (rest := []) 39 (fun v => v = oI (sv ro ch (so le pp ab))) (fun v hv => ?_) (fun J => ?_)
  · obtain ⟨w, hwe⟩ : ∃ w, w = sv ro ch (so le pp ab) := ⟨_, rfl⟩
    rw [← hwe] at hv
    subst hv
    refine lv_istore (lv' := [(5, .int (oI w)), (4, .int (oI ab)), (0, .ref (q 0)), (1, .int (nI pp)), (2, .int (nI k)), (3, .int (nI y))]) hx hb dX0_insert_39 hl (by decide) rfl (fun ls hl => ?_)
    refine lv_aload_n hx hb dX0_insert_41 rfl (lv_at hl 2 rfl) ?_
    refine lv_iload_n hx hb dX0_insert_42 rfl (lv_at hl 3 rfl) ?_
    refine lv_iload_n hx hb dX0_insert_43 rfl (lv_at hl 4 rfl) ?_
    refine lv_iload_n hx hb dX0_insert_44 rfl (lv_at hl 5 rfl) ?_
    refine kX0_X0_newNode S hl.1 ⟨Nat.le_of_ble_eq_true rfl, Nat.le_of_ble_eq_true rfl⟩ (Nat.le_of_ble_eq_true rfl) ⟨Nat.zero_le _, Nat.zero_le _⟩ hK hP hD hS hA x pp k (some y) rfl x1 dX0_insert_45 (fun r u H locs hw hP hD hS => ?_)
    subst hw
    have gl : ∀ f, ab = some f → f < 64 ∧ (va_up le x k) f ≤ 15 := fun f e => by
      have e1 : f ≠ x := fun e2 => by have := (gF.1.1 f e).1.2; rw [e2, x2] at this; cases this
      rw [up_n _ _ e1]; exact fab_lead gT gk gF.1 f e
    refine lv_istore (lv' := [(6, .int (nI x)), (5, .int (oI w)), (4, .int (oI ab)), (0, .ref (q 0)), (1, .int (nI pp)), (2, .int (nI k)), (3, .int (nI y))]) hx hb dX0_insert_48 hl (by decide) rfl (fun ls hl => ?_)
    refine lv_iload hx hb dX0_insert_50 (lv_at hl 1 rfl) ?_
    refine r_ifgeO (x := w) (tgt := 65) hx hb (fun n hn => by have := (gT.2.2.2 _ n (so_vs gF.1) (hwe.symm.trans hn)).1.1; omega) dX0_insert_52 (by decide) (fun d h => ?_) (fun h => ?_)
    · subst h
      have hdu := (gT.2.2.2 _ d (so_vs gF.1) hwe.symm).1
      obtain ⟨d1, d2, d3⟩ := gT.1 d hdu
      have d6 := hdu.1
      have hdx : d ≠ x := fun e => by have := hdu.2; rw [e, x2] at this; cases this
      have hl : lv_has ls 10 [(6, .int (nI x)), (5, .int (nI d)), (4, .int (oI ab)), (0, .ref (q 0)), (1, .int (nI pp)), (2, .int (nI k)), (3, .int (nI y))] := hl
      refine r_join (rest := []) 87 (fun v => ∃ lim, v = nI lim ∧ lim ≤ k ∧ lim ≤ le d ∧ (lim = k ∨ lim = le d)) (fun v hv => ?_) (fun J => ?_)
      · obtain ⟨lim, hvl, l1, l2, l3⟩ := hv
        subst hvl
        refine lv_istore (lv' := [(7, .int (nI lim)), (6, .int (nI x)), (5, .int (nI d)), (4, .int (oI ab)), (0, .ref (q 0)), (1, .int (nI pp)), (2, .int (nI k)), (3, .int (nI y))]) hx hb dX0_insert_87 hl (by decide) rfl (fun ls hl => ?_)
        refine lv_iload_n hx hb dX0_insert_89 rfl (lv_at hl 5 rfl) ?_
        refine lv_aload_n hx hb dX0_insert_90 rfl (lv_at hl 4 rfl) ?_
        refine gX0_bits hx hb hts hown hK hP dX0_insert_91 ?_
        refine lv_iload hx hb dX0_insert_94 (lv_at hl 2 rfl) ?_
        refine rX0_bits (n := d) hx hb hK hP rfl (by omega) dX0_insert_96 ?_
        refine r_top (y := nI (bi d)) (by rw [up_n _ _ hdx]) ?_
        refine lv_iload hx hb dX0_insert_97 (lv_at hl 0 rfl) ?_
        refine kX0_X0_common S hl.1 ⟨Nat.le_of_ble_eq_true rfl, Nat.le_of_ble_eq_true rfl⟩ (Nat.le_of_ble_eq_true rfl) ⟨Nat.zero_le _, Nat.zero_le _⟩ pp (bi d) lim gp d2 (by omega) dX0_insert_99 (fun r2 ⟨sh, hr2, s1, s2, s3⟩ => ?_)
        subst hr2
        obtain ⟨q1, q2, q3⟩ := ins_split gT gp gk gF hwe.symm l1 l2 l3 s1 s2 s3
        have hbd := bt_lt (bi d) sh
        have hbp := bt_lt pp sh
        refine lv_istore (lv' := [(8, .int (nI sh)), (7, .int (nI lim)), (6, .int (nI x)), (5, .int (nI d)), (4, .int (oI ab)), (0, .ref (q 0)), (1, .int (nI pp)), (2, .int (nI k)), (3, .int (nI y))]) hx hb dX0_insert_102 hl (by decide) rfl (fun ls hl => ?_)
        refine lv_iload hx hb dX0_insert_104 (lv_at hl 0 rfl) ?_
        refine lv_iload_n hx hb dX0_insert_106 rfl (lv_at hl 7 rfl) ?_
        refine r_ne (a := sh) (b := k) (tgt := 143) hx hb (by omega) (by omega) dX0_insert_107 (by decide) (fun h => ?_) (fun h => ?_)
        · obtain ⟨q4, q5⟩ := q2 h
          rw [z1] at hP hD
          refine lv_aload_n hx hb dX0_insert_143 rfl (lv_at hl 5 rfl) ?_
          refine lv_iload_n hx hb dX0_insert_144 rfl (lv_at hl 6 rfl) ?_
          refine lv_iload hx hb dX0_insert_145 (lv_at hl 0 rfl) ?_
          refine kX0_X0_cut S hl.1 ⟨Nat.le_of_ble_eq_true rfl, Nat.le_of_ble_eq_true rfl⟩ (Nat.le_of_ble_eq_true rfl) ⟨Nat.zero_le _, Nat.zero_le _⟩ pp sh gp (by omega) dX0_insert_147 ?_
          refine lv_iload hx hb dX0_insert_150 (lv_at hl 0 rfl) ?_
          refine lv_iconst (v := oI none) hx hb dX0_insert_152 (by decide) ?_
          refine kX0_X0_newNode S hl.1 ⟨Nat.le_of_ble_eq_true rfl, Nat.le_of_ble_eq_true rfl⟩ (Nat.le_of_ble_eq_true rfl) ⟨Nat.zero_le _, Nat.zero_le _⟩ hK hP hD hS hA z (ct pp sh) sh none rfl z2 dX0_insert_153 (fun r u H locs hw hP hD hS => ?_)
          subst hw
          have ef : (va_up (va_up ch (2 * x) none) (2 * x + 1) none) (2 * z) = ch (2 * z) := by rw [up_n _ _ (by omega), up_n _ _ (by omega)]
          rw [ef] at hP hD
          have hdz : d ≠ z := fun e => by have := hdu.2; rw [e, z4] at this; cases this
          refine lv_istore (lv' := [(9, .int (nI z)), (8, .int (nI sh)), (7, .int (nI lim)), (6, .int (nI x)), (5, .int (nI d)), (4, .int (oI ab)), (0, .ref (q 0)), (1, .int (nI pp)), (2, .int (nI k)), (3, .int (nI y))]) hx hb dX0_insert_156 hl (by decide) rfl (fun ls hl => ?_)
          refine lv_aload_n hx hb dX0_insert_158 rfl (lv_at hl 6 rfl) ?_
          refine gX0_child hx hb hts hown hK hP dX0_insert_159 ?_
          refine lv_iconst (v := nI 2) hx hb dX0_insert_162 (by decide) ?_
          refine lv_iload hx hb dX0_insert_163 (lv_at hl 0 rfl) ?_
          refine r_imul (a := 2) (b := z) hx hb dX0_insert_165 ?_
          refine lv_iload_n hx hb dX0_insert_166 rfl (lv_at hl 7 rfl) ?_
          refine lv_iload hx hb dX0_insert_167 (lv_at hl 1 rfl) ?_
          refine kX0_X0_bitAt S hl.1 ⟨Nat.le_of_ble_eq_true rfl, Nat.le_of_ble_eq_true rfl⟩ (Nat.le_of_ble_eq_true rfl) ⟨Nat.zero_le _, Nat.zero_le _⟩ pp sh gp (by omega) dX0_insert_169 ?_
          refine r_iadd (a := 2 * z) (b := bt pp sh) hx hb dX0_insert_172 ?_
          refine lv_iload hx hb dX0_insert_173 (lv_at hl 3 rfl) ?_
          refine wX0_child (n := (2 * z) + (bt pp sh)) (v := some x) hx hb hK hP hD hS rfl (by omega) dX0_insert_175 (fun H locs hP hD hS => ?_)
          refine lv_aload_n hx hb dX0_insert_176 rfl (lv_at hl 6 rfl) ?_
          refine gX0_child hx hb hts hown hK hP dX0_insert_177 ?_
          refine lv_iconst (v := nI 2) hx hb dX0_insert_180 (by decide) ?_
          refine lv_iload hx hb dX0_insert_181 (lv_at hl 0 rfl) ?_
          refine r_imul (a := 2) (b := z) hx hb dX0_insert_183 ?_
          refine lv_aload_n hx hb dX0_insert_184 rfl (lv_at hl 6 rfl) ?_
          refine gX0_bits hx hb hts hown hK hP dX0_insert_185 ?_
          refine lv_iload hx hb dX0_insert_188 (lv_at hl 4 rfl) ?_
          refine rX0_bits (n := d) hx hb hK hP rfl (by omega) dX0_insert_190 ?_
          refine r_top (y := nI (bi d)) (by rw [up_n _ _ hdz, up_n _ _ hdx]) ?_
          refine lv_iload hx hb dX0_insert_191 (lv_at hl 1 rfl) ?_
          refine kX0_X0_bitAt S hl.1 ⟨Nat.le_of_ble_eq_true rfl, Nat.le_of_ble_eq_true rfl⟩ (Nat.le_of_ble_eq_true rfl) ⟨Nat.zero_le _, Nat.zero_le _⟩ (bi d) sh d2 (by omega) dX0_insert_193 ?_
          refine r_iadd (a := 2 * z) (b := bt (bi d) sh) hx hb dX0_insert_196 ?_
          refine lv_iload hx hb dX0_insert_197 (lv_at hl 4 rfl) ?_
          refine wX0_child (n := (2 * z) + (bt (bi d) sh)) (v := some d) hx hb hK hP hD hS rfl (by omega) dX0_insert_199 (fun H locs hP hD hS => ?_)
          refine lv_aload_n hx hb dX0_insert_200 rfl (lv_at hl 6 rfl) ?_
          refine lv_iload hx hb dX0_insert_201 (lv_at hl 5 rfl) ?_
          refine lv_iload_n hx hb dX0_insert_203 rfl (lv_at hl 7 rfl) ?_
          refine lv_iload hx hb dX0_insert_204 (lv_at hl 0 rfl) ?_
          have gl2 : ∀ f, ab = some f → f < 64 ∧ (va_up (va_up le x k) z sh) f ≤ 15 := fun f e => by
            have e1 : f ≠ z := fun e2 => by have := (gF.1.1 f e).1.2; rw [e2, z4] at this; cases this
            rw [up_n _ _ e1]; exact gl f e
          refine kX0_X0_lead S hl.1 ⟨Nat.le_of_ble_eq_true rfl, Nat.le_of_ble_eq_true rfl⟩ (Nat.le_of_ble_eq_true rfl) ⟨Nat.zero_le _, Nat.zero_le _⟩ hK hP hD hS hA ab pp (some z) gp gl2 dX0_insert_206 (fun u H locs hw hP hD hS => ?_)
          exact W.vret hx hb hr (fun t ht hW => ⟨⟨(ldR ab (some z) ro, ch (2 * z), va_up (va_up us x true) z true, va_up (va_up bi x pp) z (ct pp sh), va_up (va_up le x k) z sh, va_up (va_up pe x (some y)) z none, ldC (va_up (va_up le x k) z sh) pp ab (some z) (va_up (va_up (va_up (va_up (va_up (va_up ch (2 * x) none) (2 * x + 1) none) (2 * z) none) (2 * z + 1) none) ((2 * z) + (bt pp sh)) (some x)) ((2 * z) + (bt (bi d) sh)) (some d))), rfl, (tok_ins2 gt gh gy gp gk gc gF.1 hwe.symm z1 q4 q1 s2 q5 (fun i i1 i2 => by rw [up_n _ _ (by omega), up_n _ _ (by omega), up_n _ _ (by omega), up_n _ _ (by omega), up_n _ _ (by omega), up_n _ _ (by omega)]) (fun b hb => by
            rw [up_n _ _ (by omega), up_n _ _ (by omega), up_n _ _ (by omega), up_n _ _ (by omega)]
            rcases (show b = 0 ∨ b = 1 by omega) with e | e
            · rw [e, up_n _ _ (by omega), Nat.add_zero, up_s]
            · rw [e, up_s]) (by rw [up_n _ _ (by omega), up_s]) (by rw [up_s])).2.2.2, by rw [ht]; exact hP, va_K.moved hW.alike hK, hD⟩, hS.F ht⟩) hS.2.2 dX0_insert_209
        · subst h
          have hl : lv_has ls 10 [(8, .int (nI sh)), (7, .int (nI lim)), (6, .int (nI x)), (5, .int (nI d)), (4, .int (oI ab)), (0, .ref (q 0)), (1, .int (nI pp)), (2, .int (nI sh)), (3, .int (nI y))] := hl
          refine lv_aload_n hx hb dX0_insert_110 rfl (lv_at hl 5 rfl) ?_
          refine gX0_child hx hb hts hown hK hP dX0_insert_111 ?_
          refine lv_iconst (v := nI 2) hx hb dX0_insert_114 (by decide) ?_
          refine lv_iload hx hb dX0_insert_115 (lv_at hl 2 rfl) ?_
          refine r_imul (a := 2) (b := x) hx hb dX0_insert_117 ?_
          refine lv_aload_n hx hb dX0_insert_118 rfl (lv_at hl 5 rfl) ?_
          refine gX0_bits hx hb hts hown hK hP dX0_insert_119 ?_
          refine lv_iload hx hb dX0_insert_122 (lv_at hl 3 rfl) ?_
          refine rX0_bits (n := d) hx hb hK hP rfl (by omega) dX0_insert_124 ?_
          refine r_top (y := nI (bi d)) (by rw [up_n _ _ hdx]) ?_
          refine lv_iload_n hx hb dX0_insert_125 rfl (lv_at hl 7 rfl) ?_
          refine kX0_X0_bitAt S hl.1 ⟨Nat.le_of_ble_eq_true rfl, Nat.le_of_ble_eq_true rfl⟩ (Nat.le_of_ble_eq_true rfl) ⟨Nat.zero_le _, Nat.zero_le _⟩ (bi d) sh d2 (by omega) dX0_insert_126 ?_
          refine r_iadd (a := 2 * x) (b := bt (bi d) sh) hx hb dX0_insert_129 ?_
          refine lv_iload hx hb dX0_insert_130 (lv_at hl 3 rfl) ?_
          refine wX0_child (n := (2 * x) + (bt (bi d) sh)) (v := some d) hx hb hK hP hD hS rfl (by omega) dX0_insert_132 (fun H locs hP hD hS => ?_)
          refine lv_aload_n hx hb dX0_insert_133 rfl (lv_at hl 5 rfl) ?_
          refine lv_iload hx hb dX0_insert_134 (lv_at hl 4 rfl) ?_
          refine lv_iload_n hx hb dX0_insert_136 rfl (lv_at hl 6 rfl) ?_
          refine lv_iload hx hb dX0_insert_137 (lv_at hl 2 rfl) ?_
          refine kX0_X0_lead S hl.1 ⟨Nat.le_of_ble_eq_true rfl, Nat.le_of_ble_eq_true rfl⟩ (Nat.le_of_ble_eq_true rfl) ⟨Nat.zero_le _, Nat.zero_le _⟩ hK hP hD hS hA ab pp (some x) gp gl dX0_insert_139 (fun u H locs hw hP hD hS => ?_)
          exact W.vret hx hb hr (fun t ht hW => ⟨⟨(ldR ab (some x) ro, ch (2 * x), va_up us x true, va_up bi x pp, va_up le x sh, va_up pe x (some y), ldC (va_up le x sh) pp ab (some x) (va_up (va_up (va_up ch (2 * x) none) (2 * x + 1) none) ((2 * x) + (bt (bi d) sh)) (some d))), rfl, tok_ins1 gt gh gy gp gk gc gF.1 hwe.symm (fun d2 e => by cases e; exact ⟨q1, by rw [q3]; exact gc⟩) (fun i hi => by rw [up_n _ _ (by omega), up_n _ _ (by omega), up_n _ _ (by omega)]) (fun b hb => ⟨fun d2 e e2 => (by cases e; rw [e2, up_s]), fun hh => by
            have hb2 := hh d rfl
            rw [up_n _ _ (by omega)]
            rcases (show b = 0 ∨ b = 1 by omega) with e | e
            · rw [e, up_n _ _ (by omega), Nat.add_zero, up_s]
            · rw [e, up_s]⟩), by rw [ht]; exact hP, va_K.moved hW.alike hK, hD⟩, hS.F ht⟩) hS.2.2 dX0_insert_142
      · refine lv_iload_n hx hb dX0_insert_65 rfl (lv_at hl 5 rfl) ?_
        refine lv_aload_n hx hb dX0_insert_66 rfl (lv_at hl 3 rfl) ?_
        refine gX0_length hx hb hts hown hK hP dX0_insert_67 ?_
        refine lv_iload hx hb dX0_insert_70 (lv_at hl 1 rfl) ?_
        refine rX0_length (n := d) hx hb hK hP rfl (by omega) dX0_insert_72 ?_
        refine r_top (y := nI (le d)) (by rw [up_n _ _ hdx]) ?_
        refine r_ge (a := k) (b := le d) (tgt := 80) hx hb (by omega) (by omega) dX0_insert_73 (by decide) (fun h => ?_) (fun h => ?_)
        · refine lv_aload_n hx hb dX0_insert_80 rfl (lv_at hl 3 rfl) ?_
          refine gX0_length hx hb hts hown hK hP dX0_insert_81 ?_
          refine lv_iload hx hb dX0_insert_84 (lv_at hl 1 rfl) ?_
          refine rX0_length (n := d) hx hb hK hP rfl (by omega) dX0_insert_86 ?_
          refine r_top (y := nI (le d)) (by rw [up_n _ _ hdx]) ?_
          exact J _ ⟨le d, rfl, h, Nat.le_refl _, Or.inr rfl⟩
        · refine lv_iload_n hx hb dX0_insert_76 rfl (lv_at hl 5 rfl) ?_
          refine lv_goto (tgt := 87) hx hb dX0_insert_77 (by decide) ?_
          exact J _ ⟨k, rfl, Nat.le_refl _, Nat.le_of_lt h, Or.inl rfl⟩
    · subst h
      refine lv_aload_n hx hb dX0_insert_55 rfl (lv_at hl 3 rfl) ?_
      refine lv_iload hx hb dX0_insert_56 (lv_at hl 2 rfl) ?_
      refine lv_iload_n hx hb dX0_insert_58 rfl (lv_at hl 4 rfl) ?_
      refine lv_iload hx hb dX0_insert_59 (lv_at hl 0 rfl) ?_
      refine kX0_X0_lead S hl.1 ⟨Nat.le_of_ble_eq_true rfl, Nat.le_of_ble_eq_true rfl⟩ (Nat.le_of_ble_eq_true rfl) ⟨Nat.zero_le _, Nat.zero_le _⟩ hK hP hD hS hA ab pp (some x) gp gl dX0_insert_61 (fun u H locs hw hP hD hS => ?_)
      exact W.vret hx hb hr (fun t ht hW => ⟨⟨(ldR ab (some x) ro, ch (2 * x), va_up us x true, va_up bi x pp, va_up le x k, va_up pe x (some y), ldC (va_up le x k) pp ab (some x) (va_up (va_up ch (2 * x) none) (2 * x + 1) none)), rfl, tok_ins1 gt gh gy gp gk gc gF.1 hwe.symm (fun d e => by cases e) (fun i hi => by rw [up_n _ _ (by omega), up_n _ _ (by omega)]) (fun b hb => ⟨fun d e => (by cases e), fun _ => by
        rcases (show b = 0 ∨ b = 1 by omega) with e | e
        · rw [e, up_n _ _ (by omega), Nat.add_zero, up_s]
        · rw [e, up_s]⟩), by rw [ht]; exact hP, va_K.moved hW.alike hK, hD⟩, hS.F ht⟩) hS.2.2 dX0_insert_64
  · refine r_ifgeO (x := ab) (tgt := 18) hx hb (fun n hn => by have := (gF.1.1 n hn).1.1; omega) dX0_insert_8 (by decide) (fun f h => ?_) (fun h => ?_)
    · subst h
      obtain ⟨f1, f2, -⟩ := gF.1.1 f rfl
      have f6 := f1.1
      have hl : lv_has ls 10 [(4, .int (nI f)), (0, .ref (q 0)), (1, .int (nI pp)), (2, .int (nI k)), (3, .int (nI y))] := hl
      refine lv_aload_n hx hb dX0_insert_18 rfl (lv_at hl 1 rfl) ?_
      refine gX0_child hx hb hts hown hK hP dX0_insert_19 ?_
      refine lv_iconst (v := nI 2) hx hb dX0_insert_22 (by decide) ?_
      refine lv_iload hx hb dX0_insert_23 (lv_at hl 0 rfl) ?_
      refine r_imul (a := 2) (b := f) hx hb dX0_insert_25 ?_
      refine lv_iload_n hx hb dX0_insert_26 rfl (lv_at hl 2 rfl) ?_
      refine lv_aload_n hx hb dX0_insert_27 rfl (lv_at hl 1 rfl) ?_
      refine gX0_length hx hb hts hown hK hP dX0_insert_28 ?_
      refine lv_iload hx hb dX0_insert_31 (lv_at hl 0 rfl) ?_
      refine rX0_length (n := f) hx hb hK hP rfl (by omega) dX0_insert_33 ?_
      refine kX0_X0_bitAt S hl.1 ⟨Nat.le_of_ble_eq_true rfl, Nat.le_of_ble_eq_true rfl⟩ (Nat.le_of_ble_eq_true rfl) ⟨Nat.zero_le _, Nat.zero_le _⟩ pp (le f) gp (by omega) dX0_insert_34 ?_
      refine r_iadd (a := 2 * f) (b := bt pp (le f)) hx hb dX0_insert_37 ?_
      refine rX0_child (n := (2 * f) + (bt pp (le f))) hx hb hK hP rfl (by have := bt_lt pp (le f); omega) dX0_insert_38 ?_
      exact J _ rfl
    · subst h
      refine lv_aload_n hx hb dX0_insert_11 rfl (lv_at hl 1 rfl) ?_
      refine gX0_root hx hb hts hown hK hP dX0_insert_12 ?_
      refine lv_goto (tgt := 39) hx hb dX0_insert_15 (by decide) ?_
      exact J _ rfl
set_option maxRecDepth 100000 in
theorem kX0_X0_insert {p : Program} {l : Launch} {e : Env} {R : Room} {s : State} {m : MethodId} {args : Array Value} {below : List Frame} {meth : Method} {c : Code} {H : Heap} {locs : List Loc} {cells slots : Nat} {Q : State → Prop} {cc : ByteArray} {pc nL : Nat} {ls : Array Slot} {rest : List Value} {A : Nat → Prop} {H0 : Heap} {dC : Nat → ClassId} {dI : Nat → Nat → Nat} {cI cZ : ClassId} {q : Nat → Nat} {he : Nat} {ro : Option Nat} {fr : Option Nat} {ab : Option Nat} {fu : Option Nat} {us : Nat → Bool} {bi : Nat → Nat} {le : Nat → Nat} {pe : Nat → Option Nat} {ch : Nat → Option Nat} {su : Nat → Int} {se : Nat → Int} {ha : Nat → Option Nat} {sk : Nat → Nat} (S : CallFix p m c cc nL s args lw_all RX0) (hls : ls.size = nL) (hR : 2 + 1 ≤ R.frames ∧ 8 + (10 + 11) + 44 ≤ R.locals) (hrest : (rest.map fun v => v.category).sum ≤ 8) (hc : cells ≤ R.cells ∧ slots ≤ R.slots) (hK : va_K (dC, dI) vwCl (xT cI cZ) s) (hP : va_P (dC, dI) vwCl (xW cI cZ q he ro fr ab fu us bi le pe ch su se ha sk) H) (hD : va_D A (xW cI cZ q he ro fr ab fu us bi le pe ch su se ha sk)) (hS : va_S A H0 H locs) (hA : ∀ q : Nat, H0.size ≤ q → A q) (pp k y he0 : Nat) (D : Nat → Nat → Option Nat) (g0 : he = he0 + 1) (gh : he0 < 32) (gy : y < 8) (gp : pp < 65536) (gk : k ≤ 16) (gc : ct pp k = pp) (gt : TOK he0 ro fr us bi le pe ch D) (gF : FP us bi le ro ch pp k none ab fu) (hd : decode cc pc = .ok (.invokevirtual 53, 3)) (kk : ∀ (u : Option Nat × Option Nat × (Nat → Bool) × (Nat → Nat) × (Nat → Nat) × (Nat → Option Nat) × (Nat → Option Nat)) (H : Heap) (locs : List Loc), (TOK he u.1 u.2.1 u.2.2.1 u.2.2.2.1 u.2.2.2.2.1 u.2.2.2.2.2.1 u.2.2.2.2.2.2 (dset D pp k y)) → va_P (dC, dI) vwCl (xW cI cZ q he u.1 u.2.1 ab fu u.2.2.1 u.2.2.2.1 u.2.2.2.2.1 u.2.2.2.2.2.1 u.2.2.2.2.2.2 su se ha sk) H → va_D A (xW cI cZ q he u.1 u.2.1 ab fu u.2.2.1 u.2.2.2.1 u.2.2.2.2.1 u.2.2.2.2.2.1 u.2.2.2.2.2.2 su se ha sk) → va_S A H0 H locs → W p l e R s m args below meth c H locs cells slots Q (F0 m (pc + 3) ls (rest))) : W p l e R s m args below meth c H locs cells slots Q (F0 m pc ls (.int (nI y) :: .int (nI k) :: .int (nI pp) :: .ref (q 0) :: rest)) := by
  have hFc := va_free (wc := xW cI cZ q he ro fr ab fu us bi le pe ch su se ha sk) hD hS hA [0, 1, 2, 3, 4, 5, 6, 7, 8, 9] rfl
  refine va_callv (va_runV (As := [.int (nI pp), .int (nI k), .int (nI y)]) (rest := rest) S (metX0_insert l dC dI cI cZ q H.size he ro fr ab fu us bi le pe ch su se ha sk pp k y he0 D g0 gh gy gp gk gc gt gF) (cwV 3 S.2.2.2.2 (lw_V q91 q93 qs2 q17 q94) rfl rfl rfl (by decide +kernel) hR) ⟨fun a U g mk q => by obtain ⟨q0, q1, qP, qK, qD⟩ := q; exact ⟨q0, q1, qP, va_K.moved (u := U) (U := U.calling g mk a) (Vm.Alike.refl U.vm) qK, qD⟩, va_recv hK hP (ci := 0) (q0 := 0) rfl rfl, fun U hU hW => ⟨rfl, by rw [hU], by rw [hU]; exact hP, va_K.moved hW.alike hK, hD.weaken (fun _ _ _ _ => trivial)⟩⟩ rfl rfl hls rfl (lv_room hrest) hd hc) hS (fun q _ h => hFc q h) hFc (fun u t H1 locs1 ht hvm hw hB hz1 hk1 hS1 => ?_)
  obtain ⟨hP1, hK1, hD1⟩ := hB
  rw [ht] at hP1
  obtain ⟨hP2, hD2⟩ := va_join (wr := []) (w1 := xW cI cZ q he u.1 u.2.1 ab fu u.2.2.1 u.2.2.2.1 u.2.2.2.2.1 u.2.2.2.2.2.1 u.2.2.2.2.2.2 su se ha sk) hP hD [0, 1, 2, 3, 4, 5, 6, 7, 8, 9] [] rfl rfl (by decide) (by decide) hk1 hFc hP1 hD1
  exact kk u H1 locs1 hw hP2 hD2 hS1
end
section
set_option maxRecDepth 100000
set_option maxHeartbeats 4000000 in
set_option maxRecDepth 100000 in
theorem metX0_takeOut (l : Launch) (dC : Nat → ClassId) (dI : Nat → Nat → Nat) (cI cZ : ClassId) (q : Nat → Nat) (sz : Nat) (he : Nat) (ro : Option Nat) (fr : Option Nat) (ab : Option Nat) (fu : Option Nat) (us : Nat → Bool) (bi : Nat → Nat) (le : Nat → Nat) (pe : Nat → Option Nat) (ch : Nat → Option Nat) (su : Nat → Int) (se : Nat → Int) (ha : Nat → Option Nat) (sk : Nat → Nat) (n pp k y : Nat) (D : Nat → Nat → Option Nat) (gt : TOK he ro fr us bi le pe ch D) (gF : FAB us bi le ro ch pp k ab fu) (gn : ud us n) (gb : bi n = pp) (gl : le n = k) (gv : sv ro ch (so le pp ab) = some n) (gy : pe n = some y) : Met l yX0_takeOut (ws_ yX0_takeOut cX0_takeOut 7 none) ({ frames := 2, cells := 0, slots := 0, locals := 44 }) (va_Pc [.ref (q 0), .int (nI n)] (fun U => U.heap.size = sz ∧ va_P (dC, dI) vwCl (xW cI cZ q he ro fr ab fu us bi le pe ch su se ha sk) U.heap ∧ va_K (dC, dI) vwCl (xT cI cZ) U ∧ va_D (fun _ => True) (xW cI cZ q he ro fr ab fu us bi le pe ch su se ha sk))) (va_Qv (fun (u : Nat × Option Nat × Option Nat × (Nat → Bool) × (Nat → Option Nat) × (Nat → Option Nat)) => TOK u.1 u.2.1 u.2.2.1 u.2.2.2.1 bi le u.2.2.2.2.1 u.2.2.2.2.2 (ddel D pp k) ∧ he = u.1 + 1 ∧ (∀ m, ud u.2.2.2.1 m → ud us m) ∧ u.2.2.2.2.1 = va_up pe n none) (fun (u : Nat × Option Nat × Option Nat × (Nat → Bool) × (Nat → Option Nat) × (Nat → Option Nat)) t => va_P (dC, dI) vwCl (xW cI cZ q u.1 u.2.1 u.2.2.1 ab fu u.2.2.2.1 bi le u.2.2.2.2.1 u.2.2.2.2.2 su se ha sk) t.heap ∧ va_K (dC, dI) vwCl (xT cI cZ) t ∧ va_D (va_A (xW cI cZ q he ro fr ab fu us bi le pe ch su se ha sk) sz) (xW cI cZ q u.1 u.2.1 u.2.2.1 ab fu u.2.2.2.1 bi le u.2.2.2.2.1 u.2.2.2.2.2 su se ha sk)) (va_A (xW cI cZ q he ro fr ab fu us bi le pe ch su se ha sk) sz)) 0 0 (va_A (xW cI cZ q he ro fr ab fu us bi le pe ch su se ha sk) sz) := by
  refine Met.ofW (cc := cX0_takeOut) (maxL := 7) (ret := none) (by decide) rfl ?_
  intro p e s m args below meth c s₁ B hml hv
  obtain ⟨rfl, hsz, hP, hK, hD0⟩ := hv
  have hx := B.exec
  have hb := B.bytes
  have hr := B.returns
  have hts := atoms_spec (ws := (ws_ yX0_takeOut cX0_takeOut 7 none)) B.pre
  have hts : ∀ w ∈ lw_all, w.before _ s = true := fun w h => hts w (List.mem_cons_of_mem _ h)
  have hown : s.vm.findClass RX0 = some m.cls := findClass_of_methodNamed B.named
  have hlocks := B.notSynchronized
  subst hsz
  have hD := hD0.self (sz := s.heap.size)
  generalize hAe : va_A (xW cI cZ q he ro fr ab fu us bi le pe ch su se ha sk) s.heap.size = A at hD ⊢
  have hA : ∀ q : Nat, s.heap.size ≤ q → A q := fun q h => by rw [← hAe]; exact Or.inr h
  have hS : va_S A s.heap s.heap [] := va_S.rf
  have hl := lv_entry ([.ref (q 0), .int (nI n)]) (n := 7) (Nat.le_of_ble_eq_true rfl)
  rw [lg_entry_eq]
  generalize (lg_sl ([.ref (q 0), .int (nI n)]) ++ List.replicate (7 - (lg_sl ([.ref (q 0), .int (nI n)])).length) Slot.unset).toArray = ls at hl ⊢
  have hl : lv_has ls 7 [(0, .ref (q 0)), (1, .int (nI n))] := hl
  have S : CallFix p m c _ _ s _ lw_all _ := ⟨hx, hb, hml, hown, hts⟩
  have gT := gt.1
  obtain ⟨n1, n2, n3⟩ := gT.1 n gn
  have n6 := gn.1
  have hpos := tok_pos gt gn gy
  have gp : pp < 65536 := by rw [← gb]; exact n2
  have gk : k ≤ 16 := by rw [← gl]; exact n1
  refine lv_aload_n hx hb dX0_takeOut_0 rfl (lv_at hl 0 rfl) ?_
  refine lv_dup hx hb dX0_takeOut_1 rfl ?_
  refine gX0_held hx hb hts hown hK hP dX0_takeOut_2 ?_
  refine lv_iconst (v := nI 1) hx hb dX0_takeOut_5 (by decide) ?_
  refine r_isub (a := he) (b := 1) hx hb (by omega) dX0_takeOut_6 ?_
  refine pX0_held (v := he - 1) hx hb hts hown hK hP hD hS dX0_takeOut_7 (fun H locs hP hD hS => ?_)
  refine lv_aload_n hx hb dX0_takeOut_10 rfl (lv_at hl 0 rfl) ?_
  refine gX0_peerOf hx hb hts hown hK hP dX0_takeOut_11 ?_
  refine lv_iload_n hx hb dX0_takeOut_14 rfl (lv_at hl 1 rfl) ?_
  refine lv_iconst (v := oI none) hx hb dX0_takeOut_15 (by decide) ?_
  refine wX0_peerOf (n := n) (v := none) hx hb hK hP hD hS rfl (by omega) dX0_takeOut_16 (fun H locs hP hD hS => ?_)
  refine lv_aload_n hx hb dX0_takeOut_17 rfl (lv_at hl 0 rfl) ?_
  refine gX0_child hx hb hts hown hK hP dX0_takeOut_18 ?_
  refine lv_iconst (v := nI 2) hx hb dX0_takeOut_21 (by decide) ?_
  refine lv_iload_n hx hb dX0_takeOut_22 rfl (lv_at hl 1 rfl) ?_
  refine r_imul (a := 2) (b := n) hx hb dX0_takeOut_23 ?_
  refine rX0_child (n := 2 * n) hx hb hK hP rfl (by omega) dX0_takeOut_24 ?_
  refine lv_istore_n (lv' := [(2, .int (oI (ch (2 * n)))), (0, .ref (q 0)), (1, .int (nI n))]) hx hb dX0_takeOut_25 rfl hl (by decide) rfl (fun ls hl => ?_)
  refine lv_aload_n hx hb dX0_takeOut_26 rfl (lv_at hl 1 rfl) ?_
  refine gX0_child hx hb hts hown hK hP dX0_takeOut_27 ?_
  refine lv_iconst (v := nI 2) hx hb dX0_takeOut_30 (by decide) ?_
  refine lv_iload_n hx hb dX0_takeOut_31 rfl (lv_at hl 2 rfl) ?_
  refine r_imul (a := 2) (b := n) hx hb dX0_takeOut_32 ?_
  refine lv_iconst (v := nI 1) hx hb dX0_takeOut_33 (by decide) ?_
  refine r_iadd (a := 2 * n) (b := 1) hx hb dX0_takeOut_34 ?_
  refine rX0_child (n := (2 * n) + 1) hx hb hK hP rfl (by omega) dX0_takeOut_35 ?_
  refine lv_istore_n (lv' := [(3, .int (oI (ch ((2 * n) + 1)))), (2, .int (oI (ch (2 * n)))), (0, .ref (q 0)), (1, .int (nI n))]) hx hb dX0_takeOut_36 rfl hl (by decide) rfl (fun ls hl => ?_)
  refine lv_iload_n hx hb dX0_takeOut_37 rfl (lv_at hl 1 rfl) ?_
  refine r_join (rest := []) 55 (fun v => ∃ rr, v = oI rr ∧ ((ch (2 * n) = none ∧ ch (2 * n + 1) = rr) ∨ (ch (2 * n + 1) = none ∧ ch (2 * n) = rr))) (fun v hv => ?_) (fun J => ?_)
  · obtain ⟨rr, hrr, hk2⟩ := hv
    subst hrr
    refine lv_istore (lv' := [(4, .int (oI rr)), (3, .int (oI (ch ((2 * n) + 1)))), (2, .int (oI (ch (2 * n)))), (0, .ref (q 0)), (1, .int (nI n))]) hx hb dX0_takeOut_55 hl (by decide) rfl (fun ls hl => ?_)
    refine lv_aload_n hx hb dX0_takeOut_57 rfl (lv_at hl 3 rfl) ?_
    refine lv_aload_n hx hb dX0_takeOut_58 rfl (lv_at hl 3 rfl) ?_
    refine gX0_above hx hb hts hown hK hP dX0_takeOut_59 ?_
    refine lv_aload_n hx hb dX0_takeOut_62 rfl (lv_at hl 3 rfl) ?_
    refine gX0_bits hx hb hts hown hK hP dX0_takeOut_63 ?_
    refine lv_iload_n hx hb dX0_takeOut_66 rfl (lv_at hl 4 rfl) ?_
    refine rX0_bits (n := n) hx hb hK hP rfl (by omega) dX0_takeOut_67 ?_
    refine r_top (y := nI pp) (by rw [gb]) ?_
    refine lv_iload hx hb dX0_takeOut_68 (lv_at hl 0 rfl) ?_
    refine kX0_X0_lead S hl.1 ⟨Nat.le_of_ble_eq_true rfl, Nat.le_of_ble_eq_true rfl⟩ (Nat.le_of_ble_eq_true rfl) ⟨Nat.zero_le _, Nat.zero_le _⟩ hK hP hD hS hA ab pp rr gp (fab_lead gT gk gF) dX0_takeOut_70 (fun u H locs hw hP hD hS => ?_)
    refine lv_aload_n hx hb dX0_takeOut_73 rfl (lv_at hl 3 rfl) ?_
    refine lv_iload_n hx hb dX0_takeOut_74 rfl (lv_at hl 4 rfl) ?_
    refine kX0_X0_release S hl.1 ⟨Nat.le_of_ble_eq_true rfl, Nat.le_of_ble_eq_true rfl⟩ (Nat.le_of_ble_eq_true rfl) ⟨Nat.zero_le _, Nat.zero_le _⟩ hK hP hD hS hA n n6 dX0_takeOut_75 (fun u H locs hw hP hD hS => ?_)
    have hrb : ∀ w, rr = some w → w < 2 ^ 31 := fun w hw => by
      rcases hk2 with ⟨_, e⟩ | ⟨_, e⟩
      · exact kid_lt gT gn (b := 1) (by decide) w (e.trans hw)
      · exact kid_lt gT gn (b := 0) (by decide) w (e.trans hw)
    refine lv_iload hx hb dX0_takeOut_78 (lv_at hl 0 rfl) ?_
    refine r_ifgeO (x := rr) (tgt := 167) hx hb hrb dX0_takeOut_80 (by decide) (fun w h => ?_) (fun h => ?_)
    · have hz := tok_out1 gt gn gy gF gl gv hk2 (fun e => by rw [h] at e; cases e)
      rw [gb, gl] at hz
      exact W.vret hx hb hr (fun t ht hW => ⟨⟨(he - 1, ldR ab rr ro, some n, va_up us n false, (va_up pe n none), va_up (ldC le pp ab rr ch) (2 * n) fr), rfl, ⟨hz.2, by have := hz.1; show he = he - 1 + 1; omega, fun m q => ((ud_rm m).mp q).1, rfl⟩, by rw [ht]; exact hP, va_K.moved hW.alike hK, hD⟩, hS.F ht⟩) hS.2.2 dX0_takeOut_167
    · subst h
      have hl : lv_has ls 7 [(4, .int (oI none)), (3, .int (oI (ch ((2 * n) + 1)))), (2, .int (oI (ch (2 * n)))), (0, .ref (q 0)), (1, .int (nI n))] := hl
      refine lv_aload_n hx hb dX0_takeOut_83 rfl (lv_at hl 3 rfl) ?_
      refine gX0_above hx hb hts hown hK hP dX0_takeOut_84 ?_
      refine r_ifltO (x := ab) (tgt := 167) hx hb (fun w hw => by have := (gF.1 w hw).1.1; omega) dX0_takeOut_87 (by decide) (fun h => ?_) (fun f h => ?_)
      · subst h
        have hz := tok_out1 gt gn gy gF gl gv hk2 (fun _ f e => by cases e)
        rw [gb, gl] at hz
        exact W.vret hx hb hr (fun t ht hW => ⟨⟨(he - 1, ldR none none ro, some n, va_up us n false, (va_up pe n none), va_up (ldC le pp none none ch) (2 * n) fr), rfl, ⟨hz.2, by have := hz.1; show he = he - 1 + 1; omega, fun m q => ((ud_rm m).mp q).1, rfl⟩, by rw [ht]; exact hP, va_K.moved hW.alike hK, hD⟩, hS.F ht⟩) hS.2.2 dX0_takeOut_167
      · subst h
        obtain ⟨f1, f2, f3, f4, f5⟩ := gF.1 f rfl
        have f6 := f1.1
        have hfn : f ≠ n := fun e => by rw [e] at f2; omega
        refine lv_aload_n hx hb dX0_takeOut_90 rfl (lv_at hl 3 rfl) ?_
        refine gX0_peerOf hx hb hts hown hK hP dX0_takeOut_91 ?_
        refine lv_aload_n hx hb dX0_takeOut_94 rfl (lv_at hl 3 rfl) ?_
        refine gX0_above hx hb hts hown hK hP dX0_takeOut_95 ?_
        refine r_top (y := nI f) rfl ?_
        refine rX0_peerOf (n := f) hx hb hK hP rfl (by omega) dX0_takeOut_98 ?_
        refine r_top (y := oI (pe f)) (by rw [up_n _ _ hfn]) ?_
        refine r_ifgeO (x := pe f) (tgt := 167) hx hb (fun w hw => by have := gt.2.2.2.1 f w f1 hw; omega) dX0_takeOut_99 (by decide) (fun w h => ?_) (fun h => ?_)
        · have hz := tok_out1 gt gn gy gF gl gv hk2 (fun _ f2 e => by cases e; rw [h]; intro z; cases z)
          rw [gb, gl] at hz
          exact W.vret hx hb hr (fun t ht hW => ⟨⟨(he - 1, ldR (some f) none ro, some n, va_up us n false, (va_up pe n none), va_up (ldC le pp (some f) none ch) (2 * n) fr), rfl, ⟨hz.2, by have := hz.1; show he = he - 1 + 1; omega, fun m q => ((ud_rm m).mp q).1, rfl⟩, by rw [ht]; exact hP, va_K.moved hW.alike hK, hD⟩, hS.F ht⟩) hS.2.2 dX0_takeOut_167
        · refine lv_aload_n hx hb dX0_takeOut_102 rfl (lv_at hl 3 rfl) ?_
          refine gX0_child hx hb hts hown hK hP dX0_takeOut_103 ?_
          refine lv_iconst (v := nI 2) hx hb dX0_takeOut_106 (by decide) ?_
          refine lv_aload_n hx hb dX0_takeOut_107 rfl (lv_at hl 3 rfl) ?_
          refine gX0_above hx hb hts hown hK hP dX0_takeOut_108 ?_
          refine r_top (y := nI f) rfl ?_
          refine r_imul (a := 2) (b := f) hx hb dX0_takeOut_111 ?_
          refine rX0_child (n := 2 * f) hx hb hK hP rfl (by omega) dX0_takeOut_112 ?_
          refine lv_istore (lv' := [(5, .int (oI ((va_up (ldC le pp (some f) none ch) (2 * n) fr) (2 * f)))), (4, .int (oI none)), (3, .int (oI (ch ((2 * n) + 1)))), (2, .int (oI (ch (2 * n)))), (0, .ref (q 0)), (1, .int (nI n))]) hx hb dX0_takeOut_113 hl (by decide) rfl (fun ls hl => ?_)
          refine lv_iload hx hb dX0_takeOut_115 (lv_at hl 0 rfl) ?_
          obtain ⟨ch1, e1⟩ : ∃ z, z = va_up (ldC le pp (some f) none ch) (2 * n) fr := ⟨_, rfl⟩
          rw [← e1] at hP hD
          obtain ⟨cT, cL, c3⟩ := rm_core (r := none) gT gt.2.1 gn (fun f2 e => by cases e; exact ⟨f1, hfn⟩) gv (hk2.imp (fun h => h) (fun h => h))
          rw [← e1] at cT cL c3
          have f1c : ud (va_up us n false) f := (ud_rm f).mpr ⟨f1, hfn⟩
          have hl : lv_has ls 7 [(5, .int (oI ((va_up (ldC le pp (some f) none ch) (2 * n) fr) (2 * f)))), (4, .int (oI none)), (3, .int (oI (ch ((2 * n) + 1)))), (2, .int (oI (ch (2 * n)))), (0, .ref (q 0)), (1, .int (nI n))] := hl
          rw [← e1] at hl
          have hl : lv_has ls 7 [(5, .int (oI (ch1 (2 * f)))), (4, .int (oI none)), (3, .int (oI (ch ((2 * n) + 1)))), (2, .int (oI (ch (2 * n)))), (0, .ref (q 0)), (1, .int (nI n))] := hl
          rw [← e1]
          refine r_join (rest := []) 138 (fun v => ∃ ot, v = oI ot ∧ ((ch1 (2 * f) ≠ none ∧ ot = ch1 (2 * f)) ∨ (ch1 (2 * f) = none ∧ ot = ch1 (2 * f + 1)))) (fun v hv => ?_) (fun J => ?_)
          · obtain ⟨ot, hot, ho2⟩ := hv
            subst hot
            refine lv_istore (lv' := [(6, .int (oI ot)), (5, .int (oI (ch1 (2 * f)))), (4, .int (oI none)), (3, .int (oI (ch ((2 * n) + 1)))), (2, .int (oI (ch (2 * n)))), (0, .ref (q 0)), (1, .int (nI n))]) hx hb dX0_takeOut_138 hl (by decide) rfl (fun ls hl => ?_)
            refine lv_aload_n hx hb dX0_takeOut_140 rfl (lv_at hl 5 rfl) ?_
            refine lv_aload_n hx hb dX0_takeOut_141 rfl (lv_at hl 5 rfl) ?_
            refine gX0_furtherUp hx hb hts hown hK hP dX0_takeOut_142 ?_
            refine lv_aload_n hx hb dX0_takeOut_145 rfl (lv_at hl 5 rfl) ?_
            refine gX0_bits hx hb hts hown hK hP dX0_takeOut_146 ?_
            refine lv_aload_n hx hb dX0_takeOut_149 rfl (lv_at hl 5 rfl) ?_
            refine gX0_above hx hb hts hown hK hP dX0_takeOut_150 ?_
            refine r_top (y := nI f) rfl ?_
            refine rX0_bits (n := f) hx hb hK hP rfl (by omega) dX0_takeOut_153 ?_
            refine lv_iload hx hb dX0_takeOut_154 (lv_at hl 0 rfl) ?_
            refine kX0_X0_lead S hl.1 ⟨Nat.le_of_ble_eq_true rfl, Nat.le_of_ble_eq_true rfl⟩ (Nat.le_of_ble_eq_true rfl) ⟨Nat.zero_le _, Nat.zero_le _⟩ hK hP hD hS hA fu (bi f) ot (gT.1 f f1).2.1 (fab_fu gT gk gF) dX0_takeOut_156 (fun u H locs hw hP hD hS => ?_)
            refine lv_aload_n hx hb dX0_takeOut_159 rfl (lv_at hl 5 rfl) ?_
            refine lv_aload_n hx hb dX0_takeOut_160 rfl (lv_at hl 5 rfl) ?_
            refine gX0_above hx hb hts hown hK hP dX0_takeOut_161 ?_
            refine r_top (y := nI f) rfl ?_
            refine kX0_X0_release S hl.1 ⟨Nat.le_of_ble_eq_true rfl, Nat.le_of_ble_eq_true rfl⟩ (Nat.le_of_ble_eq_true rfl) ⟨Nat.zero_le _, Nat.zero_le _⟩ hK hP hD hS hA f f6 dX0_takeOut_164 (fun u H locs hw hP hD hS => ?_)
            have k0 : ch (2 * n) = none := by rcases hk2 with ⟨e, _⟩ | ⟨_, e⟩; exact e; exact e
            have k1 : ch (2 * n + 1) = none := by rcases hk2 with ⟨_, e⟩ | ⟨e, _⟩; exact e; exact e
            have hz := tok_out0 gt gn gy gF gl gv k0 k1 h e1 ho2
            rw [gb, gl] at hz
            exact W.vret hx hb hr (fun t ht hW => ⟨⟨(he - 1, ldR fu ot ro, some f, va_up (va_up us n false) f false, (va_up pe n none), va_up (ldC le (bi f) fu ot ch1) (2 * f) (some n)), rfl, ⟨hz.2, by have := hz.1; show he = he - 1 + 1; omega, fun m q => ((ud_rm m).mp ((ud_rm m).mp q).1).1, rfl⟩, by rw [ht]; exact hP, va_K.moved hW.alike hK, hD⟩, hS.F ht⟩) hS.2.2 dX0_takeOut_167
          · refine r_ifltO (x := ch1 (2 * f)) (tgt := 125) hx hb (kid_lt cT f1c (b := 0) (by decide)) dX0_takeOut_117 (by decide) (fun h2 => ?_) (fun w2 h2 => ?_)
            · refine lv_aload_n hx hb dX0_takeOut_125 rfl (lv_at hl 4 rfl) ?_
              refine gX0_child hx hb hts hown hK hP dX0_takeOut_126 ?_
              refine lv_iconst (v := nI 2) hx hb dX0_takeOut_129 (by decide) ?_
              refine lv_aload_n hx hb dX0_takeOut_130 rfl (lv_at hl 4 rfl) ?_
              refine gX0_above hx hb hts hown hK hP dX0_takeOut_131 ?_
              refine r_top (y := nI f) rfl ?_
              refine r_imul (a := 2) (b := f) hx hb dX0_takeOut_134 ?_
              refine lv_iconst (v := nI 1) hx hb dX0_takeOut_135 (by decide) ?_
              refine r_iadd (a := 2 * f) (b := 1) hx hb dX0_takeOut_136 ?_
              refine rX0_child (n := (2 * f) + 1) hx hb hK hP rfl (by omega) dX0_takeOut_137 ?_
              exact J _ ⟨_, rfl, Or.inr ⟨h2, rfl⟩⟩
            · refine lv_iload hx hb dX0_takeOut_120 (lv_at hl 0 rfl) ?_
              refine lv_goto (tgt := 138) hx hb dX0_takeOut_122 (by decide) ?_
              exact J _ ⟨_, rfl, Or.inl ⟨(by rw [h2]; intro z; cases z), rfl⟩⟩
  · refine r_ifltO (x := ch (2 * n)) (tgt := 46) hx hb (kid_lt gT gn (b := 0) (by decide)) dX0_takeOut_38 (by decide) (fun h => ?_) (fun w h => ?_)
    · refine lv_iload_n hx hb dX0_takeOut_46 rfl (lv_at hl 1 rfl) ?_
      refine r_ifltO (x := ch (2 * n)) (tgt := 54) hx hb (kid_lt gT gn (b := 0) (by decide)) dX0_takeOut_47 (by decide) (fun h2 => ?_) (fun w2 h2 => ?_)
      · refine lv_iload_n hx hb dX0_takeOut_54 rfl (lv_at hl 0 rfl) ?_
        exact J _ ⟨_, rfl, Or.inl ⟨h, rfl⟩⟩
      · rw [h] at h2; cases h2
    · refine lv_iload_n hx hb dX0_takeOut_41 rfl (lv_at hl 0 rfl) ?_
      refine r_ifltO (x := ch ((2 * n) + 1)) (tgt := 46) hx hb (kid_lt gT gn (b := 1) (by decide)) dX0_takeOut_42 (by decide) (fun h2 => ?_) (fun w2 h2 => ?_)
      · refine lv_iload_n hx hb dX0_takeOut_46 rfl (lv_at hl 1 rfl) ?_
        refine r_ifltO (x := ch (2 * n)) (tgt := 54) hx hb (kid_lt gT gn (b := 0) (by decide)) dX0_takeOut_47 (by decide) (fun h3 => ?_) (fun w3 h3 => ?_)
        · rw [h] at h3; cases h3
        · refine lv_iload_n hx hb dX0_takeOut_50 rfl (lv_at hl 1 rfl) ?_
          refine lv_goto (tgt := 55) hx hb dX0_takeOut_51 (by decide) ?_
          exact J _ ⟨_, rfl, Or.inr ⟨h2, rfl⟩⟩
      · have hz := tok_out2 gt gn gy (by rw [h]; intro z; cases z) (by rw [h2]; intro z; cases z)
        rw [gb, gl] at hz
        exact W.vret hx hb hr (fun t ht hW => ⟨⟨(he - 1, ro, fr, us, (va_up pe n none), ch), rfl, ⟨hz.2, by have := hz.1; show he = he - 1 + 1; omega, fun m q => q, rfl⟩, by rw [ht]; exact hP, va_K.moved hW.alike hK, hD⟩, hS.F ht⟩) hS.2.2 dX0_takeOut_45
set_option maxRecDepth 100000 in
theorem kX0_X0_takeOut {p : Program} {l : Launch} {e : Env} {R : Room} {s : State} {m : MethodId} {args : Array Value} {below : List Frame} {meth : Method} {c : Code} {H : Heap} {locs : List Loc} {cells slots : Nat} {Q : State → Prop} {cc : ByteArray} {pc nL : Nat} {ls : Array Slot} {rest : List Value} {A : Nat → Prop} {H0 : Heap} {dC : Nat → ClassId} {dI : Nat → Nat → Nat} {cI cZ : ClassId} {q : Nat → Nat} {he : Nat} {ro : Option Nat} {fr : Option Nat} {ab : Option Nat} {fu : Option Nat} {us : Nat → Bool} {bi : Nat → Nat} {le : Nat → Nat} {pe : Nat → Option Nat} {ch : Nat → Option Nat} {su : Nat → Int} {se : Nat → Int} {ha : Nat → Option Nat} {sk : Nat → Nat} (S : CallFix p m c cc nL s args lw_all RX0) (hls : ls.size = nL) (hR : 2 + 1 ≤ R.frames ∧ 8 + (7 + 11) + 44 ≤ R.locals) (hrest : (rest.map fun v => v.category).sum ≤ 8) (hc : cells ≤ R.cells ∧ slots ≤ R.slots) (hK : va_K (dC, dI) vwCl (xT cI cZ) s) (hP : va_P (dC, dI) vwCl (xW cI cZ q he ro fr ab fu us bi le pe ch su se ha sk) H) (hD : va_D A (xW cI cZ q he ro fr ab fu us bi le pe ch su se ha sk)) (hS : va_S A H0 H locs) (hA : ∀ q : Nat, H0.size ≤ q → A q) (n pp k y : Nat) (D : Nat → Nat → Option Nat) (gt : TOK he ro fr us bi le pe ch D) (gF : FAB us bi le ro ch pp k ab fu) (gn : ud us n) (gb : bi n = pp) (gl : le n = k) (gv : sv ro ch (so le pp ab) = some n) (gy : pe n = some y) (hd : decode cc pc = .ok (.invokevirtual 57, 3)) (kk : ∀ (u : Nat × Option Nat × Option Nat × (Nat → Bool) × (Nat → Option Nat) × (Nat → Option Nat)) (H : Heap) (locs : List Loc), (TOK u.1 u.2.1 u.2.2.1 u.2.2.2.1 bi le u.2.2.2.2.1 u.2.2.2.2.2 (ddel D pp k) ∧ he = u.1 + 1 ∧ (∀ m, ud u.2.2.2.1 m → ud us m) ∧ u.2.2.2.2.1 = va_up pe n none) → va_P (dC, dI) vwCl (xW cI cZ q u.1 u.2.1 u.2.2.1 ab fu u.2.2.2.1 bi le u.2.2.2.2.1 u.2.2.2.2.2 su se ha sk) H → va_D A (xW cI cZ q u.1 u.2.1 u.2.2.1 ab fu u.2.2.2.1 bi le u.2.2.2.2.1 u.2.2.2.2.2 su se ha sk) → va_S A H0 H locs → W p l e R s m args below meth c H locs cells slots Q (F0 m (pc + 3) ls (rest))) : W p l e R s m args below meth c H locs cells slots Q (F0 m pc ls (.int (nI n) :: .ref (q 0) :: rest)) := by
  have hFc := va_free (wc := xW cI cZ q he ro fr ab fu us bi le pe ch su se ha sk) hD hS hA [0, 1, 2, 3, 4, 5, 6, 7, 8, 9] rfl
  refine va_callv (va_runV (As := [.int (nI n)]) (rest := rest) S (metX0_takeOut l dC dI cI cZ q H.size he ro fr ab fu us bi le pe ch su se ha sk n pp k y D gt gF gn gb gl gv gy) (cwV 1 S.2.2.2.2 (lw_V q110 q112 qs5 q17 q113) rfl rfl rfl (by decide +kernel) hR) ⟨fun a U g mk q => by obtain ⟨q0, q1, qP, qK, qD⟩ := q; exact ⟨q0, q1, qP, va_K.moved (u := U) (U := U.calling g mk a) (Vm.Alike.refl U.vm) qK, qD⟩, va_recv hK hP (ci := 0) (q0 := 0) rfl rfl, fun U hU hW => ⟨rfl, by rw [hU], by rw [hU]; exact hP, va_K.moved hW.alike hK, hD.weaken (fun _ _ _ _ => trivial)⟩⟩ rfl rfl hls rfl (lv_room hrest) hd hc) hS (fun q _ h => hFc q h) hFc (fun u t H1 locs1 ht hvm hw hB hz1 hk1 hS1 => ?_)
  obtain ⟨hP1, hK1, hD1⟩ := hB
  rw [ht] at hP1
  obtain ⟨hP2, hD2⟩ := va_join (wr := []) (w1 := xW cI cZ q u.1 u.2.1 u.2.2.1 ab fu u.2.2.2.1 bi le u.2.2.2.2.1 u.2.2.2.2.2 su se ha sk) hP hD [0, 1, 2, 3, 4, 5, 6, 7, 8, 9] [] rfl rfl (by decide) (by decide) hk1 hFc hP1 hD1
  exact kk u H1 locs1 hw hP2 hD2 hS1
end
section
set_option maxRecDepth 100000
set_option maxHeartbeats 4000000 in
set_option maxRecDepth 100000 in
theorem metX0_allow (l : Launch) (dC : Nat → ClassId) (dI : Nat → Nat → Nat) (cI cZ : ClassId) (q : Nat → Nat) (sz : Nat) (he : Nat) (ro : Option Nat) (fr : Option Nat) (ab : Option Nat) (fu : Option Nat) (us : Nat → Bool) (bi : Nat → Nat) (le : Nat → Nat) (pe : Nat → Option Nat) (ch : Nat → Option Nat) (su : Nat → Int) (se : Nat → Int) (ha : Nat → Option Nat) (sk : Nat → Nat) (x1 x2 x3 : Int32) (D : Nat → Nat → Option Nat) (gt : TOK he ro fr us bi le pe ch D) : Met l yX0_allow (ws_ yX0_allow cX0_allow 6 (some .int)) ({ frames := 3, cells := 0, slots := 0, locals := 73 }) (va_Pc [.ref (q 0), .int x1, .int x2, .int x3] (fun U => U.heap.size = sz ∧ va_P (dC, dI) vwCl (xW cI cZ q he ro fr ab fu us bi le pe ch su se ha sk) U.heap ∧ va_K (dC, dI) vwCl (xT cI cZ) U ∧ va_D (fun _ => True) (xW cI cZ q he ro fr ab fu us bi le pe ch su se ha sk))) (va_Qi (fun (r : Int32) (u : Nat × Option Nat × Option Nat × Option Nat × Option Nat × (Nat → Bool) × (Nat → Nat) × (Nat → Nat) × (Nat → Option Nat) × (Nat → Option Nat)) => ∃ D2, TOK u.1 u.2.1 u.2.2.1 u.2.2.2.2.2.1 u.2.2.2.2.2.2.1 u.2.2.2.2.2.2.2.1 u.2.2.2.2.2.2.2.2.1 u.2.2.2.2.2.2.2.2.2 D2 ∧ ALS D x1 x2 x3 he u.1 D2 r) (fun (u : Nat × Option Nat × Option Nat × Option Nat × Option Nat × (Nat → Bool) × (Nat → Nat) × (Nat → Nat) × (Nat → Option Nat) × (Nat → Option Nat)) t => va_P (dC, dI) vwCl (xW cI cZ q u.1 u.2.1 u.2.2.1 u.2.2.2.1 u.2.2.2.2.1 u.2.2.2.2.2.1 u.2.2.2.2.2.2.1 u.2.2.2.2.2.2.2.1 u.2.2.2.2.2.2.2.2.1 u.2.2.2.2.2.2.2.2.2 su se ha sk) t.heap ∧ va_K (dC, dI) vwCl (xT cI cZ) t ∧ va_D (va_A (xW cI cZ q he ro fr ab fu us bi le pe ch su se ha sk) sz) (xW cI cZ q u.1 u.2.1 u.2.2.1 u.2.2.2.1 u.2.2.2.2.1 u.2.2.2.2.2.1 u.2.2.2.2.2.2.1 u.2.2.2.2.2.2.2.1 u.2.2.2.2.2.2.2.2.1 u.2.2.2.2.2.2.2.2.2 su se ha sk)) (va_A (xW cI cZ q he ro fr ab fu us bi le pe ch su se ha sk) sz)) 0 0 (va_A (xW cI cZ q he ro fr ab fu us bi le pe ch su se ha sk) sz) := by
  refine Met.ofW (cc := cX0_allow) (maxL := 6) (ret := (some .int)) (by decide) rfl ?_
  intro p e s m args below meth c s₁ B hml hv
  obtain ⟨rfl, hsz, hP, hK, hD0⟩ := hv
  have hx := B.exec
  have hb := B.bytes
  have hr := B.returns
  have hts := atoms_spec (ws := (ws_ yX0_allow cX0_allow 6 (some .int))) B.pre
  have hts : ∀ w ∈ lw_all, w.before _ s = true := fun w h => hts w (List.mem_cons_of_mem _ h)
  have hown : s.vm.findClass RX0 = some m.cls := findClass_of_methodNamed B.named
  have hlocks := B.notSynchronized
  subst hsz
  have hD := hD0.self (sz := s.heap.size)
  generalize hAe : va_A (xW cI cZ q he ro fr ab fu us bi le pe ch su se ha sk) s.heap.size = A at hD ⊢
  have hA : ∀ q : Nat, s.heap.size ≤ q → A q := fun q h => by rw [← hAe]; exact Or.inr h
  have hS : va_S A s.heap s.heap [] := va_S.rf
  have hl := lv_entry ([.ref (q 0), .int x1, .int x2, .int x3]) (n := 6) (Nat.le_of_ble_eq_true rfl)
  rw [lg_entry_eq]
  generalize (lg_sl ([.ref (q 0), .int x1, .int x2, .int x3]) ++ List.replicate (6 - (lg_sl ([.ref (q 0), .int x1, .int x2, .int x3])).length) Slot.unset).toArray = ls at hl ⊢
  have hl : lv_has ls 6 [(0, .ref (q 0)), (1, .int x1), (2, .int x2), (3, .int x3)] := hl
  have S : CallFix p m c _ _ s _ lw_all _ := ⟨hx, hb, hml, hown, hts⟩
  refine lv_iload_n hx hb dX0_allow_0 rfl (lv_at hl 2 rfl) ?_
  refine lv_if_lt (tgt := 20) hx hb dX0_allow_1 (by decide) (fun h1 => ?_) (fun h1 => ?_)
  · refine lv_iconst (v := oI none) hx hb dX0_allow_20 (by decide) ?_
    exact W.iret (v := oI none) hx hb hr (fun t ht hW => ⟨⟨oI none, (he, ro, fr, ab, fu, us, bi, le, pe, ch), rfl, ⟨D, gt, als_bad (Or.inl h1)⟩, by rw [ht]; exact hP, va_K.moved hW.alike hK, hD⟩, hS.F ht⟩) hS.2.2 dX0_allow_21
  · refine lv_iload_n hx hb dX0_allow_4 rfl (lv_at hl 2 rfl) ?_
    refine lv_bipush (v := nI 16) hx hb dX0_allow_5 (by decide) ?_
    refine lv_icmp_gt (tgt := 20) hx hb dX0_allow_7 (by decide) (fun h2 => ?_) (fun h2 => ?_)
    · refine lv_iconst (v := oI none) hx hb dX0_allow_20 (by decide) ?_
      exact W.iret (v := oI none) hx hb hr (fun t ht hW => ⟨⟨oI none, (he, ro, fr, ab, fu, us, bi, le, pe, ch), rfl, ⟨D, gt, als_bad (Or.inr (Or.inl h2))⟩, by rw [ht]; exact hP, va_K.moved hW.alike hK, hD⟩, hS.F ht⟩) hS.2.2 dX0_allow_21
    · refine lv_iload_n hx hb dX0_allow_10 rfl (lv_at hl 3 rfl) ?_
      refine lv_if_lt (tgt := 20) hx hb dX0_allow_11 (by decide) (fun h3 => ?_) (fun h3 => ?_)
      · refine lv_iconst (v := oI none) hx hb dX0_allow_20 (by decide) ?_
        exact W.iret (v := oI none) hx hb hr (fun t ht hW => ⟨⟨oI none, (he, ro, fr, ab, fu, us, bi, le, pe, ch), rfl, ⟨D, gt, als_bad (Or.inr (Or.inr (Or.inl h3)))⟩, by rw [ht]; exact hP, va_K.moved hW.alike hK, hD⟩, hS.F ht⟩) hS.2.2 dX0_allow_21
      · refine lv_iload_n hx hb dX0_allow_14 rfl (lv_at hl 3 rfl) ?_
        refine lv_bipush (v := nI 7) hx hb dX0_allow_15 (by decide) ?_
        refine lv_icmp_le (tgt := 22) hx hb dX0_allow_17 (by decide) (fun h4 => ?_) (fun h4 => ?_)
        · obtain ⟨k, gk, ek⟩ := nI_of2 (M := nI 16) (n := 16) (by decide) h1 (nlt_le h2)
          obtain ⟨y, gy, ey⟩ := nI_of2 (M := nI 7) (n := 7) (by decide) h3 h4
          subst ek; subst ey
          obtain ⟨a, ha1, ea⟩ := and16_I x1
          have gT := gt.1
          have hc6 := gt.2.2.2.2.2.1
          have gq : ct a k < 65536 := ct_lt k ha1
          have hl : lv_has ls 6 [(0, .ref (q 0)), (1, .int x1), (2, .int (nI k)), (3, .int (nI y))] := hl
          refine lv_iload_n hx hb dX0_allow_22 rfl (lv_at hl 1 rfl) ?_
          refine lv_ldc (v := nI 65535) hx hb hown (hts _ q76) dX0_allow_23 ?_
          refine lv_iand hx hb dX0_allow_25 ?_
          refine r_top (y := nI a) ea ?_
          refine lv_iload_n hx hb dX0_allow_26 rfl (lv_at hl 2 rfl) ?_
          refine kX0_X0_cut S hl.1 ⟨Nat.le_of_ble_eq_true rfl, Nat.le_of_ble_eq_true rfl⟩ (Nat.le_of_ble_eq_true rfl) ⟨Nat.zero_le _, Nat.zero_le _⟩ a k ha1 gk dX0_allow_27 ?_
          refine lv_istore (lv' := [(4, .int (nI (ct a k))), (0, .ref (q 0)), (1, .int x1), (2, .int (nI k)), (3, .int (nI y))]) hx hb dX0_allow_30 hl (by decide) rfl (fun ls hl => ?_)
          refine lv_aload_n hx hb dX0_allow_32 rfl (lv_at hl 1 rfl) ?_
          refine lv_iload hx hb dX0_allow_33 (lv_at hl 0 rfl) ?_
          refine lv_iload_n hx hb dX0_allow_35 rfl (lv_at hl 3 rfl) ?_
          refine kX0_X0_find S hl.1 ⟨Nat.le_of_ble_eq_true rfl, Nat.le_of_ble_eq_true rfl⟩ (Nat.le_of_ble_eq_true rfl) ⟨Nat.zero_le _, Nat.zero_le _⟩ hK hP hD hS hA (ct a k) k gq (ct_ct a (Nat.le_refl k)) gk gT dX0_allow_36 (fun r u H locs hw hP hD hS => ?_)
          obtain ⟨x, hxr, gF⟩ := hw
          subst hxr
          obtain ⟨ab, fu⟩ := u
          have gF : FP us bi le ro ch (ct a k) k x ab fu := gF
          have hP : va_P (dC, dI) vwCl (xW cI cZ q he ro fr ab fu us bi le pe ch su se ha sk) H := hP
          have hD : va_D A (xW cI cZ q he ro fr ab fu us bi le pe ch su se ha sk) := hD
          refine lv_istore (lv' := [(5, .int (oI x)), (4, .int (nI (ct a k))), (0, .ref (q 0)), (1, .int x1), (2, .int (nI k)), (3, .int (nI y))]) hx hb dX0_allow_39 hl (by decide) rfl (fun ls hl => ?_)
          refine lv_iload hx hb dX0_allow_41 (lv_at hl 0 rfl) ?_
          refine r_ifltO (x := x) (tgt := 69) hx hb (fun w hw => by have := (gF.2.1 w hw).1.1; omega) dX0_allow_43 (by decide) (fun h5 => ?_) (fun n h5 => ?_)
          · subst h5
            have hl : lv_has ls 6 [(5, .int (oI none)), (4, .int (nI (ct a k))), (0, .ref (q 0)), (1, .int x1), (2, .int (nI k)), (3, .int (nI y))] := hl
            have hDn : D (ct a k) k = none := fp_none gT gt.2.2.2.2.2.2 gF
            refine lv_aload_n hx hb dX0_allow_69 rfl (lv_at hl 2 rfl) ?_
            refine gX0_held hx hb hts hown hK hP dX0_allow_70 ?_
            refine lv_bipush (v := nI 32) hx hb dX0_allow_73 (by decide) ?_
            refine r_lt (a := he) (b := 32) (tgt := 80) hx hb (by omega) (by omega) dX0_allow_75 (by decide) (fun h7 => ?_) (fun h7 => ?_)
            · refine lv_aload_n hx hb dX0_allow_80 rfl (lv_at hl 2 rfl) ?_
              refine lv_dup hx hb dX0_allow_81 rfl ?_
              refine gX0_held hx hb hts hown hK hP dX0_allow_82 ?_
              refine lv_iconst (v := nI 1) hx hb dX0_allow_85 (by decide) ?_
              refine r_iadd (a := he) (b := 1) hx hb dX0_allow_86 ?_
              refine pX0_held (v := he + 1) hx hb hts hown hK hP hD hS dX0_allow_87 (fun H locs hP hD hS => ?_)
              refine lv_iload hx hb dX0_allow_90 (lv_at hl 0 rfl) ?_
              refine r_ifltO (x := none) (tgt := 106) hx hb (fun w hw => by cases hw) dX0_allow_92 (by decide) (fun h8 => ?_) (fun w8 h8 => ?_)
              · refine lv_aload_n hx hb dX0_allow_106 rfl (lv_at hl 2 rfl) ?_
                refine lv_iload hx hb dX0_allow_107 (lv_at hl 1 rfl) ?_
                refine lv_iload_n hx hb dX0_allow_109 rfl (lv_at hl 4 rfl) ?_
                refine lv_iload_n hx hb dX0_allow_110 rfl (lv_at hl 5 rfl) ?_
                refine kX0_X0_insert S hl.1 ⟨Nat.le_of_ble_eq_true rfl, Nat.le_of_ble_eq_true rfl⟩ (Nat.le_of_ble_eq_true rfl) ⟨Nat.zero_le _, Nat.zero_le _⟩ hK hP hD hS hA (ct a k) k y he D rfl h7 (by omega) gq gk (ct_ct a (Nat.le_refl k)) gt gF dX0_allow_111 (fun u H locs hw hP hD hS => ?_)
                obtain ⟨ro, fr, us, bi, le, pe, ch⟩ := u
                have hP : va_P (dC, dI) vwCl (xW cI cZ q (he + 1) ro fr ab fu us bi le pe ch su se ha sk) H := hP
                have hD : va_D A (xW cI cZ q (he + 1) ro fr ab fu us bi le pe ch su se ha sk) := hD
                refine lv_aload_n hx hb dX0_allow_114 rfl (lv_at hl 2 rfl) ?_
                refine gX0_held hx hb hts hown hK hP dX0_allow_115 ?_
                exact W.iret (v := nI (he + 1)) hx hb hr (fun t ht hW => ⟨⟨nI (he + 1), (he + 1, ro, fr, ab, fu, us, bi, le, pe, ch), rfl, ⟨_, hw, als_good gk (by omega) ea ha1 (fun z => absurd z.2 (by omega)) (fun _ => ⟨rfl, rfl⟩)⟩, by rw [ht]; exact hP, va_K.moved hW.alike hK, hD⟩, hS.F ht⟩) hS.2.2 dX0_allow_118
              · cases h8
            · refine lv_iconst (v := oI none) hx hb dX0_allow_78 (by decide) ?_
              exact W.iret (v := oI none) hx hb hr (fun t ht hW => ⟨⟨oI none, (he, ro, fr, ab, fu, us, bi, le, pe, ch), rfl, ⟨D, gt, als_good gk (by omega) ea ha1 (fun _ => ⟨rfl, rfl⟩) (fun z => absurd ⟨hDn, by omega⟩ z)⟩, by rw [ht]; exact hP, va_K.moved hW.alike hK, hD⟩, hS.F ht⟩) hS.2.2 dX0_allow_79
          · subst h5
            obtain ⟨n1, n2, n3, n4⟩ := gF.2.1 n rfl
            have n6 := n1.1
            have hl : lv_has ls 6 [(5, .int (nI n)), (4, .int (nI (ct a k))), (0, .ref (q 0)), (1, .int x1), (2, .int (nI k)), (3, .int (nI y))] := hl
            refine lv_aload_n hx hb dX0_allow_46 rfl (lv_at hl 2 rfl) ?_
            refine gX0_peerOf hx hb hts hown hK hP dX0_allow_47 ?_
            refine lv_iload hx hb dX0_allow_50 (lv_at hl 0 rfl) ?_
            refine rX0_peerOf (n := n) hx hb hK hP rfl (by omega) dX0_allow_52 ?_
            refine r_ifltO (x := pe n) (tgt := 69) hx hb (fun w hw => by have := gt.2.2.2.1 n w n1 hw; omega) dX0_allow_53 (by decide) (fun h6 => ?_) (fun w6 h6 => ?_)
            · have hDn : D (ct a k) k = none := by have z := ct_node gT gt.2.2.2.2.2.2 n1; rw [n2, n3, h6] at z; exact z
              refine lv_aload_n hx hb dX0_allow_69 rfl (lv_at hl 2 rfl) ?_
              refine gX0_held hx hb hts hown hK hP dX0_allow_70 ?_
              refine lv_bipush (v := nI 32) hx hb dX0_allow_73 (by decide) ?_
              refine r_lt (a := he) (b := 32) (tgt := 80) hx hb (by omega) (by omega) dX0_allow_75 (by decide) (fun h7 => ?_) (fun h7 => ?_)
              · refine lv_aload_n hx hb dX0_allow_80 rfl (lv_at hl 2 rfl) ?_
                refine lv_dup hx hb dX0_allow_81 rfl ?_
                refine gX0_held hx hb hts hown hK hP dX0_allow_82 ?_
                refine lv_iconst (v := nI 1) hx hb dX0_allow_85 (by decide) ?_
                refine r_iadd (a := he) (b := 1) hx hb dX0_allow_86 ?_
                refine pX0_held (v := he + 1) hx hb hts hown hK hP hD hS dX0_allow_87 (fun H locs hP hD hS => ?_)
                refine lv_iload hx hb dX0_allow_90 (lv_at hl 0 rfl) ?_
                skip
                refine r_ifltN (a := n) (tgt := 106) hx hb (by omega) dX0_allow_92 (by decide) ?_
                refine lv_aload_n hx hb dX0_allow_95 rfl (lv_at hl 2 rfl) ?_
                refine gX0_peerOf hx hb hts hown hK hP dX0_allow_96 ?_
                refine lv_iload hx hb dX0_allow_99 (lv_at hl 0 rfl) ?_
                refine lv_iload_n hx hb dX0_allow_101 rfl (lv_at hl 5 rfl) ?_
                refine wX0_peerOf (n := n) (v := some y) hx hb hK hP hD hS rfl (by omega) dX0_allow_102 (fun H locs hP hD hS => ?_)
                refine lv_goto (tgt := 114) hx hb dX0_allow_103 (by decide) ?_
                refine lv_aload_n hx hb dX0_allow_114 rfl (lv_at hl 2 rfl) ?_
                refine gX0_held hx hb hts hown hK hP dX0_allow_115 ?_
                have hz := tok_set gt n1 (show y < 8 by omega) (he' := he + 1) (by rw [h6]; rfl) (by omega)
                rw [n2, n3] at hz
                exact W.iret (v := nI (he + 1)) hx hb hr (fun t ht hW => ⟨⟨nI (he + 1), (he + 1, ro, fr, ab, fu, us, bi, le, (va_up pe n (some y)), ch), rfl, ⟨_, hz, als_good gk (by omega) ea ha1 (fun z => absurd z.2 (by omega)) (fun _ => ⟨rfl, rfl⟩)⟩, by rw [ht]; exact hP, va_K.moved hW.alike hK, hD⟩, hS.F ht⟩) hS.2.2 dX0_allow_118
              · refine lv_iconst (v := oI none) hx hb dX0_allow_78 (by decide) ?_
                exact W.iret (v := oI none) hx hb hr (fun t ht hW => ⟨⟨oI none, (he, ro, fr, ab, fu, us, bi, le, pe, ch), rfl, ⟨D, gt, als_good gk (by omega) ea ha1 (fun _ => ⟨rfl, rfl⟩) (fun z => absurd ⟨hDn, by omega⟩ z)⟩, by rw [ht]; exact hP, va_K.moved hW.alike hK, hD⟩, hS.F ht⟩) hS.2.2 dX0_allow_79
            · refine lv_aload_n hx hb dX0_allow_56 rfl (lv_at hl 2 rfl) ?_
              refine gX0_peerOf hx hb hts hown hK hP dX0_allow_57 ?_
              refine lv_iload hx hb dX0_allow_60 (lv_at hl 0 rfl) ?_
              refine lv_iload_n hx hb dX0_allow_62 rfl (lv_at hl 5 rfl) ?_
              refine wX0_peerOf (n := n) (v := some y) hx hb hK hP hD hS rfl (by omega) dX0_allow_63 (fun H locs hP hD hS => ?_)
              refine lv_aload_n hx hb dX0_allow_64 rfl (lv_at hl 2 rfl) ?_
              refine gX0_held hx hb hts hown hK hP dX0_allow_65 ?_
              have hz := tok_set gt n1 (show y < 8 by omega) (he' := he) (by rw [h6]; rfl) hc6
              rw [n2, n3] at hz
              exact W.iret (v := nI he) hx hb hr (fun t ht hW => ⟨⟨nI he, (he, ro, fr, ab, fu, us, bi, le, (va_up pe n (some y)), ch), rfl, ⟨_, hz, als_good gk (by omega) ea ha1 (fun z => by have z2 := ct_node gT gt.2.2.2.2.2.2 n1; rw [n2, n3, h6, z.1] at z2; cases z2) (fun _ => ⟨rfl, rfl⟩)⟩, by rw [ht]; exact hP, va_K.moved hW.alike hK, hD⟩, hS.F ht⟩) hS.2.2 dX0_allow_68
        · refine lv_iconst (v := oI none) hx hb dX0_allow_20 (by decide) ?_
          exact W.iret (v := oI none) hx hb hr (fun t ht hW => ⟨⟨oI none, (he, ro, fr, ab, fu, us, bi, le, pe, ch), rfl, ⟨D, gt, als_bad (Or.inr (Or.inr (Or.inr (nle_lt h4))))⟩, by rw [ht]; exact hP, va_K.moved hW.alike hK, hD⟩, hS.F ht⟩) hS.2.2 dX0_allow_21
set_option maxRecDepth 100000 in
theorem kL_X0_allow {p : Program} {l : Launch} {e : Env} {R : Room} {s : State} {m : MethodId} {args : Array Value} {below : List Frame} {meth : Method} {c : Code} {H : Heap} {locs : List Loc} {cells slots : Nat} {Q : State → Prop} {cc : ByteArray} {pc nL : Nat} {ls : Array Slot} {rest : List Value} {A : Nat → Prop} {H0 : Heap} {dC : Nat → ClassId} {dI : Nat → Nat → Nat} {cI cZ : ClassId} {q : Nat → Nat} {he : Nat} {ro : Option Nat} {fr : Option Nat} {ab : Option Nat} {fu : Option Nat} {us : Nat → Bool} {bi : Nat → Nat} {le : Nat → Nat} {pe : Nat → Option Nat} {ch : Nat → Option Nat} {su : Nat → Int} {se : Nat → Int} {ha : Nat → Option Nat} {sk : Nat → Nat} (S : CallFix p m c cc nL s args lw_all "PeerRoutesLaw") (hls : ls.size = nL) (hR : 3 + 1 ≤ R.frames ∧ 8 + (6 + 11) + 73 ≤ R.locals) (hrest : (rest.map fun v => v.category).sum ≤ 8) (hc : cells ≤ R.cells ∧ slots ≤ R.slots) (hK : va_K (dC, dI) vwCl (xT cI cZ) s) (hP : va_P (dC, dI) vwCl (xW cI cZ q he ro fr ab fu us bi le pe ch su se ha sk) H) (hD : va_D A (xW cI cZ q he ro fr ab fu us bi le pe ch su se ha sk)) (hS : va_S A H0 H locs) (hA : ∀ q : Nat, H0.size ≤ q → A q) (x1 x2 x3 : Int32) (D : Nat → Nat → Option Nat) (gt : TOK he ro fr us bi le pe ch D) (hd : decode cc pc = .ok (.invokevirtual 13, 3)) (kk : ∀ (r : Int32) (u : Nat × Option Nat × Option Nat × Option Nat × Option Nat × (Nat → Bool) × (Nat → Nat) × (Nat → Nat) × (Nat → Option Nat) × (Nat → Option Nat)) (H : Heap) (locs : List Loc), (∃ D2, TOK u.1 u.2.1 u.2.2.1 u.2.2.2.2.2.1 u.2.2.2.2.2.2.1 u.2.2.2.2.2.2.2.1 u.2.2.2.2.2.2.2.2.1 u.2.2.2.2.2.2.2.2.2 D2 ∧ ALS D x1 x2 x3 he u.1 D2 r) → va_P (dC, dI) vwCl (xW cI cZ q u.1 u.2.1 u.2.2.1 u.2.2.2.1 u.2.2.2.2.1 u.2.2.2.2.2.1 u.2.2.2.2.2.2.1 u.2.2.2.2.2.2.2.1 u.2.2.2.2.2.2.2.2.1 u.2.2.2.2.2.2.2.2.2 su se ha sk) H → va_D A (xW cI cZ q u.1 u.2.1 u.2.2.1 u.2.2.2.1 u.2.2.2.2.1 u.2.2.2.2.2.1 u.2.2.2.2.2.2.1 u.2.2.2.2.2.2.2.1 u.2.2.2.2.2.2.2.2.1 u.2.2.2.2.2.2.2.2.2 su se ha sk) → va_S A H0 H locs → W p l e R s m args below meth c H locs cells slots Q (F0 m (pc + 3) ls (.int r :: rest))) : W p l e R s m args below meth c H locs cells slots Q (F0 m pc ls (.int x3 :: .int x2 :: .int x1 :: .ref (q 0) :: rest)) := by
  have hFc := va_free (wc := xW cI cZ q he ro fr ab fu us bi le pe ch su se ha sk) hD hS hA [0, 1, 2, 3, 4, 5, 6, 7, 8, 9] rfl
  refine va_calli (va_runV (As := [.int x1, .int x2, .int x3]) (rest := rest) S (metX0_allow l dC dI cI cZ q H.size he ro fr ab fu us bi le pe ch su se ha sk x1 x2 x3 D gt) (cwV 3 S.2.2.2.2 (lw_V q72 q73 q74 q17 q75) rfl rfl rfl (by decide +kernel) hR) ⟨fun a U g mk q => by obtain ⟨q0, q1, qP, qK, qD⟩ := q; exact ⟨q0, q1, qP, va_K.moved (u := U) (U := U.calling g mk a) (Vm.Alike.refl U.vm) qK, qD⟩, va_recv hK hP (ci := 0) (q0 := 0) rfl rfl, fun U hU hW => ⟨rfl, by rw [hU], by rw [hU]; exact hP, va_K.moved hW.alike hK, hD.weaken (fun _ _ _ _ => trivial)⟩⟩ rfl rfl hls rfl (lv_room hrest) hd hc) hS (fun q _ h => hFc q h) hFc (fun r u t H1 locs1 ht hvm hw hB hz1 hk1 hS1 => ?_)
  obtain ⟨hP1, hK1, hD1⟩ := hB
  rw [ht] at hP1
  obtain ⟨hP2, hD2⟩ := va_join (wr := []) (w1 := xW cI cZ q u.1 u.2.1 u.2.2.1 u.2.2.2.1 u.2.2.2.2.1 u.2.2.2.2.2.1 u.2.2.2.2.2.2.1 u.2.2.2.2.2.2.2.1 u.2.2.2.2.2.2.2.2.1 u.2.2.2.2.2.2.2.2.2 su se ha sk) hP hD [0, 1, 2, 3, 4, 5, 6, 7, 8, 9] [] rfl rfl (by decide) (by decide) hk1 hFc hP1 hD1
  exact kk r u H1 locs1 hw hP2 hD2 hS1
set_option maxHeartbeats 4000000 in
set_option maxRecDepth 100000 in
theorem metX0_deny (l : Launch) (dC : Nat → ClassId) (dI : Nat → Nat → Nat) (cI cZ : ClassId) (q : Nat → Nat) (sz : Nat) (he : Nat) (ro : Option Nat) (fr : Option Nat) (ab : Option Nat) (fu : Option Nat) (us : Nat → Bool) (bi : Nat → Nat) (le : Nat → Nat) (pe : Nat → Option Nat) (ch : Nat → Option Nat) (su : Nat → Int) (se : Nat → Int) (ha : Nat → Option Nat) (sk : Nat → Nat) (x1 x2 : Int32) (D : Nat → Nat → Option Nat) (gt : TOK he ro fr us bi le pe ch D) : Met l yX0_deny (ws_ yX0_deny cX0_deny 5 (some .int)) ({ frames := 3, cells := 0, slots := 0, locals := 70 }) (va_Pc [.ref (q 0), .int x1, .int x2] (fun U => U.heap.size = sz ∧ va_P (dC, dI) vwCl (xW cI cZ q he ro fr ab fu us bi le pe ch su se ha sk) U.heap ∧ va_K (dC, dI) vwCl (xT cI cZ) U ∧ va_D (fun _ => True) (xW cI cZ q he ro fr ab fu us bi le pe ch su se ha sk))) (va_Qi (fun (r : Int32) (u : Nat × Option Nat × Option Nat × Option Nat × Option Nat × (Nat → Bool) × (Nat → Nat) × (Nat → Nat) × (Nat → Option Nat) × (Nat → Option Nat)) => ∃ D2, TOK u.1 u.2.1 u.2.2.1 u.2.2.2.2.2.1 u.2.2.2.2.2.2.1 u.2.2.2.2.2.2.2.1 u.2.2.2.2.2.2.2.2.1 u.2.2.2.2.2.2.2.2.2 D2 ∧ DNS D x1 x2 u.1 D2 r) (fun (u : Nat × Option Nat × Option Nat × Option Nat × Option Nat × (Nat → Bool) × (Nat → Nat) × (Nat → Nat) × (Nat → Option Nat) × (Nat → Option Nat)) t => va_P (dC, dI) vwCl (xW cI cZ q u.1 u.2.1 u.2.2.1 u.2.2.2.1 u.2.2.2.2.1 u.2.2.2.2.2.1 u.2.2.2.2.2.2.1 u.2.2.2.2.2.2.2.1 u.2.2.2.2.2.2.2.2.1 u.2.2.2.2.2.2.2.2.2 su se ha sk) t.heap ∧ va_K (dC, dI) vwCl (xT cI cZ) t ∧ va_D (va_A (xW cI cZ q he ro fr ab fu us bi le pe ch su se ha sk) sz) (xW cI cZ q u.1 u.2.1 u.2.2.1 u.2.2.2.1 u.2.2.2.2.1 u.2.2.2.2.2.1 u.2.2.2.2.2.2.1 u.2.2.2.2.2.2.2.1 u.2.2.2.2.2.2.2.2.1 u.2.2.2.2.2.2.2.2.2 su se ha sk)) (va_A (xW cI cZ q he ro fr ab fu us bi le pe ch su se ha sk) sz)) 0 0 (va_A (xW cI cZ q he ro fr ab fu us bi le pe ch su se ha sk) sz) := by
  refine Met.ofW (cc := cX0_deny) (maxL := 5) (ret := (some .int)) (by decide) rfl ?_
  intro p e s m args below meth c s₁ B hml hv
  obtain ⟨rfl, hsz, hP, hK, hD0⟩ := hv
  have hx := B.exec
  have hb := B.bytes
  have hr := B.returns
  have hts := atoms_spec (ws := (ws_ yX0_deny cX0_deny 5 (some .int))) B.pre
  have hts : ∀ w ∈ lw_all, w.before _ s = true := fun w h => hts w (List.mem_cons_of_mem _ h)
  have hown : s.vm.findClass RX0 = some m.cls := findClass_of_methodNamed B.named
  have hlocks := B.notSynchronized
  subst hsz
  have hD := hD0.self (sz := s.heap.size)
  generalize hAe : va_A (xW cI cZ q he ro fr ab fu us bi le pe ch su se ha sk) s.heap.size = A at hD ⊢
  have hA : ∀ q : Nat, s.heap.size ≤ q → A q := fun q h => by rw [← hAe]; exact Or.inr h
  have hS : va_S A s.heap s.heap [] := va_S.rf
  have hl := lv_entry ([.ref (q 0), .int x1, .int x2]) (n := 5) (Nat.le_of_ble_eq_true rfl)
  rw [lg_entry_eq]
  generalize (lg_sl ([.ref (q 0), .int x1, .int x2]) ++ List.replicate (5 - (lg_sl ([.ref (q 0), .int x1, .int x2])).length) Slot.unset).toArray = ls at hl ⊢
  have hl : lv_has ls 5 [(0, .ref (q 0)), (1, .int x1), (2, .int x2)] := hl
  have S : CallFix p m c _ _ s _ lw_all _ := ⟨hx, hb, hml, hown, hts⟩
  refine lv_iload_n hx hb dX0_deny_0 rfl (lv_at hl 2 rfl) ?_
  refine lv_if_lt (tgt := 10) hx hb dX0_deny_1 (by decide) (fun h1 => ?_) (fun h1 => ?_)
  · refine lv_iconst (v := oI none) hx hb dX0_deny_10 (by decide) ?_
    exact W.iret (v := oI none) hx hb hr (fun t ht hW => ⟨⟨oI none, (he, ro, fr, ab, fu, us, bi, le, pe, ch), rfl, ⟨D, gt, dns_bad (Or.inl h1)⟩, by rw [ht]; exact hP, va_K.moved hW.alike hK, hD⟩, hS.F ht⟩) hS.2.2 dX0_deny_11
  · refine lv_iload_n hx hb dX0_deny_4 rfl (lv_at hl 2 rfl) ?_
    refine lv_bipush (v := nI 16) hx hb dX0_deny_5 (by decide) ?_
    refine lv_icmp_le (tgt := 12) hx hb dX0_deny_7 (by decide) (fun h2 => ?_) (fun h2 => ?_)
    · obtain ⟨k, gk, ek⟩ := nI_of2 (M := nI 16) (n := 16) (by decide) h1 h2
      subst ek
      obtain ⟨a, ha1, ea⟩ := and16_I x1
      have gT := gt.1
      have gq : ct a k < 65536 := ct_lt k ha1
      have hl : lv_has ls 5 [(0, .ref (q 0)), (1, .int x1), (2, .int (nI k))] := hl
      refine lv_iload_n hx hb dX0_deny_12 rfl (lv_at hl 1 rfl) ?_
      refine lv_ldc (v := nI 65535) hx hb hown (hts _ q76) dX0_deny_13 ?_
      refine lv_iand hx hb dX0_deny_15 ?_
      refine r_top (y := nI a) ea ?_
      refine lv_iload_n hx hb dX0_deny_16 rfl (lv_at hl 2 rfl) ?_
      refine kX0_X0_cut S hl.1 ⟨Nat.le_of_ble_eq_true rfl, Nat.le_of_ble_eq_true rfl⟩ (Nat.le_of_ble_eq_true rfl) ⟨Nat.zero_le _, Nat.zero_le _⟩ a k ha1 gk dX0_deny_17 ?_
      refine lv_istore_n (lv' := [(3, .int (nI (ct a k))), (0, .ref (q 0)), (1, .int x1), (2, .int (nI k))]) hx hb dX0_deny_20 rfl hl (by decide) rfl (fun ls hl => ?_)
      refine lv_aload_n hx hb dX0_deny_21 rfl (lv_at hl 1 rfl) ?_
      refine lv_iload_n hx hb dX0_deny_22 rfl (lv_at hl 0 rfl) ?_
      refine lv_iload_n hx hb dX0_deny_23 rfl (lv_at hl 3 rfl) ?_
      refine kX0_X0_find S hl.1 ⟨Nat.le_of_ble_eq_true rfl, Nat.le_of_ble_eq_true rfl⟩ (Nat.le_of_ble_eq_true rfl) ⟨Nat.zero_le _, Nat.zero_le _⟩ hK hP hD hS hA (ct a k) k gq (ct_ct a (Nat.le_refl k)) gk gT dX0_deny_24 (fun r u H locs hw hP hD hS => ?_)
      obtain ⟨x, hxr, gF⟩ := hw
      subst hxr
      obtain ⟨ab, fu⟩ := u
      have gF : FP us bi le ro ch (ct a k) k x ab fu := gF
      have hP : va_P (dC, dI) vwCl (xW cI cZ q he ro fr ab fu us bi le pe ch su se ha sk) H := hP
      have hD : va_D A (xW cI cZ q he ro fr ab fu us bi le pe ch su se ha sk) := hD
      refine lv_istore (lv' := [(4, .int (oI x)), (3, .int (nI (ct a k))), (0, .ref (q 0)), (1, .int x1), (2, .int (nI k))]) hx hb dX0_deny_27 hl (by decide) rfl (fun ls hl => ?_)
      refine lv_iload hx hb dX0_deny_29 (lv_at hl 0 rfl) ?_
      refine r_ifltO (x := x) (tgt := 44) hx hb (fun w hw => by have := (gF.2.1 w hw).1.1; omega) dX0_deny_31 (by decide) (fun h5 => ?_) (fun n h5 => ?_)
      · subst h5
        refine lv_iconst (v := oI none) hx hb dX0_deny_44 (by decide) ?_
        exact W.iret (v := oI none) hx hb hr (fun t ht hW => ⟨⟨oI none, (he, ro, fr, ab, fu, us, bi, le, pe, ch), rfl, ⟨D, gt, dns_good gk ea ha1 (fun _ => ⟨rfl, rfl⟩) (fun z => absurd (fp_none gT gt.2.2.2.2.2.2 gF) z)⟩, by rw [ht]; exact hP, va_K.moved hW.alike hK, hD⟩, hS.F ht⟩) hS.2.2 dX0_deny_45
      · subst h5
        obtain ⟨n1, n2, n3, n4⟩ := gF.2.1 n rfl
        have n6 := n1.1
        have hDn := ct_node gT gt.2.2.2.2.2.2 n1
        rw [n2, n3] at hDn
        have hl : lv_has ls 5 [(4, .int (nI n)), (3, .int (nI (ct a k))), (0, .ref (q 0)), (1, .int x1), (2, .int (nI k))] := hl
        refine lv_aload_n hx hb dX0_deny_34 rfl (lv_at hl 2 rfl) ?_
        refine gX0_peerOf hx hb hts hown hK hP dX0_deny_35 ?_
        refine lv_iload hx hb dX0_deny_38 (lv_at hl 0 rfl) ?_
        refine rX0_peerOf (n := n) hx hb hK hP rfl (by omega) dX0_deny_40 ?_
        refine r_ifgeO (x := pe n) (tgt := 46) hx hb (fun w hw => by have := gt.2.2.2.1 n w n1 hw; omega) dX0_deny_41 (by decide) (fun w6 h6 => ?_) (fun h6 => ?_)
        · refine lv_aload_n hx hb dX0_deny_46 rfl (lv_at hl 2 rfl) ?_
          refine lv_iload hx hb dX0_deny_47 (lv_at hl 0 rfl) ?_
          refine kX0_X0_takeOut S hl.1 ⟨Nat.le_of_ble_eq_true rfl, Nat.le_of_ble_eq_true rfl⟩ (Nat.le_of_ble_eq_true rfl) ⟨Nat.zero_le _, Nat.zero_le _⟩ hK hP hD hS hA n (ct a k) k w6 D gt gF.1 n1 n2 n3 n4 h6 dX0_deny_49 (fun u H locs hw hP hD hS => ?_)
          obtain ⟨he, ro, fr, us, pe, ch⟩ := u
          have hP : va_P (dC, dI) vwCl (xW cI cZ q he ro fr ab fu us bi le pe ch su se ha sk) H := hP
          have hD : va_D A (xW cI cZ q he ro fr ab fu us bi le pe ch su se ha sk) := hD
          refine lv_aload_n hx hb dX0_deny_52 rfl (lv_at hl 2 rfl) ?_
          refine gX0_held hx hb hts hown hK hP dX0_deny_53 ?_
          exact W.iret (v := nI he) hx hb hr (fun t ht hW => ⟨⟨nI he, (he, ro, fr, ab, fu, us, bi, le, pe, ch), rfl, ⟨_, hw.1, dns_good gk ea ha1 (fun z => absurd (hDn.symm.trans z) (by rw [h6]; intro q; cases q)) (fun _ => ⟨rfl, rfl⟩)⟩, by rw [ht]; exact hP, va_K.moved hW.alike hK, hD⟩, hS.F ht⟩) hS.2.2 dX0_deny_56
        · refine lv_iconst (v := oI none) hx hb dX0_deny_44 (by decide) ?_
          exact W.iret (v := oI none) hx hb hr (fun t ht hW => ⟨⟨oI none, (he, ro, fr, ab, fu, us, bi, le, pe, ch), rfl, ⟨D, gt, dns_good gk ea ha1 (fun _ => ⟨rfl, rfl⟩) (fun z => absurd (hDn.trans h6) z)⟩, by rw [ht]; exact hP, va_K.moved hW.alike hK, hD⟩, hS.F ht⟩) hS.2.2 dX0_deny_45
    · refine lv_iconst (v := oI none) hx hb dX0_deny_10 (by decide) ?_
      exact W.iret (v := oI none) hx hb hr (fun t ht hW => ⟨⟨oI none, (he, ro, fr, ab, fu, us, bi, le, pe, ch), rfl, ⟨D, gt, dns_bad (Or.inr (nle_lt h2))⟩, by rw [ht]; exact hP, va_K.moved hW.alike hK, hD⟩, hS.F ht⟩) hS.2.2 dX0_deny_11
set_option maxRecDepth 100000 in
theorem kL_X0_deny {p : Program} {l : Launch} {e : Env} {R : Room} {s : State} {m : MethodId} {args : Array Value} {below : List Frame} {meth : Method} {c : Code} {H : Heap} {locs : List Loc} {cells slots : Nat} {Q : State → Prop} {cc : ByteArray} {pc nL : Nat} {ls : Array Slot} {rest : List Value} {A : Nat → Prop} {H0 : Heap} {dC : Nat → ClassId} {dI : Nat → Nat → Nat} {cI cZ : ClassId} {q : Nat → Nat} {he : Nat} {ro : Option Nat} {fr : Option Nat} {ab : Option Nat} {fu : Option Nat} {us : Nat → Bool} {bi : Nat → Nat} {le : Nat → Nat} {pe : Nat → Option Nat} {ch : Nat → Option Nat} {su : Nat → Int} {se : Nat → Int} {ha : Nat → Option Nat} {sk : Nat → Nat} (S : CallFix p m c cc nL s args lw_all "PeerRoutesLaw") (hls : ls.size = nL) (hR : 3 + 1 ≤ R.frames ∧ 8 + (5 + 11) + 70 ≤ R.locals) (hrest : (rest.map fun v => v.category).sum ≤ 8) (hc : cells ≤ R.cells ∧ slots ≤ R.slots) (hK : va_K (dC, dI) vwCl (xT cI cZ) s) (hP : va_P (dC, dI) vwCl (xW cI cZ q he ro fr ab fu us bi le pe ch su se ha sk) H) (hD : va_D A (xW cI cZ q he ro fr ab fu us bi le pe ch su se ha sk)) (hS : va_S A H0 H locs) (hA : ∀ q : Nat, H0.size ≤ q → A q) (x1 x2 : Int32) (D : Nat → Nat → Option Nat) (gt : TOK he ro fr us bi le pe ch D) (hd : decode cc pc = .ok (.invokevirtual 18, 3)) (kk : ∀ (r : Int32) (u : Nat × Option Nat × Option Nat × Option Nat × Option Nat × (Nat → Bool) × (Nat → Nat) × (Nat → Nat) × (Nat → Option Nat) × (Nat → Option Nat)) (H : Heap) (locs : List Loc), (∃ D2, TOK u.1 u.2.1 u.2.2.1 u.2.2.2.2.2.1 u.2.2.2.2.2.2.1 u.2.2.2.2.2.2.2.1 u.2.2.2.2.2.2.2.2.1 u.2.2.2.2.2.2.2.2.2 D2 ∧ DNS D x1 x2 u.1 D2 r) → va_P (dC, dI) vwCl (xW cI cZ q u.1 u.2.1 u.2.2.1 u.2.2.2.1 u.2.2.2.2.1 u.2.2.2.2.2.1 u.2.2.2.2.2.2.1 u.2.2.2.2.2.2.2.1 u.2.2.2.2.2.2.2.2.1 u.2.2.2.2.2.2.2.2.2 su se ha sk) H → va_D A (xW cI cZ q u.1 u.2.1 u.2.2.1 u.2.2.2.1 u.2.2.2.2.1 u.2.2.2.2.2.1 u.2.2.2.2.2.2.1 u.2.2.2.2.2.2.2.1 u.2.2.2.2.2.2.2.2.1 u.2.2.2.2.2.2.2.2.2 su se ha sk) → va_S A H0 H locs → W p l e R s m args below meth c H locs cells slots Q (F0 m (pc + 3) ls (.int r :: rest))) : W p l e R s m args below meth c H locs cells slots Q (F0 m pc ls (.int x2 :: .int x1 :: .ref (q 0) :: rest)) := by
  have hFc := va_free (wc := xW cI cZ q he ro fr ab fu us bi le pe ch su se ha sk) hD hS hA [0, 1, 2, 3, 4, 5, 6, 7, 8, 9] rfl
  refine va_calli (va_runV (As := [.int x1, .int x2]) (rest := rest) S (metX0_deny l dC dI cI cZ q H.size he ro fr ab fu us bi le pe ch su se ha sk x1 x2 D gt) (cwV 2 S.2.2.2.2 (lw_V q106 q107 q108 q17 q109) rfl rfl rfl (by decide +kernel) hR) ⟨fun a U g mk q => by obtain ⟨q0, q1, qP, qK, qD⟩ := q; exact ⟨q0, q1, qP, va_K.moved (u := U) (U := U.calling g mk a) (Vm.Alike.refl U.vm) qK, qD⟩, va_recv hK hP (ci := 0) (q0 := 0) rfl rfl, fun U hU hW => ⟨rfl, by rw [hU], by rw [hU]; exact hP, va_K.moved hW.alike hK, hD.weaken (fun _ _ _ _ => trivial)⟩⟩ rfl rfl hls rfl (lv_room hrest) hd hc) hS (fun q _ h => hFc q h) hFc (fun r u t H1 locs1 ht hvm hw hB hz1 hk1 hS1 => ?_)
  obtain ⟨hP1, hK1, hD1⟩ := hB
  rw [ht] at hP1
  obtain ⟨hP2, hD2⟩ := va_join (wr := []) (w1 := xW cI cZ q u.1 u.2.1 u.2.2.1 u.2.2.2.1 u.2.2.2.2.1 u.2.2.2.2.2.1 u.2.2.2.2.2.2.1 u.2.2.2.2.2.2.2.1 u.2.2.2.2.2.2.2.2.1 u.2.2.2.2.2.2.2.2.2 su se ha sk) hP hD [0, 1, 2, 3, 4, 5, 6, 7, 8, 9] [] rfl rfl (by decide) (by decide) hk1 hFc hP1 hD1
  exact kk r u H1 locs1 hw hP2 hD2 hS1
set_option maxHeartbeats 4000000 in
set_option maxRecDepth 100000 in
theorem metX0_forget (l : Launch) (dC : Nat → ClassId) (dI : Nat → Nat → Nat) (cI cZ : ClassId) (q : Nat → Nat) (sz : Nat) (he : Nat) (ro : Option Nat) (fr : Option Nat) (ab : Option Nat) (fu : Option Nat) (us : Nat → Bool) (bi : Nat → Nat) (le : Nat → Nat) (pe : Nat → Option Nat) (ch : Nat → Option Nat) (su : Nat → Int) (se : Nat → Int) (ha : Nat → Option Nat) (sk : Nat → Nat) (x1 : Int32) (D : Nat → Nat → Option Nat) (gt : TOK he ro fr us bi le pe ch D) : Met l yX0_forget (ws_ yX0_forget cX0_forget 5 (some .int)) ({ frames := 3, cells := 0, slots := 0, locals := 70 }) (va_Pc [.ref (q 0), .int x1] (fun U => U.heap.size = sz ∧ va_P (dC, dI) vwCl (xW cI cZ q he ro fr ab fu us bi le pe ch su se ha sk) U.heap ∧ va_K (dC, dI) vwCl (xT cI cZ) U ∧ va_D (fun _ => True) (xW cI cZ q he ro fr ab fu us bi le pe ch su se ha sk))) (va_Qi (fun (r : Int32) (u : Nat × Option Nat × Option Nat × Option Nat × Option Nat × (Nat → Bool) × (Nat → Nat) × (Nat → Nat) × (Nat → Option Nat) × (Nat → Option Nat)) => ∃ D2, TOK u.1 u.2.1 u.2.2.1 u.2.2.2.2.2.1 u.2.2.2.2.2.2.1 u.2.2.2.2.2.2.2.1 u.2.2.2.2.2.2.2.2.1 u.2.2.2.2.2.2.2.2.2 D2 ∧ FGS D x1 he u.1 D2 r) (fun (u : Nat × Option Nat × Option Nat × Option Nat × Option Nat × (Nat → Bool) × (Nat → Nat) × (Nat → Nat) × (Nat → Option Nat) × (Nat → Option Nat)) t => va_P (dC, dI) vwCl (xW cI cZ q u.1 u.2.1 u.2.2.1 u.2.2.2.1 u.2.2.2.2.1 u.2.2.2.2.2.1 u.2.2.2.2.2.2.1 u.2.2.2.2.2.2.2.1 u.2.2.2.2.2.2.2.2.1 u.2.2.2.2.2.2.2.2.2 su se ha sk) t.heap ∧ va_K (dC, dI) vwCl (xT cI cZ) t ∧ va_D (va_A (xW cI cZ q he ro fr ab fu us bi le pe ch su se ha sk) sz) (xW cI cZ q u.1 u.2.1 u.2.2.1 u.2.2.2.1 u.2.2.2.2.1 u.2.2.2.2.2.1 u.2.2.2.2.2.2.1 u.2.2.2.2.2.2.2.1 u.2.2.2.2.2.2.2.2.1 u.2.2.2.2.2.2.2.2.2 su se ha sk)) (va_A (xW cI cZ q he ro fr ab fu us bi le pe ch su se ha sk) sz)) 0 0 (va_A (xW cI cZ q he ro fr ab fu us bi le pe ch su se ha sk) sz) := by
  refine Met.ofW (cc := cX0_forget) (maxL := 5) (ret := (some .int)) (by decide) rfl ?_
  intro p e s m args below meth c s₁ B hml hv
  obtain ⟨rfl, hsz, hP, hK, hD0⟩ := hv
  have hx := B.exec
  have hb := B.bytes
  have hr := B.returns
  have hts := atoms_spec (ws := (ws_ yX0_forget cX0_forget 5 (some .int))) B.pre
  have hts : ∀ w ∈ lw_all, w.before _ s = true := fun w h => hts w (List.mem_cons_of_mem _ h)
  have hown : s.vm.findClass RX0 = some m.cls := findClass_of_methodNamed B.named
  have hlocks := B.notSynchronized
  subst hsz
  have hD := hD0.self (sz := s.heap.size)
  generalize hAe : va_A (xW cI cZ q he ro fr ab fu us bi le pe ch su se ha sk) s.heap.size = A at hD ⊢
  have hA : ∀ q : Nat, s.heap.size ≤ q → A q := fun q h => by rw [← hAe]; exact Or.inr h
  have hS : va_S A s.heap s.heap [] := va_S.rf
  have hl := lv_entry ([.ref (q 0), .int x1]) (n := 5) (Nat.le_of_ble_eq_true rfl)
  rw [lg_entry_eq]
  generalize (lg_sl ([.ref (q 0), .int x1]) ++ List.replicate (5 - (lg_sl ([.ref (q 0), .int x1])).length) Slot.unset).toArray = ls at hl ⊢
  have hl : lv_has ls 5 [(0, .ref (q 0)), (1, .int x1)] := hl
  have S : CallFix p m c _ _ s _ lw_all _ := ⟨hx, hb, hml, hown, hts⟩
  refine lv_iload_n hx hb dX0_forget_0 rfl (lv_at hl 1 rfl) ?_
  refine lv_if_lt (tgt := 10) hx hb dX0_forget_1 (by decide) (fun h1 => ?_) (fun h1 => ?_)
  · refine lv_iconst (v := oI none) hx hb dX0_forget_10 (by decide) ?_
    exact W.iret (v := oI none) hx hb hr (fun t ht hW => ⟨⟨oI none, (he, ro, fr, ab, fu, us, bi, le, pe, ch), rfl, ⟨D, gt, fgs_bad (Or.inl h1)⟩, by rw [ht]; exact hP, va_K.moved hW.alike hK, hD⟩, hS.F ht⟩) hS.2.2 dX0_forget_11
  · refine lv_iload_n hx hb dX0_forget_4 rfl (lv_at hl 1 rfl) ?_
    refine lv_bipush (v := nI 7) hx hb dX0_forget_5 (by decide) ?_
    refine lv_icmp_le (tgt := 12) hx hb dX0_forget_7 (by decide) (fun h2 => ?_) (fun h2 => ?_)
    · obtain ⟨y, gy, ey⟩ := nI_of2 (M := nI 7) (n := 7) (by decide) h1 h2
      subst ey
      have hl : lv_has ls 5 [(0, .ref (q 0)), (1, .int (nI y))] := hl
      refine lv_iconst (v := nI 0) hx hb dX0_forget_12 (by decide) ?_
      refine lv_istore_n (lv' := [(2, .int (nI 0)), (0, .ref (q 0)), (1, .int (nI y))]) hx hb dX0_forget_13 rfl hl (by decide) rfl (fun ls hl => ?_)
      refine lv_iconst (v := nI 0) hx hb dX0_forget_14 (by decide) ?_
      refine lv_istore_n (lv' := [(3, .int (nI 0)), (2, .int (nI 0)), (0, .ref (q 0)), (1, .int (nI y))]) hx hb dX0_forget_15 rfl hl (by decide) rfl (fun ls hl => ?_)
      refine r_loopH (σ := Nat × Nat × Nat × Option Nat × Option Nat × Option Nat × Option Nat × (Nat → Bool) × (Nat → Option Nat) × (Nat → Option Nat) × (Nat → Nat → Option Nat)) (nL := 5) (fun | (gone, k, he2, ro2, fr2, ab2, fu2, us2, pe2, ch2, D2) => [(0, .ref (q 0)), (1, .int (nI y)), (2, .int (nI gone)), (3, .int (nI k))]) (fun | (gone, k, he2, ro2, fr2, ab2, fu2, us2, pe2, ch2, D2) => xW cI cZ q he2 ro2 fr2 ab2 fu2 us2 bi le pe2 ch2 su se ha sk) (fun | (gone, k, he2, ro2, fr2, ab2, fu2, us2, pe2, ch2, D2) => TOK he2 ro2 fr2 us2 bi le pe2 ch2 D2 ∧ k ≤ 64 ∧ gone + he2 = he ∧ (∀ m, m < k → us2 m = true → pe2 m ≠ some y) ∧ FGI D D2 y) (fun | (gone, k, he2, ro2, fr2, ab2, fu2, us2, pe2, ch2, D2) => 64 - k) (fun x ls H locs hI hl hP hD hS ih => ?_) (0, 0, he, ro, fr, ab, fu, us, pe, ch, D) ⟨gt, by decide, by omega, fun m hm => absurd hm (Nat.not_lt_zero m), fgi_0 y⟩ (lv_sub hl [2, 3, 1, 0] rfl) hP hD hS
      obtain ⟨gone, k, he2, ro2, fr2, ab2, fu2, us2, pe2, ch2, D2⟩ := x
      have hl : lv_has ls 5 [(0, .ref (q 0)), (1, .int (nI y)), (2, .int (nI gone)), (3, .int (nI k))] := hl
      have hP : va_P (dC, dI) vwCl (xW cI cZ q he2 ro2 fr2 ab2 fu2 us2 bi le pe2 ch2 su se ha sk) H := hP
      have hD : va_D A (xW cI cZ q he2 ro2 fr2 ab2 fu2 us2 bi le pe2 ch2 su se ha sk) := hD
      have hI : TOK he2 ro2 fr2 us2 bi le pe2 ch2 D2 ∧ k ≤ 64 ∧ gone + he2 = he ∧ (∀ m, m < k → us2 m = true → pe2 m ≠ some y) ∧ FGI D D2 y := hI
      obtain ⟨t2, i1, i2, i3, i4⟩ := hI
      have gT := t2.1
      refine lv_iload_n hx hb dX0_forget_16 rfl (lv_at hl 3 rfl) ?_
      refine lv_bipush (v := nI 64) hx hb dX0_forget_17 (by decide) ?_
      refine r_ge (a := k) (b := 64) (tgt := 74) hx hb (by omega) (by omega) dX0_forget_19 (by decide) (fun h3 => ?_) (fun h3 => ?_)
      · refine lv_iload_n hx hb dX0_forget_74 rfl (lv_at hl 2 rfl) ?_
        exact W.iret (v := nI gone) hx hb hr (fun t ht hW => ⟨⟨nI gone, (he2, ro2, fr2, ab2, fu2, us2, bi, le, pe2, ch2), rfl, ⟨D2, t2, fgs_good (by omega) (fgi_end i4 (fun pp l e => by
          obtain ⟨m, hm, -, -, e3⟩ := (t2.2.2.2.2.2.2 pp l y).mp e
          exact i3 m (by have := hm.1; omega) hm.2 e3)) (by show he2 ≤ he; omega) (by show nI gone = nI (he - he2); congr 1; omega)⟩, by rw [ht]; exact hP, va_K.moved hW.alike hK, hD⟩, hS.F ht⟩) hS.2.2 dX0_forget_75
      · refine lv_aload_n hx hb dX0_forget_22 rfl (lv_at hl 0 rfl) ?_
        refine gX0_used hx hb hts hown hK hP dX0_forget_23 ?_
        refine lv_iload_n hx hb dX0_forget_26 rfl (lv_at hl 3 rfl) ?_
        refine rX0_used (n := k) hx hb hK hP rfl (by omega) dX0_forget_27 ?_
        refine r_ifeqB (b := us2 k) (tgt := 68) hx hb dX0_forget_28 (by decide) (fun h4 => ?_) (fun h4 => ?_)
        · refine lv_iinc (v := nI (k + 1)) (lv' := [(3, .int (nI (k + 1))), (0, .ref (q 0)), (1, .int (nI y)), (2, .int (nI gone))]) hx hb dX0_forget_68 hl (k := 3) rfl (nI_1 k) (by decide) rfl (fun ls hl => ?_)
          refine lv_goto (tgt := 16) hx hb dX0_forget_71 (by decide) ?_
          exact ih (gone, k + 1, he2, ro2, fr2, ab2, fu2, us2, pe2, ch2, D2) ls H locs ⟨t2, by omega, i2, (fun m hm hu => by
            rcases Nat.lt_or_ge m k with z | z
            · exact i3 m z hu
            · rw [show m = k by omega, h4] at hu; cases hu), i4⟩ (by show 64 - (k + 1) < 64 - k; omega) (lv_sub hl [1, 2, 3, 0] rfl) hP hD hS
        · refine lv_aload_n hx hb dX0_forget_31 rfl (lv_at hl 0 rfl) ?_
          refine gX0_peerOf hx hb hts hown hK hP dX0_forget_32 ?_
          refine lv_iload_n hx hb dX0_forget_35 rfl (lv_at hl 3 rfl) ?_
          refine rX0_peerOf (n := k) hx hb hK hP rfl (by omega) dX0_forget_36 ?_
          refine lv_iload_n hx hb dX0_forget_37 rfl (lv_at hl 1 rfl) ?_
          refine r_neo (x := pe2 k) (y := some y) (tgt := 68) hx hb (fun w hw => by have := t2.2.2.2.1 k w ⟨h3, h4⟩ hw; omega) (fun w hw => by cases hw; omega) dX0_forget_38 (by decide) (fun h5 => ?_) (fun h5 => ?_)
          · refine lv_iinc (v := nI (k + 1)) (lv' := [(3, .int (nI (k + 1))), (0, .ref (q 0)), (1, .int (nI y)), (2, .int (nI gone))]) hx hb dX0_forget_68 hl (k := 3) rfl (nI_1 k) (by decide) rfl (fun ls hl => ?_)
            refine lv_goto (tgt := 16) hx hb dX0_forget_71 (by decide) ?_
            exact ih (gone, k + 1, he2, ro2, fr2, ab2, fu2, us2, pe2, ch2, D2) ls H locs ⟨t2, by omega, i2, (fun m hm hu => by
              rcases Nat.lt_or_ge m k with z | z
              · exact i3 m z hu
              · rw [show m = k by omega]; exact h5), i4⟩ (by show 64 - (k + 1) < 64 - k; omega) (lv_sub hl [1, 2, 3, 0] rfl) hP hD hS
          · have hku : ud us2 k := ⟨h3, h4⟩
            obtain ⟨k1, k2, k3⟩ := gT.1 k hku
            refine lv_aload_n hx hb dX0_forget_41 rfl (lv_at hl 0 rfl) ?_
            refine lv_aload_n hx hb dX0_forget_42 rfl (lv_at hl 0 rfl) ?_
            refine gX0_bits hx hb hts hown hK hP dX0_forget_43 ?_
            refine lv_iload_n hx hb dX0_forget_46 rfl (lv_at hl 3 rfl) ?_
            refine rX0_bits (n := k) hx hb hK hP rfl (by omega) dX0_forget_47 ?_
            refine lv_aload_n hx hb dX0_forget_48 rfl (lv_at hl 0 rfl) ?_
            refine gX0_length hx hb hts hown hK hP dX0_forget_49 ?_
            refine lv_iload_n hx hb dX0_forget_52 rfl (lv_at hl 3 rfl) ?_
            refine rX0_length (n := k) hx hb hK hP rfl (by omega) dX0_forget_53 ?_
            refine kX0_X0_find S hl.1 ⟨Nat.le_of_ble_eq_true rfl, Nat.le_of_ble_eq_true rfl⟩ (Nat.le_of_ble_eq_true rfl) ⟨Nat.zero_le _, Nat.zero_le _⟩ hK hP hD hS hA (bi k) (le k) k2 k3 k1 gT dX0_forget_54 (fun r u H locs hw hP hD hS => ?_)
            obtain ⟨x, hxr, gF⟩ := hw
            subst hxr
            obtain ⟨ab2, fu2⟩ := u
            have gF : FP us2 bi le ro2 ch2 (bi k) (le k) x ab2 fu2 := gF
            have hxk : x = some k := by
              cases x with
              | none => exact (fp_no gT gF hku rfl rfl).elim
              | some n => obtain ⟨n1, n2, n3, -⟩ := gF.2.1 n rfl; rw [gT.2.1 n k n1 hku n3 n2]
            subst hxk
            obtain ⟨n1, n2, n3, n4⟩ := gF.2.1 k rfl
            have hP : va_P (dC, dI) vwCl (xW cI cZ q he2 ro2 fr2 ab2 fu2 us2 bi le pe2 ch2 su se ha sk) H := hP
            have hD : va_D A (xW cI cZ q he2 ro2 fr2 ab2 fu2 us2 bi le pe2 ch2 su se ha sk) := hD
            refine r_top (y := nI k) rfl ?_
            refine lv_istore (lv' := [(4, .int (nI k)), (0, .ref (q 0)), (1, .int (nI y)), (2, .int (nI gone)), (3, .int (nI k))]) hx hb dX0_forget_57 hl (by decide) rfl (fun ls hl => ?_)
            refine lv_aload_n hx hb dX0_forget_59 rfl (lv_at hl 1 rfl) ?_
            refine lv_iload hx hb dX0_forget_60 (lv_at hl 0 rfl) ?_
            refine kX0_X0_takeOut S hl.1 ⟨Nat.le_of_ble_eq_true rfl, Nat.le_of_ble_eq_true rfl⟩ (Nat.le_of_ble_eq_true rfl) ⟨Nat.zero_le _, Nat.zero_le _⟩ hK hP hD hS hA k (bi k) (le k) y D2 t2 gF.1 hku rfl rfl n4 h5 dX0_forget_62 (fun u H locs hw hP hD hS => ?_)
            obtain ⟨he3, ro3, fr3, us3, pe3, ch3⟩ := u
            obtain ⟨t3, j1, j2, j3⟩ := hw
            have j1 : he2 = he3 + 1 := j1
            have j3 : pe3 = va_up pe2 k none := j3
            have hP : va_P (dC, dI) vwCl (xW cI cZ q he3 ro3 fr3 ab2 fu2 us3 bi le pe3 ch3 su se ha sk) H := hP
            have hD : va_D A (xW cI cZ q he3 ro3 fr3 ab2 fu2 us3 bi le pe3 ch3 su se ha sk) := hD
            refine lv_iinc (v := nI (gone + 1)) (lv' := [(2, .int (nI (gone + 1))), (4, .int (nI k)), (0, .ref (q 0)), (1, .int (nI y)), (3, .int (nI k))]) hx hb dX0_forget_65 hl (k := 3) rfl (nI_1 gone) (by decide) rfl (fun ls hl => ?_)
            refine lv_iinc (v := nI (k + 1)) (lv' := [(3, .int (nI (k + 1))), (2, .int (nI (gone + 1))), (4, .int (nI k)), (0, .ref (q 0)), (1, .int (nI y))]) hx hb dX0_forget_68 hl (k := 4) rfl (nI_1 k) (by decide) rfl (fun ls hl => ?_)
            refine lv_goto (tgt := 16) hx hb dX0_forget_71 (by decide) ?_
            exact ih (gone + 1, k + 1, he3, ro3, fr3, ab2, fu2, us3, pe3, ch3, ddel D2 (bi k) (le k)) ls H locs ⟨t3, by omega, by omega, (fun m hm hu => by
              rw [j3]
              rcases Nat.lt_or_ge m k with z | z
              · rw [up_n _ _ (by omega)]; exact i3 m z (j2 m ⟨by omega, hu⟩).2
              · rw [show m = k by omega, up_s]; intro q; cases q), fgi_del i4 (by rw [ct_node gT t2.2.2.2.2.2.2 hku]; exact h5)⟩ (by show 64 - (k + 1) < 64 - k; omega) (lv_sub hl [3, 4, 1, 0] rfl) hP hD hS
    · refine lv_iconst (v := oI none) hx hb dX0_forget_10 (by decide) ?_
      exact W.iret (v := oI none) hx hb hr (fun t ht hW => ⟨⟨oI none, (he, ro, fr, ab, fu, us, bi, le, pe, ch), rfl, ⟨D, gt, fgs_bad (Or.inr (nle_lt h2))⟩, by rw [ht]; exact hP, va_K.moved hW.alike hK, hD⟩, hS.F ht⟩) hS.2.2 dX0_forget_11
set_option maxRecDepth 100000 in
theorem kL_X0_forget {p : Program} {l : Launch} {e : Env} {R : Room} {s : State} {m : MethodId} {args : Array Value} {below : List Frame} {meth : Method} {c : Code} {H : Heap} {locs : List Loc} {cells slots : Nat} {Q : State → Prop} {cc : ByteArray} {pc nL : Nat} {ls : Array Slot} {rest : List Value} {A : Nat → Prop} {H0 : Heap} {dC : Nat → ClassId} {dI : Nat → Nat → Nat} {cI cZ : ClassId} {q : Nat → Nat} {he : Nat} {ro : Option Nat} {fr : Option Nat} {ab : Option Nat} {fu : Option Nat} {us : Nat → Bool} {bi : Nat → Nat} {le : Nat → Nat} {pe : Nat → Option Nat} {ch : Nat → Option Nat} {su : Nat → Int} {se : Nat → Int} {ha : Nat → Option Nat} {sk : Nat → Nat} (S : CallFix p m c cc nL s args lw_all "PeerRoutesLaw") (hls : ls.size = nL) (hR : 3 + 1 ≤ R.frames ∧ 8 + (5 + 11) + 70 ≤ R.locals) (hrest : (rest.map fun v => v.category).sum ≤ 8) (hc : cells ≤ R.cells ∧ slots ≤ R.slots) (hK : va_K (dC, dI) vwCl (xT cI cZ) s) (hP : va_P (dC, dI) vwCl (xW cI cZ q he ro fr ab fu us bi le pe ch su se ha sk) H) (hD : va_D A (xW cI cZ q he ro fr ab fu us bi le pe ch su se ha sk)) (hS : va_S A H0 H locs) (hA : ∀ q : Nat, H0.size ≤ q → A q) (x1 : Int32) (D : Nat → Nat → Option Nat) (gt : TOK he ro fr us bi le pe ch D) (hd : decode cc pc = .ok (.invokevirtual 23, 3)) (kk : ∀ (r : Int32) (u : Nat × Option Nat × Option Nat × Option Nat × Option Nat × (Nat → Bool) × (Nat → Nat) × (Nat → Nat) × (Nat → Option Nat) × (Nat → Option Nat)) (H : Heap) (locs : List Loc), (∃ D2, TOK u.1 u.2.1 u.2.2.1 u.2.2.2.2.2.1 u.2.2.2.2.2.2.1 u.2.2.2.2.2.2.2.1 u.2.2.2.2.2.2.2.2.1 u.2.2.2.2.2.2.2.2.2 D2 ∧ FGS D x1 he u.1 D2 r) → va_P (dC, dI) vwCl (xW cI cZ q u.1 u.2.1 u.2.2.1 u.2.2.2.1 u.2.2.2.2.1 u.2.2.2.2.2.1 u.2.2.2.2.2.2.1 u.2.2.2.2.2.2.2.1 u.2.2.2.2.2.2.2.2.1 u.2.2.2.2.2.2.2.2.2 su se ha sk) H → va_D A (xW cI cZ q u.1 u.2.1 u.2.2.1 u.2.2.2.1 u.2.2.2.2.1 u.2.2.2.2.2.1 u.2.2.2.2.2.2.1 u.2.2.2.2.2.2.2.1 u.2.2.2.2.2.2.2.2.1 u.2.2.2.2.2.2.2.2.2 su se ha sk) → va_S A H0 H locs → W p l e R s m args below meth c H locs cells slots Q (F0 m (pc + 3) ls (.int r :: rest))) : W p l e R s m args below meth c H locs cells slots Q (F0 m pc ls (.int x1 :: .ref (q 0) :: rest)) := by
  have hFc := va_free (wc := xW cI cZ q he ro fr ab fu us bi le pe ch su se ha sk) hD hS hA [0, 1, 2, 3, 4, 5, 6, 7, 8, 9] rfl
  refine va_calli (va_runV (As := [.int x1]) (rest := rest) S (metX0_forget l dC dI cI cZ q H.size he ro fr ab fu us bi le pe ch su se ha sk x1 D gt) (cwV 1 S.2.2.2.2 (lw_V q118 q119 q120 q17 q121) rfl rfl rfl (by decide +kernel) hR) ⟨fun a U g mk q => by obtain ⟨q0, q1, qP, qK, qD⟩ := q; exact ⟨q0, q1, qP, va_K.moved (u := U) (U := U.calling g mk a) (Vm.Alike.refl U.vm) qK, qD⟩, va_recv hK hP (ci := 0) (q0 := 0) rfl rfl, fun U hU hW => ⟨rfl, by rw [hU], by rw [hU]; exact hP, va_K.moved hW.alike hK, hD.weaken (fun _ _ _ _ => trivial)⟩⟩ rfl rfl hls rfl (lv_room hrest) hd hc) hS (fun q _ h => hFc q h) hFc (fun r u t H1 locs1 ht hvm hw hB hz1 hk1 hS1 => ?_)
  obtain ⟨hP1, hK1, hD1⟩ := hB
  rw [ht] at hP1
  obtain ⟨hP2, hD2⟩ := va_join (wr := []) (w1 := xW cI cZ q u.1 u.2.1 u.2.2.1 u.2.2.2.1 u.2.2.2.2.1 u.2.2.2.2.2.1 u.2.2.2.2.2.2.1 u.2.2.2.2.2.2.2.1 u.2.2.2.2.2.2.2.2.1 u.2.2.2.2.2.2.2.2.2 su se ha sk) hP hD [0, 1, 2, 3, 4, 5, 6, 7, 8, 9] [] rfl rfl (by decide) (by decide) hk1 hFc hP1 hD1
  exact kk r u H1 locs1 hw hP2 hD2 hS1
end
section
set_option maxRecDepth 100000
set_option maxHeartbeats 4000000 in
set_option maxRecDepth 100000 in
theorem metX0_visit (l : Launch) (dC : Nat → ClassId) (dI : Nat → Nat → Nat) (cI cZ : ClassId) (q : Nat → Nat) (sz : Nat) (he : Nat) (ro : Option Nat) (fr : Option Nat) (ab : Option Nat) (fu : Option Nat) (us : Nat → Bool) (bi : Nat → Nat) (le : Nat → Nat) (pe : Nat → Option Nat) (ch : Nat → Option Nat) (su : Nat → Int) (se : Nat → Int) (ha : Nat → Option Nat) (sk : Nat → Nat) (n d : Nat) (gn : n < 64) (gl : le n ≤ 16) (gu : ∀ u, ha n = some u → u < 64 ∧ ∃ i, pe u = some i ∧ i < 8) (gy : ∀ y, pe n = some y → y < 8) (gc0 : ∀ w, ch (2 * n) = some w → w < 64) (gc1 : ∀ w, ch (2 * n + 1) = some w → w < 64) (gd : d < 64) (gd2 : ∀ a b, ch (2 * n) = some a → ch (2 * n + 1) = some b → d + 1 < 64) : Met l yX0_visit (ws_ yX0_visit cX0_visit 7 (some .int)) ({ frames := 0, cells := 0, slots := 0, locals := 0 }) (va_Pc [.ref (q 0), .int (nI n), .int (nI d)] (fun U => U.heap.size = sz ∧ va_P (dC, dI) vwCl (xW cI cZ q he ro fr ab fu us bi le pe ch su se ha sk) U.heap ∧ va_K (dC, dI) vwCl (xT cI cZ) U ∧ va_D (fun _ => True) (xW cI cZ q he ro fr ab fu us bi le pe ch su se ha sk))) (va_Qi (fun (r : Int32) (u : (Nat → Int) × (Nat → Int) × (Nat → Option Nat) × (Nat → Nat)) => ∃ up, VS pe le ha n su se u.1 u.2.1 up ∧ u.2.2.1 = puH (ch (2 * n + 1)) up (puH (ch (2 * n)) up ha) ∧ u.2.2.2 = puS (ch (2 * n + 1)) (puT (ch (2 * n)) d) (puS (ch (2 * n)) d sk) ∧ r = nI (puT (ch (2 * n + 1)) (puT (ch (2 * n)) d))) (fun (u : (Nat → Int) × (Nat → Int) × (Nat → Option Nat) × (Nat → Nat)) t => va_P (dC, dI) vwCl (xW cI cZ q he ro fr ab fu us bi le pe ch u.1 u.2.1 u.2.2.1 u.2.2.2) t.heap ∧ va_K (dC, dI) vwCl (xT cI cZ) t ∧ va_D (va_A (xW cI cZ q he ro fr ab fu us bi le pe ch su se ha sk) sz) (xW cI cZ q he ro fr ab fu us bi le pe ch u.1 u.2.1 u.2.2.1 u.2.2.2)) (va_A (xW cI cZ q he ro fr ab fu us bi le pe ch su se ha sk) sz)) 0 0 (va_A (xW cI cZ q he ro fr ab fu us bi le pe ch su se ha sk) sz) := by
  refine Met.ofW (cc := cX0_visit) (maxL := 7) (ret := (some .int)) (by decide) rfl ?_
  intro p e s m args below meth c s₁ B hml hv
  obtain ⟨rfl, hsz, hP, hK, hD0⟩ := hv
  have hx := B.exec
  have hb := B.bytes
  have hr := B.returns
  have hts := atoms_spec (ws := (ws_ yX0_visit cX0_visit 7 (some .int))) B.pre
  have hts : ∀ w ∈ lw_all, w.before _ s = true := fun w h => hts w (List.mem_cons_of_mem _ h)
  have hown : s.vm.findClass RX0 = some m.cls := findClass_of_methodNamed B.named
  have hlocks := B.notSynchronized
  subst hsz
  have hD := hD0.self (sz := s.heap.size)
  generalize hAe : va_A (xW cI cZ q he ro fr ab fu us bi le pe ch su se ha sk) s.heap.size = A at hD ⊢
  have hA : ∀ q : Nat, s.heap.size ≤ q → A q := fun q h => by rw [← hAe]; exact Or.inr h
  have hS : va_S A s.heap s.heap [] := va_S.rf
  have hl := lv_entry ([.ref (q 0), .int (nI n), .int (nI d)]) (n := 7) (Nat.le_of_ble_eq_true rfl)
  rw [lg_entry_eq]
  generalize (lg_sl ([.ref (q 0), .int (nI n), .int (nI d)]) ++ List.replicate (7 - (lg_sl ([.ref (q 0), .int (nI n), .int (nI d)])).length) Slot.unset).toArray = ls at hl ⊢
  have hl : lv_has ls 7 [(0, .ref (q 0)), (1, .int (nI n)), (2, .int (nI d))] := hl
  have S : CallFix p m c _ _ s _ lw_all _ := ⟨hx, hb, hml, hown, hts⟩
  refine lv_aload_n hx hb dX0_visit_0 rfl (lv_at hl 0 rfl) ?_
  refine gX0_heldAbove hx hb hts hown hK hP dX0_visit_1 ?_
  refine lv_iload_n hx hb dX0_visit_4 rfl (lv_at hl 1 rfl) ?_
  refine rX0_heldAbove (n := n) hx hb hK hP rfl (by omega) dX0_visit_5 ?_
  refine lv_istore_n (lv' := [(3, .int (oI (ha n))), (0, .ref (q 0)), (1, .int (nI n)), (2, .int (nI d))]) hx hb dX0_visit_6 rfl hl (by decide) rfl (fun ls hl => ?_)
  refine lv_aload_n hx hb dX0_visit_7 rfl (lv_at hl 1 rfl) ?_
  refine gX0_peerOf hx hb hts hown hK hP dX0_visit_8 ?_
  refine lv_iload_n hx hb dX0_visit_11 rfl (lv_at hl 2 rfl) ?_
  refine rX0_peerOf (n := n) hx hb hK hP rfl (by omega) dX0_visit_12 ?_
  refine r_joinH (σ := (Nat → Int) × (Nat → Int) × Option Nat) (nL := 7) 93 (fun | (su1, se1, up) => [(0, .ref (q 0)), (1, .int (nI n)), (2, .int (nI d)), (3, .int (oI up))]) (fun | (su1, se1, up) => xW cI cZ q he ro fr ab fu us bi le pe ch su1 se1 ha sk) (fun | (su1, se1, up) => VS pe le ha n su se su1 se1 up) (A := A) (H0 := s.heap) (D := (dC, dI)) (cl := vwCl) (fun x ls H locs hv hl hP hD hS => ?_) (fun J => ?_)
  · obtain ⟨su1, se1, up⟩ := x
    have hl : lv_has ls 7 [(0, .ref (q 0)), (1, .int (nI n)), (2, .int (nI d)), (3, .int (oI up))] := hl
    have hP : va_P (dC, dI) vwCl (xW cI cZ q he ro fr ab fu us bi le pe ch su1 se1 ha sk) H := hP
    have hD : va_D A (xW cI cZ q he ro fr ab fu us bi le pe ch su1 se1 ha sk) := hD
    have hv : VS pe le ha n su se su1 se1 up := hv
    refine lv_iload_n hx hb dX0_visit_93 rfl (lv_at hl 2 rfl) ?_
    refine lv_istore (lv' := [(4, .int (nI d)), (0, .ref (q 0)), (1, .int (nI n)), (2, .int (nI d)), (3, .int (oI up))]) hx hb dX0_visit_94 hl (by decide) rfl (fun ls hl => ?_)
    refine lv_iconst (v := nI 0) hx hb dX0_visit_96 (by decide) ?_
    refine lv_istore (lv' := [(5, .int (nI 0)), (4, .int (nI d)), (0, .ref (q 0)), (1, .int (nI n)), (2, .int (nI d)), (3, .int (oI up))]) hx hb dX0_visit_97 hl (by decide) rfl (fun ls hl => ?_)
    refine lv_iload hx hb dX0_visit_99 (lv_at hl 0 rfl) ?_
    refine lv_iconst (v := nI 2) hx hb dX0_visit_101 (by decide) ?_
    refine r_ge (a := 0) (b := 2) (tgt := 149) hx hb (by omega) (by omega) dX0_visit_102 (by decide) (fun hz => ?_) (fun hz => ?_)
    · exact absurd hz (by omega)
    · refine lv_aload_n hx hb dX0_visit_105 rfl (lv_at hl 2 rfl) ?_
      refine gX0_child hx hb hts hown hK hP dX0_visit_106 ?_
      refine lv_iconst (v := nI 2) hx hb dX0_visit_109 (by decide) ?_
      refine lv_iload_n hx hb dX0_visit_110 rfl (lv_at hl 3 rfl) ?_
      refine r_imul (a := 2) (b := n) hx hb dX0_visit_111 ?_
      refine lv_iload hx hb dX0_visit_112 (lv_at hl 0 rfl) ?_
      refine r_iadd (a := 2 * n) (b := 0) hx hb dX0_visit_114 ?_
      refine rX0_child (n := (2 * n) + 0) hx hb hK hP rfl (by omega) dX0_visit_115 ?_
      refine r_top (y := oI (ch (2 * n))) rfl ?_
      refine lv_istore (lv' := [(6, .int (oI (ch (2 * n)))), (5, .int (nI 0)), (4, .int (nI d)), (0, .ref (q 0)), (1, .int (nI n)), (2, .int (nI d)), (3, .int (oI up))]) hx hb dX0_visit_116 hl (by decide) rfl (fun ls hl => ?_)
      refine lv_iload hx hb dX0_visit_118 (lv_at hl 0 rfl) ?_
      refine r_ifltO (x := ch (2 * n)) (tgt := 143) hx hb (fun w hw => by have := gc0 w hw; omega) dX0_visit_120 (by decide) (fun k0 => ?_) (fun a0 k0 => ?_)
      · refine lv_iinc (v := nI (0 + 1)) (lv' := [(5, .int (nI (0 + 1))), (6, .int (oI (ch (2 * n)))), (4, .int (nI d)), (0, .ref (q 0)), (1, .int (nI n)), (2, .int (nI d)), (3, .int (oI up))]) hx hb dX0_visit_143 hl (k := 1) rfl (nI_1 0) (by decide) rfl (fun ls hl => ?_)
        refine lv_goto (tgt := 99) hx hb dX0_visit_146 (by decide) ?_
        refine lv_iload hx hb dX0_visit_99 (lv_at hl 0 rfl) ?_
        refine lv_iconst (v := nI 2) hx hb dX0_visit_101 (by decide) ?_
        refine r_ge (a := 0 + 1) (b := 2) (tgt := 149) hx hb (by omega) (by omega) dX0_visit_102 (by decide) (fun hz => ?_) (fun hz => ?_)
        · exact absurd hz (by omega)
        · refine lv_aload_n hx hb dX0_visit_105 rfl (lv_at hl 3 rfl) ?_
          refine gX0_child hx hb hts hown hK hP dX0_visit_106 ?_
          refine lv_iconst (v := nI 2) hx hb dX0_visit_109 (by decide) ?_
          refine lv_iload_n hx hb dX0_visit_110 rfl (lv_at hl 4 rfl) ?_
          refine r_imul (a := 2) (b := n) hx hb dX0_visit_111 ?_
          refine lv_iload hx hb dX0_visit_112 (lv_at hl 0 rfl) ?_
          refine r_iadd (a := 2 * n) (b := 0 + 1) hx hb dX0_visit_114 ?_
          refine rX0_child (n := (2 * n) + (0 + 1)) hx hb hK hP rfl (by omega) dX0_visit_115 ?_
          refine r_top (y := oI (ch (2 * n + 1))) rfl ?_
          refine lv_istore (lv' := [(6, .int (oI (ch (2 * n + 1)))), (5, .int (nI (0 + 1))), (4, .int (nI d)), (0, .ref (q 0)), (1, .int (nI n)), (2, .int (nI d)), (3, .int (oI up))]) hx hb dX0_visit_116 hl (by decide) rfl (fun ls hl => ?_)
          refine lv_iload hx hb dX0_visit_118 (lv_at hl 0 rfl) ?_
          refine r_ifltO (x := ch (2 * n + 1)) (tgt := 143) hx hb (fun w hw => by have := gc1 w hw; omega) dX0_visit_120 (by decide) (fun k1 => ?_) (fun w k1 => ?_)
          · refine lv_iinc (v := nI (0 + 1 + 1)) (lv' := [(5, .int (nI (0 + 1 + 1))), (6, .int (oI (ch (2 * n + 1)))), (4, .int (nI d)), (0, .ref (q 0)), (1, .int (nI n)), (2, .int (nI d)), (3, .int (oI up))]) hx hb dX0_visit_143 hl (k := 1) rfl (nI_1 (0 + 1)) (by decide) rfl (fun ls hl => ?_)
            refine lv_goto (tgt := 99) hx hb dX0_visit_146 (by decide) ?_
            refine lv_iload hx hb dX0_visit_99 (lv_at hl 0 rfl) ?_
            refine lv_iconst (v := nI 2) hx hb dX0_visit_101 (by decide) ?_
            refine r_ge (a := 0 + 1 + 1) (b := 2) (tgt := 149) hx hb (by omega) (by omega) dX0_visit_102 (by decide) (fun hz => ?_) (fun hz => ?_)
            · refine lv_iload hx hb dX0_visit_149 (lv_at hl 2 rfl) ?_
              exact W.iret (v := nI d) hx hb hr (fun t ht hW => ⟨⟨nI d, (su1, se1, ha, sk), rfl, ⟨up, hv, by rw [k0, k1]; rfl, by rw [k0, k1]; rfl, by rw [k0, k1]; rfl⟩, by rw [ht]; exact hP, va_K.moved hW.alike hK, hD⟩, hS.F ht⟩) hS.2.2 dX0_visit_151
            · exact absurd hz (by omega)
          · have w6 := gc1 w k1
            rw [k1] at hl
            have hl : lv_has ls 7 [(6, .int (nI w)), (5, .int (nI (0 + 1))), (4, .int (nI d)), (0, .ref (q 0)), (1, .int (nI n)), (2, .int (nI d)), (3, .int (oI up))] := hl
            refine lv_aload_n hx hb dX0_visit_123 rfl (lv_at hl 3 rfl) ?_
            refine gX0_heldAbove hx hb hts hown hK hP dX0_visit_124 ?_
            refine lv_iload hx hb dX0_visit_127 (lv_at hl 0 rfl) ?_
            refine lv_iload_n hx hb dX0_visit_129 rfl (lv_at hl 6 rfl) ?_
            refine wX0_heldAbove (n := w) (v := up) hx hb hK hP hD hS rfl (by omega) dX0_visit_130 (fun H locs hP hD hS => ?_)
            refine lv_aload_n hx hb dX0_visit_131 rfl (lv_at hl 3 rfl) ?_
            refine gX0_stack hx hb hts hown hK hP dX0_visit_132 ?_
            refine lv_iload hx hb dX0_visit_135 (lv_at hl 2 rfl) ?_
            refine lv_iload hx hb dX0_visit_137 (lv_at hl 0 rfl) ?_
            refine wX0_stack (n := d) (v := w) hx hb hK hP hD hS rfl (by omega) dX0_visit_139 (fun H locs hP hD hS => ?_)
            refine lv_iinc (v := nI (d + 1)) (lv' := [(4, .int (nI (d + 1))), (6, .int (nI w)), (5, .int (nI (0 + 1))), (0, .ref (q 0)), (1, .int (nI n)), (2, .int (nI d)), (3, .int (oI up))]) hx hb dX0_visit_140 hl (k := 2) rfl (nI_1 d) (by decide) rfl (fun ls hl => ?_)
            refine lv_iinc (v := nI (0 + 1 + 1)) (lv' := [(5, .int (nI (0 + 1 + 1))), (4, .int (nI (d + 1))), (6, .int (nI w)), (0, .ref (q 0)), (1, .int (nI n)), (2, .int (nI d)), (3, .int (oI up))]) hx hb dX0_visit_143 hl (k := 2) rfl (nI_1 (0 + 1)) (by decide) rfl (fun ls hl => ?_)
            refine lv_goto (tgt := 99) hx hb dX0_visit_146 (by decide) ?_
            refine lv_iload hx hb dX0_visit_99 (lv_at hl 0 rfl) ?_
            refine lv_iconst (v := nI 2) hx hb dX0_visit_101 (by decide) ?_
            refine r_ge (a := 0 + 1 + 1) (b := 2) (tgt := 149) hx hb (by omega) (by omega) dX0_visit_102 (by decide) (fun hz => ?_) (fun hz => ?_)
            · refine lv_iload hx hb dX0_visit_149 (lv_at hl 1 rfl) ?_
              exact W.iret (v := nI (d + 1)) hx hb hr (fun t ht hW => ⟨⟨nI (d + 1), (su1, se1, (va_up ha w up), (va_up sk d w)), rfl, ⟨up, hv, by rw [k0, k1]; rfl, by rw [k0, k1]; rfl, by rw [k0, k1]; rfl⟩, by rw [ht]; exact hP, va_K.moved hW.alike hK, hD⟩, hS.F ht⟩) hS.2.2 dX0_visit_151
            · exact absurd hz (by omega)
      · have a6 := gc0 a0 k0
        rw [k0] at hl
        have hl : lv_has ls 7 [(6, .int (nI a0)), (5, .int (nI 0)), (4, .int (nI d)), (0, .ref (q 0)), (1, .int (nI n)), (2, .int (nI d)), (3, .int (oI up))] := hl
        refine lv_aload_n hx hb dX0_visit_123 rfl (lv_at hl 3 rfl) ?_
        refine gX0_heldAbove hx hb hts hown hK hP dX0_visit_124 ?_
        refine lv_iload hx hb dX0_visit_127 (lv_at hl 0 rfl) ?_
        refine lv_iload_n hx hb dX0_visit_129 rfl (lv_at hl 6 rfl) ?_
        refine wX0_heldAbove (n := a0) (v := up) hx hb hK hP hD hS rfl (by omega) dX0_visit_130 (fun H locs hP hD hS => ?_)
        refine lv_aload_n hx hb dX0_visit_131 rfl (lv_at hl 3 rfl) ?_
        refine gX0_stack hx hb hts hown hK hP dX0_visit_132 ?_
        refine lv_iload hx hb dX0_visit_135 (lv_at hl 2 rfl) ?_
        refine lv_iload hx hb dX0_visit_137 (lv_at hl 0 rfl) ?_
        refine wX0_stack (n := d) (v := a0) hx hb hK hP hD hS rfl (by omega) dX0_visit_139 (fun H locs hP hD hS => ?_)
        refine lv_iinc (v := nI (d + 1)) (lv' := [(4, .int (nI (d + 1))), (6, .int (nI a0)), (5, .int (nI 0)), (0, .ref (q 0)), (1, .int (nI n)), (2, .int (nI d)), (3, .int (oI up))]) hx hb dX0_visit_140 hl (k := 2) rfl (nI_1 d) (by decide) rfl (fun ls hl => ?_)
        refine lv_iinc (v := nI (0 + 1)) (lv' := [(5, .int (nI (0 + 1))), (4, .int (nI (d + 1))), (6, .int (nI a0)), (0, .ref (q 0)), (1, .int (nI n)), (2, .int (nI d)), (3, .int (oI up))]) hx hb dX0_visit_143 hl (k := 2) rfl (nI_1 0) (by decide) rfl (fun ls hl => ?_)
        refine lv_goto (tgt := 99) hx hb dX0_visit_146 (by decide) ?_
        refine lv_iload hx hb dX0_visit_99 (lv_at hl 0 rfl) ?_
        refine lv_iconst (v := nI 2) hx hb dX0_visit_101 (by decide) ?_
        refine r_ge (a := 0 + 1) (b := 2) (tgt := 149) hx hb (by omega) (by omega) dX0_visit_102 (by decide) (fun hz => ?_) (fun hz => ?_)
        · exact absurd hz (by omega)
        · refine lv_aload_n hx hb dX0_visit_105 rfl (lv_at hl 3 rfl) ?_
          refine gX0_child hx hb hts hown hK hP dX0_visit_106 ?_
          refine lv_iconst (v := nI 2) hx hb dX0_visit_109 (by decide) ?_
          refine lv_iload_n hx hb dX0_visit_110 rfl (lv_at hl 4 rfl) ?_
          refine r_imul (a := 2) (b := n) hx hb dX0_visit_111 ?_
          refine lv_iload hx hb dX0_visit_112 (lv_at hl 0 rfl) ?_
          refine r_iadd (a := 2 * n) (b := 0 + 1) hx hb dX0_visit_114 ?_
          refine rX0_child (n := (2 * n) + (0 + 1)) hx hb hK hP rfl (by omega) dX0_visit_115 ?_
          refine r_top (y := oI (ch (2 * n + 1))) rfl ?_
          refine lv_istore (lv' := [(6, .int (oI (ch (2 * n + 1)))), (5, .int (nI (0 + 1))), (4, .int (nI (d + 1))), (0, .ref (q 0)), (1, .int (nI n)), (2, .int (nI d)), (3, .int (oI up))]) hx hb dX0_visit_116 hl (by decide) rfl (fun ls hl => ?_)
          refine lv_iload hx hb dX0_visit_118 (lv_at hl 0 rfl) ?_
          refine r_ifltO (x := ch (2 * n + 1)) (tgt := 143) hx hb (fun w hw => by have := gc1 w hw; omega) dX0_visit_120 (by decide) (fun k1 => ?_) (fun w k1 => ?_)
          · refine lv_iinc (v := nI (0 + 1 + 1)) (lv' := [(5, .int (nI (0 + 1 + 1))), (6, .int (oI (ch (2 * n + 1)))), (4, .int (nI (d + 1))), (0, .ref (q 0)), (1, .int (nI n)), (2, .int (nI d)), (3, .int (oI up))]) hx hb dX0_visit_143 hl (k := 1) rfl (nI_1 (0 + 1)) (by decide) rfl (fun ls hl => ?_)
            refine lv_goto (tgt := 99) hx hb dX0_visit_146 (by decide) ?_
            refine lv_iload hx hb dX0_visit_99 (lv_at hl 0 rfl) ?_
            refine lv_iconst (v := nI 2) hx hb dX0_visit_101 (by decide) ?_
            refine r_ge (a := 0 + 1 + 1) (b := 2) (tgt := 149) hx hb (by omega) (by omega) dX0_visit_102 (by decide) (fun hz => ?_) (fun hz => ?_)
            · refine lv_iload hx hb dX0_visit_149 (lv_at hl 2 rfl) ?_
              exact W.iret (v := nI (d + 1)) hx hb hr (fun t ht hW => ⟨⟨nI (d + 1), (su1, se1, (va_up ha a0 up), (va_up sk d a0)), rfl, ⟨up, hv, by rw [k0, k1]; rfl, by rw [k0, k1]; rfl, by rw [k0, k1]; rfl⟩, by rw [ht]; exact hP, va_K.moved hW.alike hK, hD⟩, hS.F ht⟩) hS.2.2 dX0_visit_151
            · exact absurd hz (by omega)
          · have w6 := gc1 w k1
            rw [k1] at hl
            have hl : lv_has ls 7 [(6, .int (nI w)), (5, .int (nI (0 + 1))), (4, .int (nI (d + 1))), (0, .ref (q 0)), (1, .int (nI n)), (2, .int (nI d)), (3, .int (oI up))] := hl
            have hd2 := gd2 a0 w k0 k1
            refine lv_aload_n hx hb dX0_visit_123 rfl (lv_at hl 3 rfl) ?_
            refine gX0_heldAbove hx hb hts hown hK hP dX0_visit_124 ?_
            refine lv_iload hx hb dX0_visit_127 (lv_at hl 0 rfl) ?_
            refine lv_iload_n hx hb dX0_visit_129 rfl (lv_at hl 6 rfl) ?_
            refine wX0_heldAbove (n := w) (v := up) hx hb hK hP hD hS rfl (by omega) dX0_visit_130 (fun H locs hP hD hS => ?_)
            refine lv_aload_n hx hb dX0_visit_131 rfl (lv_at hl 3 rfl) ?_
            refine gX0_stack hx hb hts hown hK hP dX0_visit_132 ?_
            refine lv_iload hx hb dX0_visit_135 (lv_at hl 2 rfl) ?_
            refine lv_iload hx hb dX0_visit_137 (lv_at hl 0 rfl) ?_
            refine wX0_stack (n := d + 1) (v := w) hx hb hK hP hD hS rfl (by omega) dX0_visit_139 (fun H locs hP hD hS => ?_)
            refine lv_iinc (v := nI (d + 1 + 1)) (lv' := [(4, .int (nI (d + 1 + 1))), (6, .int (nI w)), (5, .int (nI (0 + 1))), (0, .ref (q 0)), (1, .int (nI n)), (2, .int (nI d)), (3, .int (oI up))]) hx hb dX0_visit_140 hl (k := 2) rfl (nI_1 (d + 1)) (by decide) rfl (fun ls hl => ?_)
            refine lv_iinc (v := nI (0 + 1 + 1)) (lv' := [(5, .int (nI (0 + 1 + 1))), (4, .int (nI (d + 1 + 1))), (6, .int (nI w)), (0, .ref (q 0)), (1, .int (nI n)), (2, .int (nI d)), (3, .int (oI up))]) hx hb dX0_visit_143 hl (k := 2) rfl (nI_1 (0 + 1)) (by decide) rfl (fun ls hl => ?_)
            refine lv_goto (tgt := 99) hx hb dX0_visit_146 (by decide) ?_
            refine lv_iload hx hb dX0_visit_99 (lv_at hl 0 rfl) ?_
            refine lv_iconst (v := nI 2) hx hb dX0_visit_101 (by decide) ?_
            refine r_ge (a := 0 + 1 + 1) (b := 2) (tgt := 149) hx hb (by omega) (by omega) dX0_visit_102 (by decide) (fun hz => ?_) (fun hz => ?_)
            · refine lv_iload hx hb dX0_visit_149 (lv_at hl 1 rfl) ?_
              exact W.iret (v := nI (d + 1 + 1)) hx hb hr (fun t ht hW => ⟨⟨nI (d + 1 + 1), (su1, se1, (va_up (va_up ha a0 up) w up), (va_up (va_up sk d a0) (d + 1) w)), rfl, ⟨up, hv, by rw [k0, k1]; rfl, by rw [k0, k1]; rfl, by rw [k0, k1]; rfl⟩, by rw [ht]; exact hP, va_K.moved hW.alike hK, hD⟩, hS.F ht⟩) hS.2.2 dX0_visit_151
            · exact absurd hz (by omega)
  · refine r_ifltO (x := pe n) (tgt := 93) hx hb (fun w hw => by have := gy w hw; omega) dX0_visit_13 (by decide) (fun h => ?_) (fun y h => ?_)
    · exact J (su, se, ha n) ls _ _ (Or.inl ⟨h, rfl, rfl, rfl⟩) (lv_sub hl [1, 2, 3, 0] rfl) hP hD hS
    · have y8 := gy y h
      refine lv_ldc (v := nI 65536) hx hb hown (hts _ q142) dX0_visit_16 ?_
      refine lv_aload_n hx hb dX0_visit_18 rfl (lv_at hl 1 rfl) ?_
      refine gX0_length hx hb hts hown hK hP dX0_visit_19 ?_
      refine lv_iload_n hx hb dX0_visit_22 rfl (lv_at hl 2 rfl) ?_
      refine rX0_length (n := n) hx hb hK hP rfl (by omega) dX0_visit_23 ?_
      refine lv_ishr hx hb dX0_visit_24 ?_
      refine r_top (y := nI (2 ^ (16 - le n))) (shr_I gl) ?_
      refine r_top (y := zI (szI (le n))) (zI_n _) ?_
      refine lv_istore (lv' := [(4, .int (zI (szI (le n)))), (3, .int (oI (ha n))), (0, .ref (q 0)), (1, .int (nI n)), (2, .int (nI d))]) hx hb dX0_visit_25 hl (by decide) rfl (fun ls hl => ?_)
      refine lv_aload_n hx hb dX0_visit_27 rfl (lv_at hl 2 rfl) ?_
      refine gX0_settled hx hb hts hown hK hP dX0_visit_28 ?_
      refine lv_iload_n hx hb dX0_visit_31 rfl (lv_at hl 3 rfl) ?_
      refine lv_iload hx hb dX0_visit_32 (lv_at hl 0 rfl) ?_
      refine wX0_settled (n := n) (v := szI (le n)) hx hb hK hP hD hS rfl (by omega) dX0_visit_34 (fun H locs hP hD hS => ?_)
      refine lv_aload_n hx hb dX0_visit_35 rfl (lv_at hl 2 rfl) ?_
      refine gX0_sum hx hb hts hown hK hP dX0_visit_36 ?_
      refine lv_aload_n hx hb dX0_visit_39 rfl (lv_at hl 2 rfl) ?_
      refine gX0_peerOf hx hb hts hown hK hP dX0_visit_40 ?_
      refine lv_iload_n hx hb dX0_visit_43 rfl (lv_at hl 3 rfl) ?_
      refine rX0_peerOf (n := n) hx hb hK hP rfl (by omega) dX0_visit_44 ?_
      refine r_top (y := nI y) (by rw [h]; rfl) ?_
      refine lv_dup2_11 hx hb dX0_visit_45 rfl rfl ?_
      refine rX0_sum (n := y) hx hb hK hP rfl (by omega) dX0_visit_46 ?_
      refine lv_iload hx hb dX0_visit_47 (lv_at hl 0 rfl) ?_
      refine r_ziadd hx hb dX0_visit_49 ?_
      refine wX0_sum (n := y) (v := (su y) + (szI (le n))) hx hb hK hP hD hS rfl (by omega) dX0_visit_50 (fun H locs hP hD hS => ?_)
      refine lv_aload_n hx hb dX0_visit_51 rfl (lv_at hl 2 rfl) ?_
      refine gX0_sum hx hb hts hown hK hP dX0_visit_52 ?_
      refine lv_iload_n hx hb dX0_visit_55 rfl (lv_at hl 1 rfl) ?_
      have J1 := J
      refine r_join (rest := [.ref (q 10)]) 70 (fun v => ∃ i, v = nI i ∧ (ha n = none → i = 8) ∧ (∀ u, ha n = some u → pe u = some i) ∧ i < 9) (fun v hv => ?_) (fun J => ?_)
      · obtain ⟨i, hvi, i1, i2, i3⟩ := hv
        subst hvi
        refine lv_dup2_11 hx hb dX0_visit_70 rfl rfl ?_
        refine rX0_sum (n := i) hx hb hK hP rfl (by omega) dX0_visit_71 ?_
        refine lv_iload hx hb dX0_visit_72 (lv_at hl 0 rfl) ?_
        refine r_zisub hx hb dX0_visit_74 ?_
        refine wX0_sum (n := i) (v := ((va_up su y ((su y) + (szI (le n)))) i) - (szI (le n))) hx hb hK hP hD hS rfl (by omega) dX0_visit_75 (fun H locs hP hD hS => ?_)
        refine lv_iload_n hx hb dX0_visit_76 rfl (lv_at hl 1 rfl) ?_
        refine r_ifltO (x := ha n) (tgt := 91) hx hb (fun w hw => by have := (gu w hw).1; omega) dX0_visit_77 (by decide) (fun h3 => ?_) (fun u h3 => ?_)
        · refine lv_iload_n hx hb dX0_visit_91 rfl (lv_at hl 3 rfl) ?_
          refine lv_istore_n (lv' := [(3, .int (nI n)), (4, .int (zI (szI (le n)))), (0, .ref (q 0)), (1, .int (nI n)), (2, .int (nI d))]) hx hb dX0_visit_92 rfl hl (by decide) rfl (fun ls hl => ?_)
          exact J ((va_up (va_up su y ((su y) + (szI (le n)))) i (((va_up su y ((su y) + (szI (le n)))) i) - (szI (le n)))), (va_up se n (szI (le n))), some n) ls _ _ (Or.inr ⟨y, i, h, rfl, i1, i2, rfl, fun _ => rfl, fun u hu => (by rw [hu] at h3; cases h3)⟩) (lv_sub hl [2, 3, 4, 0] rfl) hP hD hS
        · obtain ⟨u6, -⟩ := gu u h3
          rw [h3] at hl
          have hl : lv_has ls 7 [(4, .int (zI (szI (le n)))), (3, .int (nI u)), (0, .ref (q 0)), (1, .int (nI n)), (2, .int (nI d))] := hl
          refine lv_aload_n hx hb dX0_visit_80 rfl (lv_at hl 2 rfl) ?_
          refine gX0_settled hx hb hts hown hK hP dX0_visit_81 ?_
          refine lv_iload_n hx hb dX0_visit_84 rfl (lv_at hl 1 rfl) ?_
          refine lv_dup2_11 hx hb dX0_visit_85 rfl rfl ?_
          refine rX0_settled (n := u) hx hb hK hP rfl (by omega) dX0_visit_86 ?_
          refine lv_iload hx hb dX0_visit_87 (lv_at hl 0 rfl) ?_
          refine r_zisub hx hb dX0_visit_89 ?_
          refine wX0_settled (n := u) (v := ((va_up se n (szI (le n))) u) - (szI (le n))) hx hb hK hP hD hS rfl (by omega) dX0_visit_90 (fun H locs hP hD hS => ?_)
          refine lv_iload_n hx hb dX0_visit_91 rfl (lv_at hl 3 rfl) ?_
          refine lv_istore_n (lv' := [(3, .int (nI n)), (4, .int (zI (szI (le n)))), (0, .ref (q 0)), (1, .int (nI n)), (2, .int (nI d))]) hx hb dX0_visit_92 rfl hl (by decide) rfl (fun ls hl => ?_)
          exact J ((va_up (va_up su y ((su y) + (szI (le n)))) i (((va_up su y ((su y) + (szI (le n)))) i) - (szI (le n)))), (va_up (va_up se n (szI (le n))) u (((va_up se n (szI (le n))) u) - (szI (le n)))), some n) ls _ _ (Or.inr ⟨y, i, h, rfl, i1, i2, rfl, fun hu => (by rw [hu] at h3; cases h3), fun u2 hu => (by rw [h3] at hu; cases hu; rfl)⟩) (lv_sub hl [2, 3, 4, 0] rfl) hP hD hS
      · have J2 := J
        refine r_ifgeO (x := ha n) (tgt := 64) hx hb (fun w hw => by have := (gu w hw).1; omega) dX0_visit_56 (by decide) (fun u h2 => ?_) (fun h2 => ?_)
        · obtain ⟨u6, i, hi, i8⟩ := gu u h2
          rw [h2] at hl
          have hl : lv_has ls 7 [(4, .int (zI (szI (le n)))), (3, .int (nI u)), (0, .ref (q 0)), (1, .int (nI n)), (2, .int (nI d))] := hl
          refine lv_aload_n hx hb dX0_visit_64 rfl (lv_at hl 2 rfl) ?_
          refine gX0_peerOf hx hb hts hown hK hP dX0_visit_65 ?_
          refine lv_iload_n hx hb dX0_visit_68 rfl (lv_at hl 1 rfl) ?_
          refine rX0_peerOf (n := u) hx hb hK hP rfl (by omega) dX0_visit_69 ?_
          refine r_top (y := nI i) (by rw [hi]; rfl) ?_
          exact J2 _ ⟨i, rfl, fun hu => (by rw [hu] at h2; cases h2), fun u2 hu => (by rw [h2] at hu; cases hu; exact hi), by omega⟩
        · refine lv_bipush (v := nI 8) hx hb dX0_visit_59 (by decide) ?_
          refine lv_goto (tgt := 70) hx hb dX0_visit_61 (by decide) ?_
          exact J2 _ ⟨8, rfl, fun _ => rfl, fun u2 hu => (by rw [hu] at h2; cases h2), by decide⟩
set_option maxRecDepth 100000 in
theorem kX0_X0_visit {p : Program} {l : Launch} {e : Env} {R : Room} {s : State} {m : MethodId} {args : Array Value} {below : List Frame} {meth : Method} {c : Code} {H : Heap} {locs : List Loc} {cells slots : Nat} {Q : State → Prop} {cc : ByteArray} {pc nL : Nat} {ls : Array Slot} {rest : List Value} {A : Nat → Prop} {H0 : Heap} {dC : Nat → ClassId} {dI : Nat → Nat → Nat} {cI cZ : ClassId} {q : Nat → Nat} {he : Nat} {ro : Option Nat} {fr : Option Nat} {ab : Option Nat} {fu : Option Nat} {us : Nat → Bool} {bi : Nat → Nat} {le : Nat → Nat} {pe : Nat → Option Nat} {ch : Nat → Option Nat} {su : Nat → Int} {se : Nat → Int} {ha : Nat → Option Nat} {sk : Nat → Nat} (S : CallFix p m c cc nL s args lw_all RX0) (hls : ls.size = nL) (hR : 0 + 1 ≤ R.frames ∧ 8 + (7 + 11) + 0 ≤ R.locals) (hrest : (rest.map fun v => v.category).sum ≤ 8) (hc : cells ≤ R.cells ∧ slots ≤ R.slots) (hK : va_K (dC, dI) vwCl (xT cI cZ) s) (hP : va_P (dC, dI) vwCl (xW cI cZ q he ro fr ab fu us bi le pe ch su se ha sk) H) (hD : va_D A (xW cI cZ q he ro fr ab fu us bi le pe ch su se ha sk)) (hS : va_S A H0 H locs) (hA : ∀ q : Nat, H0.size ≤ q → A q) (n d : Nat) (gn : n < 64) (gl : le n ≤ 16) (gu : ∀ u, ha n = some u → u < 64 ∧ ∃ i, pe u = some i ∧ i < 8) (gy : ∀ y, pe n = some y → y < 8) (gc0 : ∀ w, ch (2 * n) = some w → w < 64) (gc1 : ∀ w, ch (2 * n + 1) = some w → w < 64) (gd : d < 64) (gd2 : ∀ a b, ch (2 * n) = some a → ch (2 * n + 1) = some b → d + 1 < 64) (hd : decode cc pc = .ok (.invokevirtual 104, 3)) (kk : ∀ (r : Int32) (u : (Nat → Int) × (Nat → Int) × (Nat → Option Nat) × (Nat → Nat)) (H : Heap) (locs : List Loc), (∃ up, VS pe le ha n su se u.1 u.2.1 up ∧ u.2.2.1 = puH (ch (2 * n + 1)) up (puH (ch (2 * n)) up ha) ∧ u.2.2.2 = puS (ch (2 * n + 1)) (puT (ch (2 * n)) d) (puS (ch (2 * n)) d sk) ∧ r = nI (puT (ch (2 * n + 1)) (puT (ch (2 * n)) d))) → va_P (dC, dI) vwCl (xW cI cZ q he ro fr ab fu us bi le pe ch u.1 u.2.1 u.2.2.1 u.2.2.2) H → va_D A (xW cI cZ q he ro fr ab fu us bi le pe ch u.1 u.2.1 u.2.2.1 u.2.2.2) → va_S A H0 H locs → W p l e R s m args below meth c H locs cells slots Q (F0 m (pc + 3) ls (.int r :: rest))) : W p l e R s m args below meth c H locs cells slots Q (F0 m pc ls (.int (nI d) :: .int (nI n) :: .ref (q 0) :: rest)) := by
  have hFc := va_free (wc := xW cI cZ q he ro fr ab fu us bi le pe ch su se ha sk) hD hS hA [0, 1, 2, 3, 4, 5, 6, 7, 8, 9] rfl
  refine va_calli (va_runV (As := [.int (nI n), .int (nI d)]) (rest := rest) S (metX0_visit l dC dI cI cZ q H.size he ro fr ab fu us bi le pe ch su se ha sk n d gn gl gu gy gc0 gc1 gd gd2) (cwV 2 S.2.2.2.2 (lw_V q143 q145 qs9 q17 q146) rfl rfl rfl (by decide +kernel) hR) ⟨fun a U g mk q => by obtain ⟨q0, q1, qP, qK, qD⟩ := q; exact ⟨q0, q1, qP, va_K.moved (u := U) (U := U.calling g mk a) (Vm.Alike.refl U.vm) qK, qD⟩, va_recv hK hP (ci := 0) (q0 := 0) rfl rfl, fun U hU hW => ⟨rfl, by rw [hU], by rw [hU]; exact hP, va_K.moved hW.alike hK, hD.weaken (fun _ _ _ _ => trivial)⟩⟩ rfl rfl hls rfl (lv_room hrest) hd hc) hS (fun q _ h => hFc q h) hFc (fun r u t H1 locs1 ht hvm hw hB hz1 hk1 hS1 => ?_)
  obtain ⟨hP1, hK1, hD1⟩ := hB
  rw [ht] at hP1
  obtain ⟨hP2, hD2⟩ := va_join (wr := []) (w1 := xW cI cZ q he ro fr ab fu us bi le pe ch u.1 u.2.1 u.2.2.1 u.2.2.2) hP hD [0, 1, 2, 3, 4, 5, 6, 7, 8, 9] [] rfl rfl (by decide) (by decide) hk1 hFc hP1 hD1
  exact kk r u H1 locs1 hw hP2 hD2 hS1
set_option maxHeartbeats 4000000 in
set_option maxRecDepth 100000 in
theorem metX0_settleAll (l : Launch) (dC : Nat → ClassId) (dI : Nat → Nat → Nat) (cI cZ : ClassId) (q : Nat → Nat) (sz : Nat) (he : Nat) (ro : Option Nat) (fr : Option Nat) (ab : Option Nat) (fu : Option Nat) (us : Nat → Bool) (bi : Nat → Nat) (le : Nat → Nat) (pe : Nat → Option Nat) (ch : Nat → Option Nat) (su : Nat → Int) (se : Nat → Int) (ha : Nat → Option Nat) (sk : Nat → Nat) (D : Nat → Nat → Option Nat) (gT : TW us bi le ro ch) (gC : CT us bi le pe D) (gB : PB us pe) : Met l yX0_settleAll (ws_ yX0_settleAll cX0_settleAll 4 none) ({ frames := 1, cells := 0, slots := 0, locals := 26 }) (va_Pc [.ref (q 0)] (fun U => U.heap.size = sz ∧ va_P (dC, dI) vwCl (xW cI cZ q he ro fr ab fu us bi le pe ch su se ha sk) U.heap ∧ va_K (dC, dI) vwCl (xT cI cZ) U ∧ va_D (fun _ => True) (xW cI cZ q he ro fr ab fu us bi le pe ch su se ha sk))) (va_Qv (fun (u : (Nat → Int) × (Nat → Int) × (Nat → Option Nat) × (Nat → Nat)) => SET D us bi le pe u.1 u.2.1 u.2.2.1) (fun (u : (Nat → Int) × (Nat → Int) × (Nat → Option Nat) × (Nat → Nat)) t => va_P (dC, dI) vwCl (xW cI cZ q he ro fr ab fu us bi le pe ch u.1 u.2.1 u.2.2.1 u.2.2.2) t.heap ∧ va_K (dC, dI) vwCl (xT cI cZ) t ∧ va_D (va_A (xW cI cZ q he ro fr ab fu us bi le pe ch su se ha sk) sz) (xW cI cZ q he ro fr ab fu us bi le pe ch u.1 u.2.1 u.2.2.1 u.2.2.2)) (va_A (xW cI cZ q he ro fr ab fu us bi le pe ch su se ha sk) sz)) 0 0 (va_A (xW cI cZ q he ro fr ab fu us bi le pe ch su se ha sk) sz) := by
  refine Met.ofW (cc := cX0_settleAll) (maxL := 4) (ret := none) (by decide) rfl ?_
  intro p e s m args below meth c s₁ B hml hv
  obtain ⟨rfl, hsz, hP, hK, hD0⟩ := hv
  have hx := B.exec
  have hb := B.bytes
  have hr := B.returns
  have hts := atoms_spec (ws := (ws_ yX0_settleAll cX0_settleAll 4 none)) B.pre
  have hts : ∀ w ∈ lw_all, w.before _ s = true := fun w h => hts w (List.mem_cons_of_mem _ h)
  have hown : s.vm.findClass RX0 = some m.cls := findClass_of_methodNamed B.named
  have hlocks := B.notSynchronized
  subst hsz
  have hD := hD0.self (sz := s.heap.size)
  generalize hAe : va_A (xW cI cZ q he ro fr ab fu us bi le pe ch su se ha sk) s.heap.size = A at hD ⊢
  have hA : ∀ q : Nat, s.heap.size ≤ q → A q := fun q h => by rw [← hAe]; exact Or.inr h
  have hS : va_S A s.heap s.heap [] := va_S.rf
  have hl := lv_entry ([.ref (q 0)]) (n := 4) (Nat.le_of_ble_eq_true rfl)
  rw [lg_entry_eq]
  generalize (lg_sl ([.ref (q 0)]) ++ List.replicate (4 - (lg_sl ([.ref (q 0)])).length) Slot.unset).toArray = ls at hl ⊢
  have hl : lv_has ls 4 [(0, .ref (q 0))] := hl
  have S : CallFix p m c _ _ s _ lw_all _ := ⟨hx, hb, hml, hown, hts⟩
  refine lv_iconst (v := nI 0) hx hb dX0_settleAll_0 (by decide) ?_
  refine lv_istore_n (lv' := [(1, .int (nI 0)), (0, .ref (q 0))]) hx hb dX0_settleAll_1 rfl hl (by decide) rfl (fun ls hl => ?_)
  refine r_loopH (σ := Nat × (Nat → Int)) (nL := 4) (fun | (k, su2) => [(0, .ref (q 0)), (1, .int (nI k))]) (fun | (k, su2) => xW cI cZ q he ro fr ab fu us bi le pe ch su2 se ha sk) (fun | (k, su2) => k ≤ 9 ∧ ∀ j, j < k → su2 j = 0) (fun | (k, su2) => 9 - k) (fun x ls H locs hI hl hP hD hS ih => ?_) (0, su) ⟨by decide, fun j hj => absurd hj (Nat.not_lt_zero j)⟩ (lv_sub hl [1, 0] rfl) hP hD hS
  obtain ⟨k, su2⟩ := x
  have hl : lv_has ls 4 [(0, .ref (q 0)), (1, .int (nI k))] := hl
  have hP : va_P (dC, dI) vwCl (xW cI cZ q he ro fr ab fu us bi le pe ch su2 se ha sk) H := hP
  have hD : va_D A (xW cI cZ q he ro fr ab fu us bi le pe ch su2 se ha sk) := hD
  have hI : k ≤ 9 ∧ ∀ j, j < k → su2 j = 0 := hI
  obtain ⟨z1, z2⟩ := hI
  refine lv_iload_n hx hb dX0_settleAll_2 rfl (lv_at hl 1 rfl) ?_
  refine lv_bipush (v := nI 9) hx hb dX0_settleAll_3 (by decide) ?_
  refine r_ge (a := k) (b := 9) (tgt := 21) hx hb (by omega) (by omega) dX0_settleAll_5 (by decide) (fun h => ?_) (fun h => ?_)
  · refine lv_aload_n hx hb dX0_settleAll_21 rfl (lv_at hl 0 rfl) ?_
    refine gX0_sum hx hb hts hown hK hP dX0_settleAll_22 ?_
    refine lv_bipush (v := nI 8) hx hb dX0_settleAll_25 (by decide) ?_
    refine lv_ldc (v := nI 65536) hx hb hown (hts _ q142) dX0_settleAll_27 ?_
    refine wX0_sum (n := 8) (v := 65536) hx hb hK hP hD hS rfl (by omega) dX0_settleAll_29 (fun H locs hP hD hS => ?_)
    refine lv_iconst (v := nI 0) hx hb dX0_settleAll_30 (by decide) ?_
    refine lv_istore_n (lv' := [(1, .int (nI 0)), (0, .ref (q 0))]) hx hb dX0_settleAll_31 rfl hl (by decide) rfl (fun ls hl => ?_)
    have hsm : SM (fun _ => false) pe le ha (va_up su2 8 65536) se := sm_0 (fun y hy => by rw [up_n _ _ (by omega)]; exact z2 y (by omega)) (up_s _ _ _)
    refine r_joinH (σ := Nat × (Nat → Option Nat) × (Nat → Nat)) (nL := 4) 61 (fun | (dp1, ha1, sk1) => [(0, .ref (q 0)), (1, .int (nI dp1))]) (fun | (dp1, ha1, sk1) => xW cI cZ q he ro fr ab fu us bi le pe ch (va_up su2 8 65536) se ha1 sk1) (fun | (dp1, ha1, sk1) => DI D us bi le pe (fun _ => false) dp1 sk1 ha1 ∧ CV us bi le (fun _ => false) dp1 sk1 ∧ SM (fun _ => false) pe le ha1 (va_up su2 8 65536) se) (A := A) (H0 := s.heap) (D := (dC, dI)) (cl := vwCl) (fun x ls H locs hv hl hP hD hS => ?_) (fun J => ?_)
    · obtain ⟨dp1, ha1, sk1⟩ := x
      have hl : lv_has ls 4 [(0, .ref (q 0)), (1, .int (nI dp1))] := hl
      have hP : va_P (dC, dI) vwCl (xW cI cZ q he ro fr ab fu us bi le pe ch (va_up su2 8 65536) se ha1 sk1) H := hP
      have hD : va_D A (xW cI cZ q he ro fr ab fu us bi le pe ch (va_up su2 8 65536) se ha1 sk1) := hD
      have hv : DI D us bi le pe (fun _ => false) dp1 sk1 ha1 ∧ CV us bi le (fun _ => false) dp1 sk1 ∧ SM (fun _ => false) pe le ha1 (va_up su2 8 65536) se := hv
      obtain ⟨v1, v2, v3⟩ := hv
      refine lv_iconst (v := nI 0) hx hb dX0_settleAll_61 (by decide) ?_
      refine lv_istore_n (lv' := [(2, .int (nI 0)), (0, .ref (q 0)), (1, .int (nI dp1))]) hx hb dX0_settleAll_62 rfl hl (by decide) rfl (fun ls hl => ?_)
      refine r_loopH (σ := Nat × Nat × (Nat → Bool) × (Nat → Int) × (Nat → Int) × (Nat → Option Nat) × (Nat → Nat)) (nL := 4) (fun | (dp, t, V, su2, se2, ha2, sk2) => [(0, .ref (q 0)), (1, .int (nI dp)), (2, .int (nI t))]) (fun | (dp, t, V, su2, se2, ha2, sk2) => xW cI cZ q he ro fr ab fu us bi le pe ch su2 se2 ha2 sk2) (fun | (dp, t, V, su2, se2, ha2, sk2) => DI D us bi le pe V dp sk2 ha2 ∧ CV us bi le V dp sk2 ∧ SM V pe le ha2 su2 se2 ∧ fb_ct V 64 = t ∧ t ≤ 64) (fun | (dp, t, V, su2, se2, ha2, sk2) => 64 - t) (fun x ls H locs hI hl hP hD hS ih => ?_) (dp1, 0, (fun _ => false), va_up su2 8 65536, se, ha1, sk1) ⟨v1, v2, v3, fb_ct_zero.mpr (fun _ _ => rfl), Nat.zero_le _⟩ (lv_sub hl [1, 2, 0] rfl) hP hD hS
      obtain ⟨dp, t, V, su2, se2, ha2, sk2⟩ := x
      have hl : lv_has ls 4 [(0, .ref (q 0)), (1, .int (nI dp)), (2, .int (nI t))] := hl
      have hP : va_P (dC, dI) vwCl (xW cI cZ q he ro fr ab fu us bi le pe ch su2 se2 ha2 sk2) H := hP
      have hD : va_D A (xW cI cZ q he ro fr ab fu us bi le pe ch su2 se2 ha2 sk2) := hD
      have hI : DI D us bi le pe V dp sk2 ha2 ∧ CV us bi le V dp sk2 ∧ SM V pe le ha2 su2 se2 ∧ fb_ct V 64 = t ∧ t ≤ 64 := hI
      obtain ⟨d1, d2, d3, d4, d5⟩ := hI
      refine lv_iload_n hx hb dX0_settleAll_63 rfl (lv_at hl 2 rfl) ?_
      refine lv_bipush (v := nI 64) hx hb dX0_settleAll_64 (by decide) ?_
      refine r_ge (a := t) (b := 64) (tgt := 97) hx hb (by omega) (by omega) dX0_settleAll_66 (by decide) (fun h5 => ?_) (fun h5 => ?_)
      · have hd0 := di_full gT d1 (by omega)
        subst hd0
        exact W.vret hx hb hr (fun t ht hW => ⟨⟨(su2, se2, ha2, sk2), rfl, set_end gT gC d1 d2 d3, by rw [ht]; exact hP, va_K.moved hW.alike hK, hD⟩, hS.F ht⟩) hS.2.2 dX0_settleAll_97
      · refine lv_iload_n hx hb dX0_settleAll_69 rfl (lv_at hl 1 rfl) ?_
        refine r_ifleN (a := dp) (tgt := 97) hx hb (by
          rcases Nat.eq_zero_or_pos dp with z | z
          · omega
          · obtain ⟨d, hde⟩ : ∃ d, dp = d + 1 := ⟨dp - 1, by omega⟩
            subst hde
            have := (di_room gT d1 (n := sk2 d) rfl).1
            omega) dX0_settleAll_70 (by decide) (fun h6 => ?_) (fun h6 => ?_)
        · subst h6
          exact W.vret hx hb hr (fun t ht hW => ⟨⟨(su2, se2, ha2, sk2), rfl, set_end gT gC d1 d2 d3, by rw [ht]; exact hP, va_K.moved hW.alike hK, hD⟩, hS.F ht⟩) hS.2.2 dX0_settleAll_97
        · obtain ⟨d, hde⟩ : ∃ d, dp = d + 1 := ⟨dp - 1, by omega⟩
          subst hde
          have hst := d1.2.1 d (Nat.lt_succ_self d)
          obtain ⟨r1, r2⟩ := di_room gT d1 (n := sk2 d) rfl
          have hu6 := hst.1.1
          have hun := di_unseen gT d1 (Nat.lt_succ_self d)
          have hl : lv_has ls 4 [(0, .ref (q 0)), (1, .int (nI (d + 1))), (2, .int (nI t))] := hl
          refine lv_aload_n hx hb dX0_settleAll_73 rfl (lv_at hl 0 rfl) ?_
          refine gX0_stack hx hb hts hown hK hP dX0_settleAll_74 ?_
          refine lv_iload_n hx hb dX0_settleAll_77 rfl (lv_at hl 1 rfl) ?_
          refine lv_iconst (v := nI 1) hx hb dX0_settleAll_78 (by decide) ?_
          refine r_isub (a := d + 1) (b := 1) hx hb (by omega) dX0_settleAll_79 ?_
          refine r_top (y := nI d) rfl ?_
          refine rX0_stack (n := d) hx hb hK hP rfl (by omega) dX0_settleAll_80 ?_
          refine lv_istore_n (lv' := [(3, .int (nI (sk2 d))), (0, .ref (q 0)), (1, .int (nI (d + 1))), (2, .int (nI t))]) hx hb dX0_settleAll_81 rfl hl (by decide) rfl (fun ls hl => ?_)
          refine lv_aload_n hx hb dX0_settleAll_82 rfl (lv_at hl 1 rfl) ?_
          refine lv_iload_n hx hb dX0_settleAll_83 rfl (lv_at hl 0 rfl) ?_
          refine lv_iload_n hx hb dX0_settleAll_84 rfl (lv_at hl 2 rfl) ?_
          refine lv_iconst (v := nI 1) hx hb dX0_settleAll_85 (by decide) ?_
          refine r_isub (a := d + 1) (b := 1) hx hb (by omega) dX0_settleAll_86 ?_
          refine r_top (y := nI d) rfl ?_
          refine kX0_X0_visit S hl.1 ⟨Nat.le_of_ble_eq_true rfl, Nat.le_of_ble_eq_true rfl⟩ (Nat.le_of_ble_eq_true rfl) ⟨Nat.zero_le _, Nat.zero_le _⟩ hK hP hD hS hA (sk2 d) d hu6 (gT.1 _ hst.1).1 (fun u hu => ⟨(hst.2.1 u hu).1.1, by
            have hh := hst.2.1 u hu
            cases hp : pe u with
            | none => rw [hp] at hh; cases hh.2.2.1
            | some i => exact ⟨i, rfl, gB u i hh.1 hp⟩⟩) (fun y hy => gB _ y hst.1 hy) (fun w hw => (gT.2.2.2 (some (2 * sk2 d + 0)) w (vs_kid hst.1 (by decide)) hw).1.1) (fun w hw => (gT.2.2.2 (some (2 * sk2 d + 1)) w (vs_kid hst.1 (by decide)) hw).1.1) r1 r2 dX0_settleAll_87 (fun r u H locs hw hP hD hS => ?_)
          obtain ⟨up, w1, w2, w3, w4⟩ := hw
          subst w4
          obtain ⟨su3, se3, ha3, sk3⟩ := u
          have w2 : ha3 = _ := w2
          have w3 : sk3 = _ := w3
          obtain ⟨q1, q2, q3⟩ := di_visit gT gC gB d1 d2 d3 (n := sk2 d) rfl w1
          rw [← w2, ← w3] at q1
          rw [← w3] at q2
          rw [← w2] at q3
          have q4 := ct_up V hu6 hun
          have hP : va_P (dC, dI) vwCl (xW cI cZ q he ro fr ab fu us bi le pe ch su3 se3 ha3 sk3) H := hP
          have hD : va_D A (xW cI cZ q he ro fr ab fu us bi le pe ch su3 se3 ha3 sk3) := hD
          refine lv_istore_n (lv' := [(1, .int (nI (puT (ch (2 * sk2 d + 1)) (puT (ch (2 * sk2 d)) d)))), (3, .int (nI (sk2 d))), (0, .ref (q 0)), (2, .int (nI t))]) hx hb dX0_settleAll_90 rfl hl (by decide) rfl (fun ls hl => ?_)
          refine lv_iinc (v := nI (t + 1)) (lv' := [(2, .int (nI (t + 1))), (1, .int (nI (puT (ch (2 * sk2 d + 1)) (puT (ch (2 * sk2 d)) d)))), (3, .int (nI (sk2 d))), (0, .ref (q 0))]) hx hb dX0_settleAll_91 hl (k := 3) rfl (nI_1 t) (by decide) rfl (fun ls hl => ?_)
          refine lv_goto (tgt := 63) hx hb dX0_settleAll_94 (by decide) ?_
          exact ih (puT (ch (2 * sk2 d + 1)) (puT (ch (2 * sk2 d)) d), t + 1, va_up V (sk2 d) true, su3, se3, ha3, sk3) ls H locs ⟨q1, q2, q3, by rw [q4, d4], by omega⟩ (by show 64 - (t + 1) < 64 - t; omega) (lv_sub hl [3, 1, 0] rfl) hP hD hS
    · refine lv_aload_n hx hb dX0_settleAll_32 rfl (lv_at hl 1 rfl) ?_
      refine gX0_root hx hb hts hown hK hP dX0_settleAll_33 ?_
      refine r_ifltO (x := ro) (tgt := 61) hx hb (fun w hw => by have := (gT.2.2.2 none w trivial hw).1.1; omega) dX0_settleAll_36 (by decide) (fun h4 => ?_) (fun rt h4 => ?_)
      · obtain ⟨y1, y2⟩ := di_00 (D := D) (pe := pe) (sk := sk) (ha := ha) gT h4
        exact J (0, ha, sk) ls _ _ ⟨y1, y2, hsm⟩ (lv_sub hl [1, 0] rfl) hP hD hS
      · subst h4
        obtain ⟨y1, y2⟩ := di_0 (D := D) (pe := pe) (sk := sk) (ha := ha) gT gC rfl
        have rt6 := (gT.2.2.2 none rt trivial rfl).1.1
        refine lv_aload_n hx hb dX0_settleAll_39 rfl (lv_at hl 1 rfl) ?_
        refine gX0_stack hx hb hts hown hK hP dX0_settleAll_40 ?_
        refine lv_iconst (v := nI 0) hx hb dX0_settleAll_43 (by decide) ?_
        refine lv_aload_n hx hb dX0_settleAll_44 rfl (lv_at hl 1 rfl) ?_
        refine gX0_root hx hb hts hown hK hP dX0_settleAll_45 ?_
        refine r_top (y := nI rt) rfl ?_
        refine wX0_stack (n := 0) (v := rt) hx hb hK hP hD hS rfl (by omega) dX0_settleAll_48 (fun H locs hP hD hS => ?_)
        refine lv_aload_n hx hb dX0_settleAll_49 rfl (lv_at hl 1 rfl) ?_
        refine gX0_heldAbove hx hb hts hown hK hP dX0_settleAll_50 ?_
        refine lv_aload_n hx hb dX0_settleAll_53 rfl (lv_at hl 1 rfl) ?_
        refine gX0_root hx hb hts hown hK hP dX0_settleAll_54 ?_
        refine r_top (y := nI rt) rfl ?_
        refine lv_iconst (v := oI none) hx hb dX0_settleAll_57 (by decide) ?_
        refine wX0_heldAbove (n := rt) (v := none) hx hb hK hP hD hS rfl (by omega) dX0_settleAll_58 (fun H locs hP hD hS => ?_)
        refine lv_iconst (v := nI 1) hx hb dX0_settleAll_59 (by decide) ?_
        refine lv_istore_n (lv' := [(1, .int (nI 1)), (0, .ref (q 0))]) hx hb dX0_settleAll_60 rfl hl (by decide) rfl (fun ls hl => ?_)
        exact J (1, va_up ha rt none, va_up sk 0 rt) ls _ _ ⟨y1, y2, sm_cong hsm (fun m hm => by cases hm)⟩ (lv_sub hl [1, 0] rfl) hP hD hS
  · refine lv_aload_n hx hb dX0_settleAll_8 rfl (lv_at hl 0 rfl) ?_
    refine gX0_sum hx hb hts hown hK hP dX0_settleAll_9 ?_
    refine lv_iload_n hx hb dX0_settleAll_12 rfl (lv_at hl 1 rfl) ?_
    refine lv_iconst (v := nI 0) hx hb dX0_settleAll_13 (by decide) ?_
    refine wX0_sum (n := k) (v := 0) hx hb hK hP hD hS rfl (by omega) dX0_settleAll_14 (fun H locs hP hD hS => ?_)
    refine lv_iinc (v := nI (k + 1)) (lv' := [(1, .int (nI (k + 1))), (0, .ref (q 0))]) hx hb dX0_settleAll_15 hl (k := 1) rfl (nI_1 k) (by decide) rfl (fun ls hl => ?_)
    refine lv_goto (tgt := 2) hx hb dX0_settleAll_18 (by decide) ?_
    exact ih (k + 1, va_up su2 k 0) ls H locs ⟨by omega, fun j hj => by
      by_cases z : j = k
      · rw [z, up_s]
      · rw [up_n _ _ z]; exact z2 j (by omega)⟩ (by show 9 - (k + 1) < 9 - k; omega) (lv_sub hl [1, 0] rfl) hP hD hS
set_option maxRecDepth 100000 in
theorem kX0_X0_settleAll {p : Program} {l : Launch} {e : Env} {R : Room} {s : State} {m : MethodId} {args : Array Value} {below : List Frame} {meth : Method} {c : Code} {H : Heap} {locs : List Loc} {cells slots : Nat} {Q : State → Prop} {cc : ByteArray} {pc nL : Nat} {ls : Array Slot} {rest : List Value} {A : Nat → Prop} {H0 : Heap} {dC : Nat → ClassId} {dI : Nat → Nat → Nat} {cI cZ : ClassId} {q : Nat → Nat} {he : Nat} {ro : Option Nat} {fr : Option Nat} {ab : Option Nat} {fu : Option Nat} {us : Nat → Bool} {bi : Nat → Nat} {le : Nat → Nat} {pe : Nat → Option Nat} {ch : Nat → Option Nat} {su : Nat → Int} {se : Nat → Int} {ha : Nat → Option Nat} {sk : Nat → Nat} (S : CallFix p m c cc nL s args lw_all RX0) (hls : ls.size = nL) (hR : 1 + 1 ≤ R.frames ∧ 8 + (4 + 11) + 26 ≤ R.locals) (hrest : (rest.map fun v => v.category).sum ≤ 8) (hc : cells ≤ R.cells ∧ slots ≤ R.slots) (hK : va_K (dC, dI) vwCl (xT cI cZ) s) (hP : va_P (dC, dI) vwCl (xW cI cZ q he ro fr ab fu us bi le pe ch su se ha sk) H) (hD : va_D A (xW cI cZ q he ro fr ab fu us bi le pe ch su se ha sk)) (hS : va_S A H0 H locs) (hA : ∀ q : Nat, H0.size ≤ q → A q) (D : Nat → Nat → Option Nat) (gT : TW us bi le ro ch) (gC : CT us bi le pe D) (gB : PB us pe) (hd : decode cc pc = .ok (.invokevirtual 65, 3)) (kk : ∀ (u : (Nat → Int) × (Nat → Int) × (Nat → Option Nat) × (Nat → Nat)) (H : Heap) (locs : List Loc), (SET D us bi le pe u.1 u.2.1 u.2.2.1) → va_P (dC, dI) vwCl (xW cI cZ q he ro fr ab fu us bi le pe ch u.1 u.2.1 u.2.2.1 u.2.2.2) H → va_D A (xW cI cZ q he ro fr ab fu us bi le pe ch u.1 u.2.1 u.2.2.1 u.2.2.2) → va_S A H0 H locs → W p l e R s m args below meth c H locs cells slots Q (F0 m (pc + 3) ls (rest))) : W p l e R s m args below meth c H locs cells slots Q (F0 m pc ls (.ref (q 0) :: rest)) := by
  have hFc := va_free (wc := xW cI cZ q he ro fr ab fu us bi le pe ch su se ha sk) hD hS hA [0, 1, 2, 3, 4, 5, 6, 7, 8, 9] rfl
  refine va_callv (va_runV (As := []) (rest := rest) S (metX0_settleAll l dC dI cI cZ q H.size he ro fr ab fu us bi le pe ch su se ha sk D gT gC gB) (cwV 0 S.2.2.2.2 (lw_V q138 q140 qs8 q17 q141) rfl rfl rfl (by decide +kernel) hR) ⟨fun a U g mk q => by obtain ⟨q0, q1, qP, qK, qD⟩ := q; exact ⟨q0, q1, qP, va_K.moved (u := U) (U := U.calling g mk a) (Vm.Alike.refl U.vm) qK, qD⟩, va_recv hK hP (ci := 0) (q0 := 0) rfl rfl, fun U hU hW => ⟨rfl, by rw [hU], by rw [hU]; exact hP, va_K.moved hW.alike hK, hD.weaken (fun _ _ _ _ => trivial)⟩⟩ rfl rfl hls rfl (lv_room hrest) hd hc) hS (fun q _ h => hFc q h) hFc (fun u t H1 locs1 ht hvm hw hB hz1 hk1 hS1 => ?_)
  obtain ⟨hP1, hK1, hD1⟩ := hB
  rw [ht] at hP1
  obtain ⟨hP2, hD2⟩ := va_join (wr := []) (w1 := xW cI cZ q he ro fr ab fu us bi le pe ch u.1 u.2.1 u.2.2.1 u.2.2.2) hP hD [0, 1, 2, 3, 4, 5, 6, 7, 8, 9] [] rfl rfl (by decide) (by decide) hk1 hFc hP1 hD1
  exact kk u H1 locs1 hw hP2 hD2 hS1
set_option maxHeartbeats 4000000 in
set_option maxRecDepth 100000 in
theorem metX0_owned (l : Launch) (dC : Nat → ClassId) (dI : Nat → Nat → Nat) (cI cZ : ClassId) (q : Nat → Nat) (sz : Nat) (he : Nat) (ro : Option Nat) (fr : Option Nat) (ab : Option Nat) (fu : Option Nat) (us : Nat → Bool) (bi : Nat → Nat) (le : Nat → Nat) (pe : Nat → Option Nat) (ch : Nat → Option Nat) (su : Nat → Int) (se : Nat → Int) (ha : Nat → Option Nat) (sk : Nat → Nat) (x1 : Int32) (D : Nat → Nat → Option Nat) (gT : TW us bi le ro ch) (gC : CT us bi le pe D) (gB : PB us pe) : Met l yX0_owned (ws_ yX0_owned cX0_owned 2 (some .int)) ({ frames := 2, cells := 0, slots := 0, locals := 49 }) (va_Pc [.ref (q 0), .int x1] (fun U => U.heap.size = sz ∧ va_P (dC, dI) vwCl (xW cI cZ q he ro fr ab fu us bi le pe ch su se ha sk) U.heap ∧ va_K (dC, dI) vwCl (xT cI cZ) U ∧ va_D (fun _ => True) (xW cI cZ q he ro fr ab fu us bi le pe ch su se ha sk))) (va_Qi (fun (r : Int32) (u : (Nat → Int) × (Nat → Int) × (Nat → Option Nat) × (Nat → Nat)) => OWS D x1 r) (fun (u : (Nat → Int) × (Nat → Int) × (Nat → Option Nat) × (Nat → Nat)) t => va_P (dC, dI) vwCl (xW cI cZ q he ro fr ab fu us bi le pe ch u.1 u.2.1 u.2.2.1 u.2.2.2) t.heap ∧ va_K (dC, dI) vwCl (xT cI cZ) t ∧ va_D (va_A (xW cI cZ q he ro fr ab fu us bi le pe ch su se ha sk) sz) (xW cI cZ q he ro fr ab fu us bi le pe ch u.1 u.2.1 u.2.2.1 u.2.2.2)) (va_A (xW cI cZ q he ro fr ab fu us bi le pe ch su se ha sk) sz)) 0 0 (va_A (xW cI cZ q he ro fr ab fu us bi le pe ch su se ha sk) sz) := by
  refine Met.ofW (cc := cX0_owned) (maxL := 2) (ret := (some .int)) (by decide) rfl ?_
  intro p e s m args below meth c s₁ B hml hv
  obtain ⟨rfl, hsz, hP, hK, hD0⟩ := hv
  have hx := B.exec
  have hb := B.bytes
  have hr := B.returns
  have hts := atoms_spec (ws := (ws_ yX0_owned cX0_owned 2 (some .int))) B.pre
  have hts : ∀ w ∈ lw_all, w.before _ s = true := fun w h => hts w (List.mem_cons_of_mem _ h)
  have hown : s.vm.findClass RX0 = some m.cls := findClass_of_methodNamed B.named
  have hlocks := B.notSynchronized
  subst hsz
  have hD := hD0.self (sz := s.heap.size)
  generalize hAe : va_A (xW cI cZ q he ro fr ab fu us bi le pe ch su se ha sk) s.heap.size = A at hD ⊢
  have hA : ∀ q : Nat, s.heap.size ≤ q → A q := fun q h => by rw [← hAe]; exact Or.inr h
  have hS : va_S A s.heap s.heap [] := va_S.rf
  have hl := lv_entry ([.ref (q 0), .int x1]) (n := 2) (Nat.le_of_ble_eq_true rfl)
  rw [lg_entry_eq]
  generalize (lg_sl ([.ref (q 0), .int x1]) ++ List.replicate (2 - (lg_sl ([.ref (q 0), .int x1])).length) Slot.unset).toArray = ls at hl ⊢
  have hl : lv_has ls 2 [(0, .ref (q 0)), (1, .int x1)] := hl
  have S : CallFix p m c _ _ s _ lw_all _ := ⟨hx, hb, hml, hown, hts⟩
  refine lv_iload_n hx hb dX0_owned_0 rfl (lv_at hl 1 rfl) ?_
  refine lv_iconst (v := oI none) hx hb dX0_owned_1 (by decide) ?_
  refine lv_icmp_lt (tgt := 11) hx hb dX0_owned_2 (by decide) (fun h => ?_) (fun h => ?_)
  · refine lv_bipush (v := (-2)) hx hb dX0_owned_11 (by decide) ?_
    exact W.iret (v := (-2)) hx hb hr (fun t ht hW => ⟨⟨(-2), (su, se, ha, sk), rfl, ows_bad (Or.inl h), by rw [ht]; exact hP, va_K.moved hW.alike hK, hD⟩, hS.F ht⟩) hS.2.2 dX0_owned_13
  · refine lv_iload_n hx hb dX0_owned_5 rfl (lv_at hl 1 rfl) ?_
    refine lv_bipush (v := nI 7) hx hb dX0_owned_6 (by decide) ?_
    refine lv_icmp_le (tgt := 14) hx hb dX0_owned_8 (by decide) (fun h2 => ?_) (fun h2 => ?_)
    · obtain ⟨y, hy, hyb⟩ := rng_o h h2
      subst hy
      have hl : lv_has ls 2 [(0, .ref (q 0)), (1, .int (oI y))] := hl
      refine lv_aload_n hx hb dX0_owned_14 rfl (lv_at hl 0 rfl) ?_
      refine kX0_X0_settleAll S hl.1 ⟨Nat.le_of_ble_eq_true rfl, Nat.le_of_ble_eq_true rfl⟩ (Nat.le_of_ble_eq_true rfl) ⟨Nat.zero_le _, Nat.zero_le _⟩ hK hP hD hS hA D gT gC gB dX0_owned_15 (fun u H locs hw hP hD hS => ?_)
      obtain ⟨su, se, ha, sk⟩ := u
      have hw : SET D us bi le pe su se ha := hw
      have hP : va_P (dC, dI) vwCl (xW cI cZ q he ro fr ab fu us bi le pe ch su se ha sk) H := hP
      have hD : va_D A (xW cI cZ q he ro fr ab fu us bi le pe ch su se ha sk) := hD
      refine lv_aload_n hx hb dX0_owned_18 rfl (lv_at hl 0 rfl) ?_
      refine gX0_sum hx hb hts hown hK hP dX0_owned_19 ?_
      refine r_join (rest := [.ref (q 10)]) 32 (fun v => ∃ i, v = nI i ∧ (y = none → i = 8) ∧ (∀ n, y = some n → i = n) ∧ i < 9) (fun v hv => ?_) (fun J => ?_)
      · obtain ⟨i, hvi, i1, i2, i3⟩ := hv
        subst hvi
        refine rX0_sum (n := i) hx hb hK hP rfl (by omega) dX0_owned_32 ?_
        exact W.iret (v := zI (su i)) hx hb hr (fun t ht hW => ⟨⟨zI (su i), (su, se, ha, sk), rfl, ows_good hyb (fun e => by rw [i1 e, hw.2.1]) (fun n e => by rw [i2 n e, hw.1 n (hyb n e)]), by rw [ht]; exact hP, va_K.moved hW.alike hK, hD⟩, hS.F ht⟩) hS.2.2 dX0_owned_33
      · refine lv_iload_n hx hb dX0_owned_22 rfl (lv_at hl 1 rfl) ?_
        refine r_ifgeO (x := y) (tgt := 31) hx hb (rng_b hyb) dX0_owned_23 (by decide) (fun y1 h3 => ?_) (fun h3 => ?_)
        · subst h3
          have y8 := hyb y1 rfl
          have hl : lv_has ls 2 [(0, .ref (q 0)), (1, .int (nI y1))] := hl
          refine lv_iload_n hx hb dX0_owned_31 rfl (lv_at hl 1 rfl) ?_
          exact J _ ⟨y1, rfl, fun e => (by cases e), fun n e => (by cases e; rfl), by omega⟩
        · subst h3
          refine lv_bipush (v := nI 8) hx hb dX0_owned_26 (by decide) ?_
          refine lv_goto (tgt := 32) hx hb dX0_owned_28 (by decide) ?_
          exact J _ ⟨8, rfl, fun _ => rfl, fun n e => (by cases e), by decide⟩
    · refine lv_bipush (v := (-2)) hx hb dX0_owned_11 (by decide) ?_
      exact W.iret (v := (-2)) hx hb hr (fun t ht hW => ⟨⟨(-2), (su, se, ha, sk), rfl, ows_bad (Or.inr (nle_lt h2)), by rw [ht]; exact hP, va_K.moved hW.alike hK, hD⟩, hS.F ht⟩) hS.2.2 dX0_owned_13
set_option maxRecDepth 100000 in
theorem kL_X0_owned {p : Program} {l : Launch} {e : Env} {R : Room} {s : State} {m : MethodId} {args : Array Value} {below : List Frame} {meth : Method} {c : Code} {H : Heap} {locs : List Loc} {cells slots : Nat} {Q : State → Prop} {cc : ByteArray} {pc nL : Nat} {ls : Array Slot} {rest : List Value} {A : Nat → Prop} {H0 : Heap} {dC : Nat → ClassId} {dI : Nat → Nat → Nat} {cI cZ : ClassId} {q : Nat → Nat} {he : Nat} {ro : Option Nat} {fr : Option Nat} {ab : Option Nat} {fu : Option Nat} {us : Nat → Bool} {bi : Nat → Nat} {le : Nat → Nat} {pe : Nat → Option Nat} {ch : Nat → Option Nat} {su : Nat → Int} {se : Nat → Int} {ha : Nat → Option Nat} {sk : Nat → Nat} (S : CallFix p m c cc nL s args lw_all "PeerRoutesLaw") (hls : ls.size = nL) (hR : 2 + 1 ≤ R.frames ∧ 8 + (2 + 11) + 49 ≤ R.locals) (hrest : (rest.map fun v => v.category).sum ≤ 8) (hc : cells ≤ R.cells ∧ slots ≤ R.slots) (hK : va_K (dC, dI) vwCl (xT cI cZ) s) (hP : va_P (dC, dI) vwCl (xW cI cZ q he ro fr ab fu us bi le pe ch su se ha sk) H) (hD : va_D A (xW cI cZ q he ro fr ab fu us bi le pe ch su se ha sk)) (hS : va_S A H0 H locs) (hA : ∀ q : Nat, H0.size ≤ q → A q) (x1 : Int32) (D : Nat → Nat → Option Nat) (gT : TW us bi le ro ch) (gC : CT us bi le pe D) (gB : PB us pe) (hd : decode cc pc = .ok (.invokevirtual 36, 3)) (kk : ∀ (r : Int32) (u : (Nat → Int) × (Nat → Int) × (Nat → Option Nat) × (Nat → Nat)) (H : Heap) (locs : List Loc), (OWS D x1 r) → va_P (dC, dI) vwCl (xW cI cZ q he ro fr ab fu us bi le pe ch u.1 u.2.1 u.2.2.1 u.2.2.2) H → va_D A (xW cI cZ q he ro fr ab fu us bi le pe ch u.1 u.2.1 u.2.2.1 u.2.2.2) → va_S A H0 H locs → W p l e R s m args below meth c H locs cells slots Q (F0 m (pc + 3) ls (.int r :: rest))) : W p l e R s m args below meth c H locs cells slots Q (F0 m pc ls (.int x1 :: .ref (q 0) :: rest)) := by
  have hFc := va_free (wc := xW cI cZ q he ro fr ab fu us bi le pe ch su se ha sk) hD hS hA [0, 1, 2, 3, 4, 5, 6, 7, 8, 9] rfl
  refine va_calli (va_runV (As := [.int x1]) (rest := rest) S (metX0_owned l dC dI cI cZ q H.size he ro fr ab fu us bi le pe ch su se ha sk x1 D gT gC gB) (cwV 1 S.2.2.2.2 (lw_V q134 q135 q136 q17 q137) rfl rfl rfl (by decide +kernel) hR) ⟨fun a U g mk q => by obtain ⟨q0, q1, qP, qK, qD⟩ := q; exact ⟨q0, q1, qP, va_K.moved (u := U) (U := U.calling g mk a) (Vm.Alike.refl U.vm) qK, qD⟩, va_recv hK hP (ci := 0) (q0 := 0) rfl rfl, fun U hU hW => ⟨rfl, by rw [hU], by rw [hU]; exact hP, va_K.moved hW.alike hK, hD.weaken (fun _ _ _ _ => trivial)⟩⟩ rfl rfl hls rfl (lv_room hrest) hd hc) hS (fun q _ h => hFc q h) hFc (fun r u t H1 locs1 ht hvm hw hB hz1 hk1 hS1 => ?_)
  obtain ⟨hP1, hK1, hD1⟩ := hB
  rw [ht] at hP1
  obtain ⟨hP2, hD2⟩ := va_join (wr := []) (w1 := xW cI cZ q he ro fr ab fu us bi le pe ch u.1 u.2.1 u.2.2.1 u.2.2.2) hP hD [0, 1, 2, 3, 4, 5, 6, 7, 8, 9] [] rfl rfl (by decide) (by decide) hk1 hFc hP1 hD1
  exact kk r u H1 locs1 hw hP2 hD2 hS1
set_option maxHeartbeats 4000000 in
set_option maxRecDepth 100000 in
theorem metX0_entries (l : Launch) (dC : Nat → ClassId) (dI : Nat → Nat → Nat) (cI cZ : ClassId) (q : Nat → Nat) (he : Nat) (ro : Option Nat) (fr : Option Nat) (ab : Option Nat) (fu : Option Nat) (us : Nat → Bool) (bi : Nat → Nat) (le : Nat → Nat) (pe : Nat → Option Nat) (ch : Nat → Option Nat) (su : Nat → Int) (se : Nat → Int) (ha : Nat → Option Nat) (sk : Nat → Nat) (x1 : Int32) (D : Nat → Nat → Option Nat) (gT : TW us bi le ro ch) (gC : CT us bi le pe D) (gB : PB us pe) : Met l yX0_entries (ws_ yX0_entries cX0_entries 4 (some .int)) ({ frames := 0, cells := 0, slots := 0, locals := 0 }) (va_Pc [.ref (q 0), .int x1] (fun U => va_P (dC, dI) vwCl (xW cI cZ q he ro fr ab fu us bi le pe ch su se ha sk) U.heap ∧ va_K (dC, dI) vwCl (xT cI cZ) U)) (vp_Si (fun r => ENS D x1 r)) 0 0 (fun _ => False) := by
  refine Met.ofW (cc := cX0_entries) (maxL := 4) (ret := (some .int)) (by decide) rfl ?_
  intro p e s m args below meth c s₁ B hml hv
  obtain ⟨rfl, hP, hK⟩ := hv
  have hx := B.exec
  have hb := B.bytes
  have hr := B.returns
  have hts := atoms_spec (ws := (ws_ yX0_entries cX0_entries 4 (some .int))) B.pre
  have hts : ∀ w ∈ lw_all, w.before _ s = true := fun w h => hts w (List.mem_cons_of_mem _ h)
  have hown : s.vm.findClass RX0 = some m.cls := findClass_of_methodNamed B.named
  have hlocks := B.notSynchronized
  have hl := lv_entry ([.ref (q 0), .int x1]) (n := 4) (Nat.le_of_ble_eq_true rfl)
  rw [lg_entry_eq]
  generalize (lg_sl ([.ref (q 0), .int x1]) ++ List.replicate (4 - (lg_sl ([.ref (q 0), .int x1])).length) Slot.unset).toArray = ls at hl ⊢
  have hl : lv_has ls 4 [(0, .ref (q 0)), (1, .int x1)] := hl
  have S : CallFix p m c _ _ s _ lw_all _ := ⟨hx, hb, hml, hown, hts⟩
  refine lv_iload_n hx hb dX0_entries_0 rfl (lv_at hl 1 rfl) ?_
  refine lv_if_lt (tgt := 10) hx hb dX0_entries_1 (by decide) (fun h1 => ?_) (fun h1 => ?_)
  · refine lv_iconst (v := oI none) hx hb dX0_entries_10 (by decide) ?_
    exact W.iret (v := oI none) hx hb hr (fun t ht hW => ⟨oI none, rfl, ens_bad (Or.inl h1), ht⟩) (fun _ h => absurd h List.not_mem_nil) dX0_entries_11
  · refine lv_iload_n hx hb dX0_entries_4 rfl (lv_at hl 1 rfl) ?_
    refine lv_bipush (v := nI 7) hx hb dX0_entries_5 (by decide) ?_
    refine lv_icmp_le (tgt := 12) hx hb dX0_entries_7 (by decide) (fun h2 => ?_) (fun h2 => ?_)
    · obtain ⟨y, gy, ey⟩ := nI_of2 (M := nI 7) (n := 7) (by decide) h1 h2
      subst ey
      have hl : lv_has ls 4 [(0, .ref (q 0)), (1, .int (nI y))] := hl
      refine lv_iconst (v := nI 0) hx hb dX0_entries_12 (by decide) ?_
      refine lv_istore_n (lv' := [(2, .int (nI 0)), (0, .ref (q 0)), (1, .int (nI y))]) hx hb dX0_entries_13 rfl hl (by decide) rfl (fun ls hl => ?_)
      refine lv_iconst (v := nI 0) hx hb dX0_entries_14 (by decide) ?_
      refine lv_istore_n (lv' := [(3, .int (nI 0)), (2, .int (nI 0)), (0, .ref (q 0)), (1, .int (nI y))]) hx hb dX0_entries_15 rfl hl (by decide) rfl (fun ls hl => ?_)
      refine r_loop (σ := Nat × Nat) (nL := 4) (fun | (n, k) => [(0, .ref (q 0)), (1, .int (nI y)), (2, .int (nI n)), (3, .int (nI k))]) (fun | (n, k) => k ≤ 64 ∧ fb_ct (fun m => us m && decide (pe m = some y)) k = n) (fun | (n, k) => 64 - k) (fun x ls hI hl ih => ?_) (0, 0) ⟨by decide, rfl⟩ (lv_sub hl [2, 3, 1, 0] rfl)
      obtain ⟨n, k⟩ := x
      have hl : lv_has ls 4 [(0, .ref (q 0)), (1, .int (nI y)), (2, .int (nI n)), (3, .int (nI k))] := hl
      have hI : k ≤ 64 ∧ fb_ct (fun m => us m && decide (pe m = some y)) k = n := hI
      obtain ⟨i1, i2⟩ := hI
      refine lv_iload_n hx hb dX0_entries_16 rfl (lv_at hl 3 rfl) ?_
      refine lv_bipush (v := nI 64) hx hb dX0_entries_17 (by decide) ?_
      refine r_ge (a := k) (b := 64) (tgt := 55) hx hb (by omega) (by omega) dX0_entries_19 (by decide) (fun h3 => ?_) (fun h3 => ?_)
      · have e : k = 64 := by omega
        subst e
        subst i2
        refine lv_iload_n hx hb dX0_entries_55 rfl (lv_at hl 2 rfl) ?_
        exact W.iret (v := nI (fb_ct (fun m => us m && decide (pe m = some y)) 64)) hx hb hr (fun t ht hW => ⟨nI (fb_ct (fun m => us m && decide (pe m = some y)) 64), rfl, ens_good (by omega) (by rw [zI_n, ent_tree gT gC]), ht⟩) (fun _ h => absurd h List.not_mem_nil) dX0_entries_56
      · refine lv_iload_n hx hb dX0_entries_22 rfl (lv_at hl 2 rfl) ?_
        refine r_join (rest := [.int (nI n)]) 47 (fun v => v = nI (if (us k && decide (pe k = some y)) = true then 1 else 0)) (fun v hv => ?_) (fun J => ?_)
        · subst hv
          refine r_iadd (a := n) (b := (if (us k && decide (pe k = some y)) = true then 1 else 0)) hx hb dX0_entries_47 ?_
          refine lv_istore_n (lv' := [(2, .int (nI (n + (if (us k && decide (pe k = some y)) = true then 1 else 0)))), (0, .ref (q 0)), (1, .int (nI y)), (3, .int (nI k))]) hx hb dX0_entries_48 rfl hl (by decide) rfl (fun ls hl => ?_)
          refine lv_iinc (v := nI (k + 1)) (lv' := [(3, .int (nI (k + 1))), (2, .int (nI (n + (if (us k && decide (pe k = some y)) = true then 1 else 0)))), (0, .ref (q 0)), (1, .int (nI y))]) hx hb dX0_entries_49 hl (k := 3) rfl (nI_1 k) (by decide) rfl (fun ls hl => ?_)
          refine lv_goto (tgt := 16) hx hb dX0_entries_52 (by decide) ?_
          exact ih (n + (if (us k && decide (pe k = some y)) = true then 1 else 0), k + 1) ls ⟨by omega, by rw [fb_ct_succ, i2]⟩ (by show 64 - (k + 1) < 64 - k; omega) (lv_sub hl [2, 3, 1, 0] rfl)
        · refine lv_aload_n hx hb dX0_entries_23 rfl (lv_at hl 0 rfl) ?_
          refine gX0_used hx hb hts hown hK hP dX0_entries_24 ?_
          refine lv_iload_n hx hb dX0_entries_27 rfl (lv_at hl 3 rfl) ?_
          refine rX0_used (n := k) hx hb hK hP rfl (by omega) dX0_entries_28 ?_
          refine r_ifeqB (b := us k) (tgt := 46) hx hb dX0_entries_29 (by decide) (fun h4 => ?_) (fun h4 => ?_)
          · refine lv_iconst (v := nI 0) hx hb dX0_entries_46 (by decide) ?_
            exact J _ (by rw [h4]; rfl)
          · refine lv_aload_n hx hb dX0_entries_32 rfl (lv_at hl 0 rfl) ?_
            refine gX0_peerOf hx hb hts hown hK hP dX0_entries_33 ?_
            refine lv_iload_n hx hb dX0_entries_36 rfl (lv_at hl 3 rfl) ?_
            refine rX0_peerOf (n := k) hx hb hK hP rfl (by omega) dX0_entries_37 ?_
            refine lv_iload_n hx hb dX0_entries_38 rfl (lv_at hl 1 rfl) ?_
            refine r_neo (x := pe k) (y := some y) (tgt := 46) hx hb (fun w hw => by have := gB k w ⟨h3, h4⟩ hw; omega) (fun w hw => by cases hw; omega) dX0_entries_39 (by decide) (fun h5 => ?_) (fun h5 => ?_)
            · refine lv_iconst (v := nI 0) hx hb dX0_entries_46 (by decide) ?_
              exact J _ (by rw [h4, decide_eq_false h5]; rfl)
            · refine lv_iconst (v := nI 1) hx hb dX0_entries_42 (by decide) ?_
              refine lv_goto (tgt := 47) hx hb dX0_entries_43 (by decide) ?_
              exact J _ (by rw [h4, decide_eq_true h5]; rfl)
    · refine lv_iconst (v := oI none) hx hb dX0_entries_10 (by decide) ?_
      exact W.iret (v := oI none) hx hb hr (fun t ht hW => ⟨oI none, rfl, ens_bad (Or.inr (nle_lt h2)), ht⟩) (fun _ h => absurd h List.not_mem_nil) dX0_entries_11
set_option maxRecDepth 100000 in
theorem kL_X0_entries {p : Program} {l : Launch} {e : Env} {R : Room} {s : State} {m : MethodId} {args : Array Value} {below : List Frame} {meth : Method} {c : Code} {H : Heap} {locs : List Loc} {cells slots : Nat} {Q : State → Prop} {cc : ByteArray} {pc nL : Nat} {ls : Array Slot} {rest : List Value} {dC : Nat → ClassId} {dI : Nat → Nat → Nat} {cI cZ : ClassId} {q : Nat → Nat} {he : Nat} {ro : Option Nat} {fr : Option Nat} {ab : Option Nat} {fu : Option Nat} {us : Nat → Bool} {bi : Nat → Nat} {le : Nat → Nat} {pe : Nat → Option Nat} {ch : Nat → Option Nat} {su : Nat → Int} {se : Nat → Int} {ha : Nat → Option Nat} {sk : Nat → Nat} (S : CallFix p m c cc nL s args lw_all "PeerRoutesLaw") (hls : ls.size = nL) (hR : 0 + 1 ≤ R.frames ∧ 8 + (4 + 11) + 0 ≤ R.locals) (hrest : (rest.map fun v => v.category).sum ≤ 8) (hc : cells ≤ R.cells ∧ slots ≤ R.slots) (hK : va_K (dC, dI) vwCl (xT cI cZ) s) (hP : va_P (dC, dI) vwCl (xW cI cZ q he ro fr ab fu us bi le pe ch su se ha sk) H) (x1 : Int32) (D : Nat → Nat → Option Nat) (gT : TW us bi le ro ch) (gC : CT us bi le pe D) (gB : PB us pe) (hd : decode cc pc = .ok (.invokevirtual 49, 3)) (kk : ∀ r : Int32, (ENS D x1 r) → W p l e R s m args below meth c H locs cells slots Q (F0 m (pc + 3) ls (.int r :: rest))) : W p l e R s m args below meth c H locs cells slots Q (F0 m pc ls (.int x1 :: .ref (q 0) :: rest)) := vp_callSi (va_Run.run (va_runV (As := [.int x1]) (rest := rest) S (metX0_entries l dC dI cI cZ q he ro fr ab fu us bi le pe ch su se ha sk x1 D gT gC gB) (cwV 1 S.2.2.2.2 (lw_V q160 q161 q162 q17 q163) rfl rfl rfl (by decide +kernel) hR) ⟨fun a U g mk q => by obtain ⟨q0, qP, qK⟩ := q; exact ⟨q0, qP, va_K.moved (u := U) (U := U.calling g mk a) (Vm.Alike.refl U.vm) qK⟩, va_recv hK hP (ci := 0) (q0 := 0) rfl rfl, fun U hU hW => ⟨rfl, by rw [hU]; exact hP, va_K.moved hW.alike hK⟩⟩ rfl rfl hls rfl (lv_room hrest) hd hc)) kk
set_option maxHeartbeats 4000000 in
set_option maxRecDepth 100000 in
theorem metX0_useless (l : Launch) (dC : Nat → ClassId) (dI : Nat → Nat → Nat) (cI cZ : ClassId) (q : Nat → Nat) (sz : Nat) (he : Nat) (ro : Option Nat) (fr : Option Nat) (ab : Option Nat) (fu : Option Nat) (us : Nat → Bool) (bi : Nat → Nat) (le : Nat → Nat) (pe : Nat → Option Nat) (ch : Nat → Option Nat) (su : Nat → Int) (se : Nat → Int) (ha : Nat → Option Nat) (sk : Nat → Nat) (D : Nat → Nat → Option Nat) (gT : TW us bi le ro ch) (gC : CT us bi le pe D) (gB : PB us pe) : Met l yX0_useless (ws_ yX0_useless cX0_useless 4 (some .int)) ({ frames := 2, cells := 0, slots := 0, locals := 49 }) (va_Pc [.ref (q 0)] (fun U => U.heap.size = sz ∧ va_P (dC, dI) vwCl (xW cI cZ q he ro fr ab fu us bi le pe ch su se ha sk) U.heap ∧ va_K (dC, dI) vwCl (xT cI cZ) U ∧ va_D (fun _ => True) (xW cI cZ q he ro fr ab fu us bi le pe ch su se ha sk))) (va_Qi (fun (r : Int32) (u : (Nat → Int) × (Nat → Int) × (Nat → Option Nat) × (Nat → Nat)) => r = zI (uslD D)) (fun (u : (Nat → Int) × (Nat → Int) × (Nat → Option Nat) × (Nat → Nat)) t => va_P (dC, dI) vwCl (xW cI cZ q he ro fr ab fu us bi le pe ch u.1 u.2.1 u.2.2.1 u.2.2.2) t.heap ∧ va_K (dC, dI) vwCl (xT cI cZ) t ∧ va_D (va_A (xW cI cZ q he ro fr ab fu us bi le pe ch su se ha sk) sz) (xW cI cZ q he ro fr ab fu us bi le pe ch u.1 u.2.1 u.2.2.1 u.2.2.2)) (va_A (xW cI cZ q he ro fr ab fu us bi le pe ch su se ha sk) sz)) 0 0 (va_A (xW cI cZ q he ro fr ab fu us bi le pe ch su se ha sk) sz) := by
  refine Met.ofW (cc := cX0_useless) (maxL := 4) (ret := (some .int)) (by decide) rfl ?_
  intro p e s m args below meth c s₁ B hml hv
  obtain ⟨rfl, hsz, hP, hK, hD0⟩ := hv
  have hx := B.exec
  have hb := B.bytes
  have hr := B.returns
  have hts := atoms_spec (ws := (ws_ yX0_useless cX0_useless 4 (some .int))) B.pre
  have hts : ∀ w ∈ lw_all, w.before _ s = true := fun w h => hts w (List.mem_cons_of_mem _ h)
  have hown : s.vm.findClass RX0 = some m.cls := findClass_of_methodNamed B.named
  have hlocks := B.notSynchronized
  subst hsz
  have hD := hD0.self (sz := s.heap.size)
  generalize hAe : va_A (xW cI cZ q he ro fr ab fu us bi le pe ch su se ha sk) s.heap.size = A at hD ⊢
  have hA : ∀ q : Nat, s.heap.size ≤ q → A q := fun q h => by rw [← hAe]; exact Or.inr h
  have hS : va_S A s.heap s.heap [] := va_S.rf
  have hl := lv_entry ([.ref (q 0)]) (n := 4) (Nat.le_of_ble_eq_true rfl)
  rw [lg_entry_eq]
  generalize (lg_sl ([.ref (q 0)]) ++ List.replicate (4 - (lg_sl ([.ref (q 0)])).length) Slot.unset).toArray = ls at hl ⊢
  have hl : lv_has ls 4 [(0, .ref (q 0))] := hl
  have S : CallFix p m c _ _ s _ lw_all _ := ⟨hx, hb, hml, hown, hts⟩
  refine lv_aload_n hx hb dX0_useless_0 rfl (lv_at hl 0 rfl) ?_
  refine kX0_X0_settleAll S hl.1 ⟨Nat.le_of_ble_eq_true rfl, Nat.le_of_ble_eq_true rfl⟩ (Nat.le_of_ble_eq_true rfl) ⟨Nat.zero_le _, Nat.zero_le _⟩ hK hP hD hS hA D gT gC gB dX0_useless_1 (fun u H locs hw hP hD hS => ?_)
  obtain ⟨su, se, ha, sk⟩ := u
  have hw : SET D us bi le pe su se ha := hw
  have hP : va_P (dC, dI) vwCl (xW cI cZ q he ro fr ab fu us bi le pe ch su se ha sk) H := hP
  have hD : va_D A (xW cI cZ q he ro fr ab fu us bi le pe ch su se ha sk) := hD
  refine lv_iconst (v := nI 0) hx hb dX0_useless_4 (by decide) ?_
  refine lv_istore_n (lv' := [(1, .int (nI 0)), (0, .ref (q 0))]) hx hb dX0_useless_5 rfl hl (by decide) rfl (fun ls hl => ?_)
  refine lv_iconst (v := nI 0) hx hb dX0_useless_6 (by decide) ?_
  refine lv_istore_n (lv' := [(2, .int (nI 0)), (1, .int (nI 0)), (0, .ref (q 0))]) hx hb dX0_useless_7 rfl hl (by decide) rfl (fun ls hl => ?_)
  refine r_loop (σ := Nat × Nat) (nL := 4) (fun | (n, k) => [(0, .ref (q 0)), (1, .int (nI n)), (2, .int (nI k))]) (fun | (n, k) => k ≤ 64 ∧ fb_ct (fun m => us m && usl D bi le pe m) k = n) (fun | (n, k) => 64 - k) (fun x ls hI hl ih => ?_) (0, 0) ⟨by decide, rfl⟩ (lv_sub hl [2, 1, 0] rfl)
  obtain ⟨n, k⟩ := x
  have hl : lv_has ls 4 [(0, .ref (q 0)), (1, .int (nI n)), (2, .int (nI k))] := hl
  have hI : k ≤ 64 ∧ fb_ct (fun m => us m && usl D bi le pe m) k = n := hI
  obtain ⟨i1, i2⟩ := hI
  refine lv_iload_n hx hb dX0_useless_8 rfl (lv_at hl 2 rfl) ?_
  refine lv_bipush (v := nI 64) hx hb dX0_useless_9 (by decide) ?_
  refine r_ge (a := k) (b := 64) (tgt := 94) hx hb (by omega) (by omega) dX0_useless_11 (by decide) (fun h3 => ?_) (fun h3 => ?_)
  · have e : k = 64 := by omega
    subst e
    subst i2
    refine lv_iload_n hx hb dX0_useless_94 rfl (lv_at hl 1 rfl) ?_
    exact W.iret (v := nI (fb_ct (fun m => us m && usl D bi le pe m) 64)) hx hb hr (fun t ht hW => ⟨⟨nI (fb_ct (fun m => us m && usl D bi le pe m) 64), (su, se, ha, sk), rfl, by rw [zI_n, usl_tree gT gC], by rw [ht]; exact hP, va_K.moved hW.alike hK, hD⟩, hS.F ht⟩) hS.2.2 dX0_useless_95
  · refine lv_aload_n hx hb dX0_useless_14 rfl (lv_at hl 0 rfl) ?_
    refine gX0_used hx hb hts hown hK hP dX0_useless_15 ?_
    refine lv_iload_n hx hb dX0_useless_18 rfl (lv_at hl 2 rfl) ?_
    refine rX0_used (n := k) hx hb hK hP rfl (by omega) dX0_useless_19 ?_
    refine r_ifeqB (b := us k) (tgt := 88) hx hb dX0_useless_20 (by decide) (fun h4 => ?_) (fun h4 => ?_)
    · refine lv_iinc (v := nI (k + 1)) (lv' := [(2, .int (nI (k + 1))), (0, .ref (q 0)), (1, .int (nI n))]) hx hb dX0_useless_88 hl (k := 2) rfl (nI_1 k) (by decide) rfl (fun ls hl => ?_)
      refine lv_goto (tgt := 8) hx hb dX0_useless_91 (by decide) ?_
      exact ih (n, k + 1) ls ⟨by omega, by rw [fb_ct_succ, h4, i2]; rfl⟩ (by show 64 - (k + 1) < 64 - k; omega) (lv_sub hl [1, 2, 0] rfl)
    · have hk : ud us k := ⟨h3, h4⟩
      have hbk := hw.2.2.2 k hk
      refine lv_aload_n hx hb dX0_useless_23 rfl (lv_at hl 0 rfl) ?_
      refine gX0_peerOf hx hb hts hown hK hP dX0_useless_24 ?_
      refine lv_iload_n hx hb dX0_useless_27 rfl (lv_at hl 2 rfl) ?_
      refine rX0_peerOf (n := k) hx hb hK hP rfl (by omega) dX0_useless_28 ?_
      refine r_ifltO (x := pe k) (tgt := 88) hx hb (fun w hw => by have := gB k w hk hw; omega) dX0_useless_29 (by decide) (fun h5 => ?_) (fun y h5 => ?_)
      · refine lv_iinc (v := nI (k + 1)) (lv' := [(2, .int (nI (k + 1))), (0, .ref (q 0)), (1, .int (nI n))]) hx hb dX0_useless_88 hl (k := 2) rfl (nI_1 k) (by decide) rfl (fun ls hl => ?_)
        refine lv_goto (tgt := 8) hx hb dX0_useless_91 (by decide) ?_
        exact ih (n, k + 1) ls ⟨by omega, by rw [fb_ct_succ, h4, show usl D bi le pe k = false by unfold usl; rw [h5], i2]; rfl⟩ (by show 64 - (k + 1) < 64 - k; omega) (lv_sub hl [1, 2, 0] rfl)
      · have hse := hw.2.2.1 k hk (by rw [h5]; rfl)
        have hpar := hb_par gT gC hbk
        have hul : usl D bi le pe k = decide (zI (setD D (bi k) (le k)) = 0 ∨ parP D (bi k) (le k) = some y) := by unfold usl; rw [h5]
        refine lv_aload_n hx hb dX0_useless_32 rfl (lv_at hl 0 rfl) ?_
        refine gX0_heldAbove hx hb hts hown hK hP dX0_useless_33 ?_
        refine lv_iload_n hx hb dX0_useless_36 rfl (lv_at hl 2 rfl) ?_
        refine rX0_heldAbove (n := k) hx hb hK hP rfl (by omega) dX0_useless_37 ?_
        refine r_join (rest := []) 66 (fun v => v = bI (decide (parP D (bi k) (le k) = some y))) (fun v hv => ?_) (fun J => ?_)
        · subst hv
          refine lv_istore_n (lv' := [(3, .int (bI (decide (parP D (bi k) (le k) = some y)))), (0, .ref (q 0)), (1, .int (nI n)), (2, .int (nI k))]) hx hb dX0_useless_66 rfl hl (by decide) rfl (fun ls hl => ?_)
          refine lv_iload_n hx hb dX0_useless_67 rfl (lv_at hl 2 rfl) ?_
          refine r_join (rest := [.int (nI n)]) 86 (fun v => v = nI (if usl D bi le pe k = true then 1 else 0)) (fun v hv => ?_) (fun J => ?_)
          · subst hv
            refine r_iadd (a := n) (b := (if usl D bi le pe k = true then 1 else 0)) hx hb dX0_useless_86 ?_
            refine lv_istore_n (lv' := [(1, .int (nI (n + (if usl D bi le pe k = true then 1 else 0)))), (3, .int (bI (decide (parP D (bi k) (le k) = some y)))), (0, .ref (q 0)), (2, .int (nI k))]) hx hb dX0_useless_87 rfl hl (by decide) rfl (fun ls hl => ?_)
            refine lv_iinc (v := nI (k + 1)) (lv' := [(2, .int (nI (k + 1))), (1, .int (nI (n + (if usl D bi le pe k = true then 1 else 0)))), (3, .int (bI (decide (parP D (bi k) (le k) = some y)))), (0, .ref (q 0))]) hx hb dX0_useless_88 hl (k := 3) rfl (nI_1 k) (by decide) rfl (fun ls hl => ?_)
            refine lv_goto (tgt := 8) hx hb dX0_useless_91 (by decide) ?_
            exact ih (n + (if usl D bi le pe k = true then 1 else 0), k + 1) ls ⟨by omega, by rw [fb_ct_succ, h4, i2]; rfl⟩ (by show 64 - (k + 1) < 64 - k; omega) (lv_sub hl [3, 1, 0] rfl)
          · refine lv_aload_n hx hb dX0_useless_68 rfl (lv_at hl 1 rfl) ?_
            refine gX0_settled hx hb hts hown hK hP dX0_useless_69 ?_
            refine lv_iload_n hx hb dX0_useless_72 rfl (lv_at hl 3 rfl) ?_
            refine rX0_settled (n := k) hx hb hK hP rfl (by omega) dX0_useless_73 ?_
            refine lv_if_eq (tgt := 81) hx hb dX0_useless_74 (by decide) (fun h6 => ?_) (fun h6 => ?_)
            · refine lv_iconst (v := nI 1) hx hb dX0_useless_81 (by decide) ?_
              refine lv_goto (tgt := 86) hx hb dX0_useless_82 (by decide) ?_
              exact J _ (by rw [hul, decide_eq_true (Or.inl (by rw [← hse]; exact h6))]; rfl)
            · refine lv_iload_n hx hb dX0_useless_77 rfl (lv_at hl 0 rfl) ?_
              refine r_ifeqB (b := decide (parP D (bi k) (le k) = some y)) (tgt := 85) hx hb dX0_useless_78 (by decide) (fun h7 => ?_) (fun h7 => ?_)
              · refine lv_iconst (v := nI 0) hx hb dX0_useless_85 (by decide) ?_
                exact J _ (by rw [hul, decide_eq_false (fun z => by rcases z with z | z; exact h6 (by rw [hse]; exact z); exact of_decide_eq_false h7 z)]; rfl)
              · refine lv_iconst (v := nI 1) hx hb dX0_useless_81 (by decide) ?_
                refine lv_goto (tgt := 86) hx hb dX0_useless_82 (by decide) ?_
                exact J _ (by rw [hul, decide_eq_true (Or.inr (of_decide_eq_true h7))]; rfl)
        · refine r_ifltO (x := ha k) (tgt := 65) hx hb (fun w hw => by have := (hbk.1 w hw).1.1; omega) dX0_useless_38 (by decide) (fun h6 => ?_) (fun u h6 => ?_)
          · refine lv_iconst (v := nI 0) hx hb dX0_useless_65 (by decide) ?_
            exact J _ (by rw [decide_eq_false (by rw [← hpar, h6]; intro z; cases z)]; rfl)
          · obtain ⟨u1, -, u3, -⟩ := hbk.1 u h6
            have u6 := u1.1
            have hpar2 : pe u = parP D (bi k) (le k) := by rw [← hpar, h6]; rfl
            refine lv_aload_n hx hb dX0_useless_41 rfl (lv_at hl 0 rfl) ?_
            refine gX0_peerOf hx hb hts hown hK hP dX0_useless_42 ?_
            refine lv_aload_n hx hb dX0_useless_45 rfl (lv_at hl 0 rfl) ?_
            refine gX0_heldAbove hx hb hts hown hK hP dX0_useless_46 ?_
            refine lv_iload_n hx hb dX0_useless_49 rfl (lv_at hl 2 rfl) ?_
            refine rX0_heldAbove (n := k) hx hb hK hP rfl (by omega) dX0_useless_50 ?_
            refine r_top (y := nI u) (by rw [h6]; rfl) ?_
            refine rX0_peerOf (n := u) hx hb hK hP rfl (by omega) dX0_useless_51 ?_
            refine lv_aload_n hx hb dX0_useless_52 rfl (lv_at hl 0 rfl) ?_
            refine gX0_peerOf hx hb hts hown hK hP dX0_useless_53 ?_
            refine lv_iload_n hx hb dX0_useless_56 rfl (lv_at hl 2 rfl) ?_
            refine rX0_peerOf (n := k) hx hb hK hP rfl (by omega) dX0_useless_57 ?_
            refine r_neo (x := pe u) (y := pe k) (tgt := 65) hx hb (fun w hw => by have := gB u w u1 hw; omega) (fun w hw => by have := gB k w hk hw; omega) dX0_useless_58 (by decide) (fun h7 => ?_) (fun h7 => ?_)
            · refine lv_iconst (v := nI 0) hx hb dX0_useless_65 (by decide) ?_
              exact J _ (by rw [decide_eq_false (by rw [← hpar2, ← h5]; exact h7)]; rfl)
            · refine lv_iconst (v := nI 1) hx hb dX0_useless_61 (by decide) ?_
              refine lv_goto (tgt := 66) hx hb dX0_useless_62 (by decide) ?_
              exact J _ (by rw [decide_eq_true (by rw [← hpar2, ← h5]; exact h7)]; rfl)
set_option maxRecDepth 100000 in
theorem kL_X0_useless {p : Program} {l : Launch} {e : Env} {R : Room} {s : State} {m : MethodId} {args : Array Value} {below : List Frame} {meth : Method} {c : Code} {H : Heap} {locs : List Loc} {cells slots : Nat} {Q : State → Prop} {cc : ByteArray} {pc nL : Nat} {ls : Array Slot} {rest : List Value} {A : Nat → Prop} {H0 : Heap} {dC : Nat → ClassId} {dI : Nat → Nat → Nat} {cI cZ : ClassId} {q : Nat → Nat} {he : Nat} {ro : Option Nat} {fr : Option Nat} {ab : Option Nat} {fu : Option Nat} {us : Nat → Bool} {bi : Nat → Nat} {le : Nat → Nat} {pe : Nat → Option Nat} {ch : Nat → Option Nat} {su : Nat → Int} {se : Nat → Int} {ha : Nat → Option Nat} {sk : Nat → Nat} (S : CallFix p m c cc nL s args lw_all "PeerRoutesLaw") (hls : ls.size = nL) (hR : 2 + 1 ≤ R.frames ∧ 8 + (4 + 11) + 49 ≤ R.locals) (hrest : (rest.map fun v => v.category).sum ≤ 8) (hc : cells ≤ R.cells ∧ slots ≤ R.slots) (hK : va_K (dC, dI) vwCl (xT cI cZ) s) (hP : va_P (dC, dI) vwCl (xW cI cZ q he ro fr ab fu us bi le pe ch su se ha sk) H) (hD : va_D A (xW cI cZ q he ro fr ab fu us bi le pe ch su se ha sk)) (hS : va_S A H0 H locs) (hA : ∀ q : Nat, H0.size ≤ q → A q) (D : Nat → Nat → Option Nat) (gT : TW us bi le ro ch) (gC : CT us bi le pe D) (gB : PB us pe) (hd : decode cc pc = .ok (.invokevirtual 44, 3)) (kk : ∀ (r : Int32) (u : (Nat → Int) × (Nat → Int) × (Nat → Option Nat) × (Nat → Nat)) (H : Heap) (locs : List Loc), (r = zI (uslD D)) → va_P (dC, dI) vwCl (xW cI cZ q he ro fr ab fu us bi le pe ch u.1 u.2.1 u.2.2.1 u.2.2.2) H → va_D A (xW cI cZ q he ro fr ab fu us bi le pe ch u.1 u.2.1 u.2.2.1 u.2.2.2) → va_S A H0 H locs → W p l e R s m args below meth c H locs cells slots Q (F0 m (pc + 3) ls (.int r :: rest))) : W p l e R s m args below meth c H locs cells slots Q (F0 m pc ls (.ref (q 0) :: rest)) := by
  have hFc := va_free (wc := xW cI cZ q he ro fr ab fu us bi le pe ch su se ha sk) hD hS hA [0, 1, 2, 3, 4, 5, 6, 7, 8, 9] rfl
  refine va_calli (va_runV (As := []) (rest := rest) S (metX0_useless l dC dI cI cZ q H.size he ro fr ab fu us bi le pe ch su se ha sk D gT gC gB) (cwV 0 S.2.2.2.2 (lw_V q156 q157 q158 q17 q159) rfl rfl rfl (by decide +kernel) hR) ⟨fun a U g mk q => by obtain ⟨q0, q1, qP, qK, qD⟩ := q; exact ⟨q0, q1, qP, va_K.moved (u := U) (U := U.calling g mk a) (Vm.Alike.refl U.vm) qK, qD⟩, va_recv hK hP (ci := 0) (q0 := 0) rfl rfl, fun U hU hW => ⟨rfl, by rw [hU], by rw [hU]; exact hP, va_K.moved hW.alike hK, hD.weaken (fun _ _ _ _ => trivial)⟩⟩ rfl rfl hls rfl (lv_room hrest) hd hc) hS (fun q _ h => hFc q h) hFc (fun r u t H1 locs1 ht hvm hw hB hz1 hk1 hS1 => ?_)
  obtain ⟨hP1, hK1, hD1⟩ := hB
  rw [ht] at hP1
  obtain ⟨hP2, hD2⟩ := va_join (wr := []) (w1 := xW cI cZ q he ro fr ab fu us bi le pe ch u.1 u.2.1 u.2.2.1 u.2.2.2) hP hD [0, 1, 2, 3, 4, 5, 6, 7, 8, 9] [] rfl rfl (by decide) (by decide) hk1 hFc hP1 hD1
  exact kk r u H1 locs1 hw hP2 hD2 hS1
end
section
set_option maxRecDepth 100000
set_option maxHeartbeats 4000000 in
set_option maxRecDepth 100000 in
theorem metX1_sizeOf (l : Launch) (k : Nat) (gk : k ≤ 16) : Met l yX1_sizeOf (ws_ yX1_sizeOf cX1_sizeOf 3 (some .int)) ({ frames := 0, cells := 0, slots := 0, locals := 0 }) (va_Pc [.int (nI k)] (fun _ => True)) (vp_Si (fun r => r = nI (2 ^ (16 - k)))) 0 0 (fun _ => False) := by
  refine Met.ofW (cc := cX1_sizeOf) (maxL := 3) (ret := (some .int)) (by decide) rfl ?_
  intro p e s m args below meth c s₁ B hml hv
  obtain ⟨rfl, -⟩ := hv
  have hx := B.exec
  have hb := B.bytes
  have hr := B.returns
  have hts := atoms_spec (ws := (ws_ yX1_sizeOf cX1_sizeOf 3 (some .int))) B.pre
  have hts : ∀ w ∈ lw_all, w.before _ s = true := fun w h => hts w (List.mem_cons_of_mem _ h)
  have hown : s.vm.findClass RX1 = some m.cls := findClass_of_methodNamed B.named
  have hlocks := B.notSynchronized
  have hl := lv_entry ([.int (nI k)]) (n := 3) (Nat.le_of_ble_eq_true rfl)
  rw [lg_entry_eq]
  generalize (lg_sl ([.int (nI k)]) ++ List.replicate (3 - (lg_sl ([.int (nI k)])).length) Slot.unset).toArray = ls at hl ⊢
  have hl : lv_has ls 3 [(0, .int (nI k))] := hl
  have S : CallFix p m c _ _ s _ lw_all _ := ⟨hx, hb, hml, hown, hts⟩
  refine lv_iconst (v := nI 1) hx hb dX1_sizeOf_0 (by decide) ?_
  refine lv_istore_n (lv' := [(1, .int (nI 1)), (0, .int (nI k))]) hx hb dX1_sizeOf_1 rfl hl (by decide) rfl (fun ls hl => ?_)
  refine lv_iload_n hx hb dX1_sizeOf_2 rfl (lv_at hl 1 rfl) ?_
  refine lv_istore_n (lv' := [(2, .int (nI k)), (1, .int (nI 1)), (0, .int (nI k))]) hx hb dX1_sizeOf_3 rfl hl (by decide) rfl (fun ls hl => ?_)
  refine r_loop (σ := Nat × Nat) (nL := 3) (fun | (z, i) => [(1, .int (nI z)), (2, .int (nI i))]) (fun | (z, i) => k ≤ i ∧ i ≤ 16 ∧ z = 2 ^ (i - k)) (fun | (z, i) => 16 - i) (fun x ls hI hl ih => ?_) (1, k) ⟨Nat.le_refl _, gk, by rw [Nat.sub_self]⟩ (lv_sub hl [1, 0] rfl)
  obtain ⟨z, i⟩ := x
  have hl : lv_has ls 3 [(1, .int (nI z)), (2, .int (nI i))] := hl
  have hI : k ≤ i ∧ i ≤ 16 ∧ z = 2 ^ (i - k) := hI
  obtain ⟨i1, i2, i3⟩ := hI
  refine lv_iload_n hx hb dX1_sizeOf_4 rfl (lv_at hl 1 rfl) ?_
  refine lv_bipush (v := nI 16) hx hb dX1_sizeOf_5 (by decide) ?_
  refine r_ge (a := i) (b := 16) (tgt := 20) hx hb (by omega) (by omega) dX1_sizeOf_7 (by decide) (fun h => ?_) (fun h => ?_)
  · have e : i = 16 := by omega
    subst e
    subst i3
    refine lv_iload_n hx hb dX1_sizeOf_20 rfl (lv_at hl 0 rfl) ?_
    exact W.iret (v := nI (2 ^ (16 - k))) hx hb hr (fun t ht hW => ⟨nI (2 ^ (16 - k)), rfl, rfl, ht⟩) (fun _ h => absurd h List.not_mem_nil) dX1_sizeOf_21
  · refine lv_iconst (v := nI 2) hx hb dX1_sizeOf_10 (by decide) ?_
    refine lv_iload_n hx hb dX1_sizeOf_11 rfl (lv_at hl 0 rfl) ?_
    refine r_imul (a := 2) (b := z) hx hb dX1_sizeOf_12 ?_
    refine lv_istore_n (lv' := [(1, .int (nI (2 * z))), (2, .int (nI i))]) hx hb dX1_sizeOf_13 rfl hl (by decide) rfl (fun ls hl => ?_)
    refine lv_iinc (v := nI (i + 1)) (lv' := [(2, .int (nI (i + 1))), (1, .int (nI (2 * z)))]) hx hb dX1_sizeOf_14 hl (k := 1) rfl (nI_1 i) (by decide) rfl (fun ls hl => ?_)
    refine lv_goto (tgt := 4) hx hb dX1_sizeOf_17 (by decide) ?_
    exact ih (2 * z, i + 1) ls ⟨by omega, by omega, by rw [i3, show i + 1 - k = (i - k) + 1 by omega, Nat.pow_succ, Nat.mul_comm]⟩ (by show 16 - (i + 1) < 16 - i; omega) (lv_sub hl [1, 0] rfl)
set_option maxRecDepth 100000 in
theorem kX1_X1_sizeOf {p : Program} {l : Launch} {e : Env} {R : Room} {s : State} {m : MethodId} {args : Array Value} {below : List Frame} {meth : Method} {c : Code} {H : Heap} {locs : List Loc} {cells slots : Nat} {Q : State → Prop} {cc : ByteArray} {pc nL : Nat} {ls : Array Slot} {rest : List Value} (S : CallFix p m c cc nL s args lw_all RX1) (hls : ls.size = nL) (hR : 0 + 1 ≤ R.frames ∧ 8 + (3 + 11) + 0 ≤ R.locals) (hrest : (rest.map fun v => v.category).sum ≤ 8) (hc : cells ≤ R.cells ∧ slots ≤ R.slots) (k : Nat) (gk : k ≤ 16) (hd : decode cc pc = .ok (.invokestatic 19, 3)) (kk : W p l e R s m args below meth c H locs cells slots Q (F0 m (pc + 3) ls (.int (nI (2 ^ (16 - k))) :: rest))) : W p l e R s m args below meth c H locs cells slots Q (F0 m pc ls (.int (nI k) :: rest)) := vp_callSi (va_Run.run (va_runS (As := [.int (nI k)]) (rest := rest) S (metX1_sizeOf l k gk) (va_cwS 1 S.2.2.2.2 (lw_S q197 q198 q18 q199) rfl rfl rfl (by decide +kernel) hR) ⟨fun a U g mk q => q, fun U hU hW => ⟨rfl, trivial⟩⟩ rfl rfl hls rfl (lv_room hrest) hd hc)) (fun r hr => by rw [hr]; exact kk)
set_option maxHeartbeats 4000000 in
set_option maxRecDepth 100000 in
theorem metX1_start (l : Launch) (x : Int32) (a k : Nat) (gx : x &&& nI 65535 = nI a) (ga : a < 65536) (gk : k ≤ 16) : Met l yX1_start (ws_ yX1_start cX1_start 3 (some .int)) ({ frames := 1, cells := 0, slots := 0, locals := 22 }) (va_Pc [.int x, .int (nI k)] (fun _ => True)) (vp_Si (fun r => r = nI (ct a k))) 0 0 (fun _ => False) := by
  refine Met.ofW (cc := cX1_start) (maxL := 3) (ret := (some .int)) (by decide) rfl ?_
  intro p e s m args below meth c s₁ B hml hv
  obtain ⟨rfl, -⟩ := hv
  have hx := B.exec
  have hb := B.bytes
  have hr := B.returns
  have hts := atoms_spec (ws := (ws_ yX1_start cX1_start 3 (some .int))) B.pre
  have hts : ∀ w ∈ lw_all, w.before _ s = true := fun w h => hts w (List.mem_cons_of_mem _ h)
  have hown : s.vm.findClass RX1 = some m.cls := findClass_of_methodNamed B.named
  have hlocks := B.notSynchronized
  have hl := lv_entry ([.int x, .int (nI k)]) (n := 3) (Nat.le_of_ble_eq_true rfl)
  rw [lg_entry_eq]
  generalize (lg_sl ([.int x, .int (nI k)]) ++ List.replicate (3 - (lg_sl ([.int x, .int (nI k)])).length) Slot.unset).toArray = ls at hl ⊢
  have hl : lv_has ls 3 [(0, .int x), (1, .int (nI k))] := hl
  have S : CallFix p m c _ _ s _ lw_all _ := ⟨hx, hb, hml, hown, hts⟩
  refine lv_iload_n hx hb dX1_start_0 rfl (lv_at hl 1 rfl) ?_
  refine kX1_X1_sizeOf S hl.1 ⟨Nat.le_of_ble_eq_true rfl, Nat.le_of_ble_eq_true rfl⟩ (Nat.le_of_ble_eq_true rfl) ⟨Nat.zero_le _, Nat.zero_le _⟩ k gk dX1_start_1 ?_
  have s1 := sz_pos k
  have s2 := sz_le k
  refine lv_istore_n (lv' := [(2, .int (nI (2 ^ (16 - k)))), (0, .int x), (1, .int (nI k))]) hx hb dX1_start_4 rfl hl (by decide) rfl (fun ls hl => ?_)
  refine lv_iload_n hx hb dX1_start_5 rfl (lv_at hl 0 rfl) ?_
  refine r_ifleN (a := 2 ^ (16 - k)) (tgt := 20) hx hb (by omega) dX1_start_6 (by decide) (fun h => ?_) (fun h => ?_)
  · exact absurd h (by omega)
  · refine lv_iload_n hx hb dX1_start_9 rfl (lv_at hl 1 rfl) ?_
    refine lv_ldc (v := nI 65535) hx hb hown (hts _ q200) dX1_start_10 ?_
    refine lv_iand hx hb dX1_start_12 ?_
    refine r_top (y := nI a) gx ?_
    refine lv_iload_n hx hb dX1_start_13 rfl (lv_at hl 0 rfl) ?_
    refine lv_idiv hx hb dX1_start_14 (nI_ne0 s1 (by omega)) ?_
    refine r_top (y := nI (a / 2 ^ (16 - k))) (pk_div (by omega) s1 (by omega)) ?_
    refine lv_iload_n hx hb dX1_start_15 rfl (lv_at hl 0 rfl) ?_
    refine r_imul (a := a / 2 ^ (16 - k)) (b := 2 ^ (16 - k)) hx hb dX1_start_16 ?_
    refine lv_goto (tgt := 21) hx hb dX1_start_17 (by decide) ?_
    exact W.iret (v := nI ((a / 2 ^ (16 - k)) * (2 ^ (16 - k)))) hx hb hr (fun t ht hW => ⟨nI ((a / 2 ^ (16 - k)) * (2 ^ (16 - k))), rfl, rfl, ht⟩) (fun _ h => absurd h List.not_mem_nil) dX1_start_21
set_option maxRecDepth 100000 in
theorem kX1_X1_start {p : Program} {l : Launch} {e : Env} {R : Room} {s : State} {m : MethodId} {args : Array Value} {below : List Frame} {meth : Method} {c : Code} {H : Heap} {locs : List Loc} {cells slots : Nat} {Q : State → Prop} {cc : ByteArray} {pc nL : Nat} {ls : Array Slot} {rest : List Value} (S : CallFix p m c cc nL s args lw_all RX1) (hls : ls.size = nL) (hR : 1 + 1 ≤ R.frames ∧ 8 + (3 + 11) + 22 ≤ R.locals) (hrest : (rest.map fun v => v.category).sum ≤ 8) (hc : cells ≤ R.cells ∧ slots ≤ R.slots) (x : Int32) (a k : Nat) (gx : x &&& nI 65535 = nI a) (ga : a < 65536) (gk : k ≤ 16) (hd : decode cc pc = .ok (.invokestatic 28, 3)) (kk : W p l e R s m args below meth c H locs cells slots Q (F0 m (pc + 3) ls (.int (nI (ct a k)) :: rest))) : W p l e R s m args below meth c H locs cells slots Q (F0 m pc ls (.int (nI k) :: .int x :: rest)) := vp_callSi (va_Run.run (va_runS (As := [.int x, .int (nI k)]) (rest := rest) S (metX1_start l x a k gx ga gk) (va_cwS 2 S.2.2.2.2 (lw_S q194 q195 q18 q196) rfl rfl rfl (by decide +kernel) hR) ⟨fun a U g mk q => q, fun U hU hW => ⟨rfl, trivial⟩⟩ rfl rfl hls rfl (lv_room hrest) hd hc)) (fun r hr => by rw [hr]; exact kk)
set_option maxHeartbeats 4000000 in
set_option maxRecDepth 100000 in
theorem metX1_badLength (l : Launch) (x : Int32) : Met l yX1_badLength (ws_ yX1_badLength cX1_badLength 1 (some .boolean)) ({ frames := 0, cells := 0, slots := 0, locals := 0 }) (va_Pc [.int x] (fun _ => True)) (vp_Si (fun r => r = bI (decide (x < 0 ∨ nI 16 < x)))) 0 0 (fun _ => False) := by
  refine Met.ofW (cc := cX1_badLength) (maxL := 1) (ret := (some .boolean)) (by decide) rfl ?_
  intro p e s m args below meth c s₁ B hml hv
  obtain ⟨rfl, -⟩ := hv
  have hx := B.exec
  have hb := B.bytes
  have hr := B.returns
  have hts := atoms_spec (ws := (ws_ yX1_badLength cX1_badLength 1 (some .boolean))) B.pre
  have hts : ∀ w ∈ lw_all, w.before _ s = true := fun w h => hts w (List.mem_cons_of_mem _ h)
  have hown : s.vm.findClass RX1 = some m.cls := findClass_of_methodNamed B.named
  have hlocks := B.notSynchronized
  have hl := lv_entry ([.int x]) (n := 1) (Nat.le_of_ble_eq_true rfl)
  rw [lg_entry_eq]
  generalize (lg_sl ([.int x]) ++ List.replicate (1 - (lg_sl ([.int x])).length) Slot.unset).toArray = ls at hl ⊢
  have hl : lv_has ls 1 [(0, .int x)] := hl
  have S : CallFix p m c _ _ s _ lw_all _ := ⟨hx, hb, hml, hown, hts⟩
  refine lv_iload_n hx hb dX1_badLength_0 rfl (lv_at hl 0 rfl) ?_
  refine lv_if_lt (tgt := 10) hx hb dX1_badLength_1 (by decide) (fun h => ?_) (fun h => ?_)
  · refine lv_iconst (v := nI 1) hx hb dX1_badLength_10 (by decide) ?_
    refine lv_goto (tgt := 15) hx hb dX1_badLength_11 (by decide) ?_
    exact W.zret (v := nI 1) hx hb hr (by first | rfl | decide | (exact nar_bb _)) (fun t ht hW => ⟨nI 1, rfl, by rw [decide_eq_true (Or.inl h)]; rfl, ht⟩) (fun _ h => absurd h List.not_mem_nil) dX1_badLength_15
  · refine lv_iload_n hx hb dX1_badLength_4 rfl (lv_at hl 0 rfl) ?_
    refine lv_bipush (v := nI 16) hx hb dX1_badLength_5 (by decide) ?_
    refine lv_icmp_le (tgt := 14) hx hb dX1_badLength_7 (by decide) (fun h2 => ?_) (fun h2 => ?_)
    · refine lv_iconst (v := nI 0) hx hb dX1_badLength_14 (by decide) ?_
      exact W.zret (v := nI 0) hx hb hr (by first | rfl | decide | (exact nar_bb _)) (fun t ht hW => ⟨nI 0, rfl, by rw [decide_eq_false (fun z => by rcases z with z | z; exact h z; rw [Int32.le_iff_toInt_le] at h2; rw [Int32.lt_iff_toInt_lt] at z; omega)]; rfl, ht⟩) (fun _ h => absurd h List.not_mem_nil) dX1_badLength_15
    · refine lv_iconst (v := nI 1) hx hb dX1_badLength_10 (by decide) ?_
      refine lv_goto (tgt := 15) hx hb dX1_badLength_11 (by decide) ?_
      exact W.zret (v := nI 1) hx hb hr (by first | rfl | decide | (exact nar_bb _)) (fun t ht hW => ⟨nI 1, rfl, by rw [decide_eq_true (Or.inr (nle_lt h2))]; rfl, ht⟩) (fun _ h => absurd h List.not_mem_nil) dX1_badLength_15
set_option maxRecDepth 100000 in
theorem kX1_X1_badLength {p : Program} {l : Launch} {e : Env} {R : Room} {s : State} {m : MethodId} {args : Array Value} {below : List Frame} {meth : Method} {c : Code} {H : Heap} {locs : List Loc} {cells slots : Nat} {Q : State → Prop} {cc : ByteArray} {pc nL : Nat} {ls : Array Slot} {rest : List Value} (S : CallFix p m c cc nL s args lw_all RX1) (hls : ls.size = nL) (hR : 0 + 1 ≤ R.frames ∧ 8 + (1 + 11) + 0 ≤ R.locals) (hrest : (rest.map fun v => v.category).sum ≤ 8) (hc : cells ≤ R.cells ∧ slots ≤ R.slots) (x : Int32) (hd : decode cc pc = .ok (.invokestatic 32, 3)) (kk : W p l e R s m args below meth c H locs cells slots Q (F0 m (pc + 3) ls (.int (bI (decide (x < 0 ∨ nI 16 < x))) :: rest))) : W p l e R s m args below meth c H locs cells slots Q (F0 m pc ls (.int x :: rest)) := vp_callSi (va_Run.run (va_runS (As := [.int x]) (rest := rest) S (metX1_badLength l x) (va_cwS 1 S.2.2.2.2 (lw_S q187 q188 q18 q189) rfl rfl rfl (by decide +kernel) hR) ⟨fun a U g mk q => q, fun U hU hW => ⟨rfl, trivial⟩⟩ rfl rfl hls rfl (lv_room hrest) hd hc)) (fun r hr => by rw [hr]; exact kk)
set_option maxHeartbeats 4000000 in
set_option maxRecDepth 100000 in
theorem metX1_find (l : Launch) (dC : Nat → ClassId) (dI : Nat → Nat → Nat) (cI : ClassId) (q : Nat → Nat) (en : Nat) (sr : Nat → Nat) (ln : Nat → Nat) (pr : Nat → Nat) (x : Int32) (a k : Nat) (gx : x &&& nI 65535 = nI a) (ga : a < 65536) (gk : k ≤ 16) (D : Nat → Nat → Option Nat) (gm : MOK en sr ln pr D) : Met l yX1_find (ws_ yX1_find cX1_find 4 (some .int)) ({ frames := 2, cells := 0, slots := 0, locals := 44 }) (va_Pc [.ref (q 0), .int x, .int (nI k)] (fun U => va_P (dC, dI) vwCl (mW cI q en sr ln pr) U.heap ∧ va_K (dC, dI) vwCl (mT cI) U)) (vp_Si (fun r => ∃ w, r = oI w ∧ (∀ e, w = some e → e < en ∧ ln e = k ∧ sr e = ct a k) ∧ (w = none → ∀ e, e < en → ¬ (ln e = k ∧ sr e = ct a k)))) 0 0 (fun _ => False) := by
  refine Met.ofW (cc := cX1_find) (maxL := 4) (ret := (some .int)) (by decide) rfl ?_
  intro p e s m args below meth c s₁ B hml hv
  obtain ⟨rfl, hP, hK⟩ := hv
  have hx := B.exec
  have hb := B.bytes
  have hr := B.returns
  have hts := atoms_spec (ws := (ws_ yX1_find cX1_find 4 (some .int))) B.pre
  have hts : ∀ w ∈ lw_all, w.before _ s = true := fun w h => hts w (List.mem_cons_of_mem _ h)
  have hown : s.vm.findClass RX1 = some m.cls := findClass_of_methodNamed B.named
  have hlocks := B.notSynchronized
  have hl := lv_entry ([.ref (q 0), .int x, .int (nI k)]) (n := 4) (Nat.le_of_ble_eq_true rfl)
  rw [lg_entry_eq]
  generalize (lg_sl ([.ref (q 0), .int x, .int (nI k)]) ++ List.replicate (4 - (lg_sl ([.ref (q 0), .int x, .int (nI k)])).length) Slot.unset).toArray = ls at hl ⊢
  have hl : lv_has ls 4 [(0, .ref (q 0)), (1, .int x), (2, .int (nI k))] := hl
  have S : CallFix p m c _ _ s _ lw_all _ := ⟨hx, hb, hml, hown, hts⟩
  have gen := gm.1
  have gq := ct_lt k ga
  refine lv_iconst (v := nI 0) hx hb dX1_find_0 (by decide) ?_
  refine lv_istore_n (lv' := [(3, .int (nI 0)), (0, .ref (q 0)), (1, .int x), (2, .int (nI k))]) hx hb dX1_find_1 rfl hl (by decide) rfl (fun ls hl => ?_)
  refine r_loop (σ := Nat) (nL := 4) (fun k2 => [(0, .ref (q 0)), (1, .int x), (2, .int (nI k)), (3, .int (nI k2))]) (fun k2 => k2 ≤ en ∧ ∀ e, e < k2 → ¬ (ln e = k ∧ sr e = ct a k)) (fun k2 => en - k2) (fun x ls hI hl ih => ?_) 0 ⟨Nat.zero_le _, fun e he => absurd he (Nat.not_lt_zero e)⟩ (lv_sub hl [1, 2, 3, 0] rfl)
  obtain ⟨k2, rfl⟩ : ∃ z, z = x := ⟨_, rfl⟩
  have hl : lv_has ls 4 [(0, .ref (q 0)), (1, .int x), (2, .int (nI k)), (3, .int (nI k2))] := hl
  have hI : k2 ≤ en ∧ ∀ e, e < k2 → ¬ (ln e = k ∧ sr e = ct a k) := hI
  obtain ⟨i1, i2⟩ := hI
  refine lv_iload_n hx hb dX1_find_2 rfl (lv_at hl 3 rfl) ?_
  refine lv_aload_n hx hb dX1_find_3 rfl (lv_at hl 0 rfl) ?_
  refine gX1_entries hx hb hts hown hK hP dX1_find_4 ?_
  refine r_ge (a := k2) (b := en) (tgt := 42) hx hb (by omega) (by omega) dX1_find_7 (by decide) (fun h => ?_) (fun h => ?_)
  · refine lv_iconst (v := oI none) hx hb dX1_find_42 (by decide) ?_
    exact W.iret (v := oI none) hx hb hr (fun t ht hW => ⟨oI none, rfl, ⟨none, rfl, fun e h2 => (by cases h2), fun _ e he => i2 e (by omega)⟩, ht⟩) (fun _ h => absurd h List.not_mem_nil) dX1_find_43
  · obtain ⟨j1, j2, j3, j4⟩ := gm.2.1 k2 h
    refine lv_aload_n hx hb dX1_find_10 rfl (lv_at hl 0 rfl) ?_
    refine gX1_lengths hx hb hts hown hK hP dX1_find_11 ?_
    refine lv_iload_n hx hb dX1_find_14 rfl (lv_at hl 3 rfl) ?_
    refine rX1_lengths (n := k2) hx hb hK hP rfl (by omega) dX1_find_15 ?_
    refine lv_iload_n hx hb dX1_find_16 rfl (lv_at hl 2 rfl) ?_
    refine r_ne (a := ln k2) (b := k) (tgt := 36) hx hb (by omega) (by omega) dX1_find_17 (by decide) (fun h2 => ?_) (fun h2 => ?_)
    · refine lv_iinc (v := nI (k2 + 1)) (lv' := [(3, .int (nI (k2 + 1))), (0, .ref (q 0)), (1, .int x), (2, .int (nI k))]) hx hb dX1_find_36 hl (k := 3) rfl (nI_1 k2) (by decide) rfl (fun ls hl => ?_)
      refine lv_goto (tgt := 2) hx hb dX1_find_39 (by decide) ?_
      exact ih (k2 + 1) ls ⟨by omega, fun e he => by
        rcases Nat.lt_or_ge e k2 with z | z
        · exact i2 e z
        · rw [show e = k2 by omega]; exact fun q => h2 q.1⟩ (by show en - (k2 + 1) < en - k2; omega) (lv_sub hl [1, 2, 3, 0] rfl)
    · refine lv_aload_n hx hb dX1_find_20 rfl (lv_at hl 0 rfl) ?_
      refine gX1_starts hx hb hts hown hK hP dX1_find_21 ?_
      refine lv_iload_n hx hb dX1_find_24 rfl (lv_at hl 3 rfl) ?_
      refine rX1_starts (n := k2) hx hb hK hP rfl (by omega) dX1_find_25 ?_
      refine lv_iload_n hx hb dX1_find_26 rfl (lv_at hl 1 rfl) ?_
      refine lv_iload_n hx hb dX1_find_27 rfl (lv_at hl 2 rfl) ?_
      refine kX1_X1_start S hl.1 ⟨Nat.le_of_ble_eq_true rfl, Nat.le_of_ble_eq_true rfl⟩ (Nat.le_of_ble_eq_true rfl) ⟨Nat.zero_le _, Nat.zero_le _⟩ x a k gx ga gk dX1_find_28 ?_
      refine r_ne (a := sr k2) (b := ct a k) (tgt := 36) hx hb (by omega) (by omega) dX1_find_31 (by decide) (fun h3 => ?_) (fun h3 => ?_)
      · refine lv_iinc (v := nI (k2 + 1)) (lv' := [(3, .int (nI (k2 + 1))), (0, .ref (q 0)), (1, .int x), (2, .int (nI k))]) hx hb dX1_find_36 hl (k := 3) rfl (nI_1 k2) (by decide) rfl (fun ls hl => ?_)
        refine lv_goto (tgt := 2) hx hb dX1_find_39 (by decide) ?_
        exact ih (k2 + 1) ls ⟨by omega, fun e he => by
          rcases Nat.lt_or_ge e k2 with z | z
          · exact i2 e z
          · rw [show e = k2 by omega]; exact fun q => h3 q.2⟩ (by show en - (k2 + 1) < en - k2; omega) (lv_sub hl [1, 2, 3, 0] rfl)
      · refine lv_iload_n hx hb dX1_find_34 rfl (lv_at hl 3 rfl) ?_
        exact W.iret (v := nI k2) hx hb hr (fun t ht hW => ⟨nI k2, rfl, ⟨some k2, rfl, fun e h4 => (by cases h4; exact ⟨h, h2, h3⟩), fun h4 => (by cases h4)⟩, ht⟩) (fun _ h => absurd h List.not_mem_nil) dX1_find_35
set_option maxRecDepth 100000 in
theorem kX1_X1_find {p : Program} {l : Launch} {e : Env} {R : Room} {s : State} {m : MethodId} {args : Array Value} {below : List Frame} {meth : Method} {c : Code} {H : Heap} {locs : List Loc} {cells slots : Nat} {Q : State → Prop} {cc : ByteArray} {pc nL : Nat} {ls : Array Slot} {rest : List Value} {dC : Nat → ClassId} {dI : Nat → Nat → Nat} {cI : ClassId} {q : Nat → Nat} {en : Nat} {sr : Nat → Nat} {ln : Nat → Nat} {pr : Nat → Nat} (S : CallFix p m c cc nL s args lw_all RX1) (hls : ls.size = nL) (hR : 2 + 1 ≤ R.frames ∧ 8 + (4 + 11) + 44 ≤ R.locals) (hrest : (rest.map fun v => v.category).sum ≤ 8) (hc : cells ≤ R.cells ∧ slots ≤ R.slots) (hK : va_K (dC, dI) vwCl (mT cI) s) (hP : va_P (dC, dI) vwCl (mW cI q en sr ln pr) H) (x : Int32) (a k : Nat) (gx : x &&& nI 65535 = nI a) (ga : a < 65536) (gk : k ≤ 16) (D : Nat → Nat → Option Nat) (gm : MOK en sr ln pr D) (hd : decode cc pc = .ok (.invokevirtual 36, 3)) (kk : ∀ r : Int32, (∃ w, r = oI w ∧ (∀ e, w = some e → e < en ∧ ln e = k ∧ sr e = ct a k) ∧ (w = none → ∀ e, e < en → ¬ (ln e = k ∧ sr e = ct a k))) → W p l e R s m args below meth c H locs cells slots Q (F0 m (pc + 3) ls (.int r :: rest))) : W p l e R s m args below meth c H locs cells slots Q (F0 m pc ls (.int (nI k) :: .int x :: .ref (q 0) :: rest)) := vp_callSi (va_Run.run (va_runV (As := [.int x, .int (nI k)]) (rest := rest) S (metX1_find l dC dI cI q en sr ln pr x a k gx ga gk D gm) (cwV 2 S.2.2.2.2 (lw_V q190 q192 qs11 q18 q193) rfl rfl rfl (by decide +kernel) hR) ⟨fun a U g mk q => by obtain ⟨q0, qP, qK⟩ := q; exact ⟨q0, qP, va_K.moved (u := U) (U := U.calling g mk a) (Vm.Alike.refl U.vm) qK⟩, va_recv hK hP (ci := 1) (q0 := 0) rfl rfl, fun U hU hW => ⟨rfl, by rw [hU]; exact hP, va_K.moved hW.alike hK⟩⟩ rfl rfl hls rfl (lv_room hrest) hd hc)) kk
set_option maxHeartbeats 4000000 in
set_option maxRecDepth 100000 in
theorem metX1_covers (l : Launch) (dC : Nat → ClassId) (dI : Nat → Nat → Nat) (cI : ClassId) (q : Nat → Nat) (en : Nat) (sr : Nat → Nat) (ln : Nat → Nat) (pr : Nat → Nat) (e2 a : Nat) (ge : e2 < en) (ga : a < 65536) (D : Nat → Nat → Option Nat) (gm : MOK en sr ln pr D) : Met l yX1_covers (ws_ yX1_covers cX1_covers 3 (some .boolean)) ({ frames := 1, cells := 0, slots := 0, locals := 22 }) (va_Pc [.ref (q 0), .int (nI e2), .int (nI a)] (fun U => va_P (dC, dI) vwCl (mW cI q en sr ln pr) U.heap ∧ va_K (dC, dI) vwCl (mT cI) U)) (vp_Si (fun r => r = bI (decide (ct a (ln e2) = sr e2)))) 0 0 (fun _ => False) := by
  refine Met.ofW (cc := cX1_covers) (maxL := 3) (ret := (some .boolean)) (by decide) rfl ?_
  intro p e s m args below meth c s₁ B hml hv
  obtain ⟨rfl, hP, hK⟩ := hv
  have hx := B.exec
  have hb := B.bytes
  have hr := B.returns
  have hts := atoms_spec (ws := (ws_ yX1_covers cX1_covers 3 (some .boolean))) B.pre
  have hts : ∀ w ∈ lw_all, w.before _ s = true := fun w h => hts w (List.mem_cons_of_mem _ h)
  have hown : s.vm.findClass RX1 = some m.cls := findClass_of_methodNamed B.named
  have hlocks := B.notSynchronized
  have hl := lv_entry ([.ref (q 0), .int (nI e2), .int (nI a)]) (n := 3) (Nat.le_of_ble_eq_true rfl)
  rw [lg_entry_eq]
  generalize (lg_sl ([.ref (q 0), .int (nI e2), .int (nI a)]) ++ List.replicate (3 - (lg_sl ([.ref (q 0), .int (nI e2), .int (nI a)])).length) Slot.unset).toArray = ls at hl ⊢
  have hl : lv_has ls 3 [(0, .ref (q 0)), (1, .int (nI e2)), (2, .int (nI a))] := hl
  have S : CallFix p m c _ _ s _ lw_all _ := ⟨hx, hb, hml, hown, hts⟩
  have gen := gm.1
  obtain ⟨j1, j2, j3, j4⟩ := gm.2.1 e2 ge
  have s2 := sz_le (ln e2)
  have hiff := ct_iff (a := a) j3
  refine lv_iload_n hx hb dX1_covers_0 rfl (lv_at hl 2 rfl) ?_
  refine lv_aload_n hx hb dX1_covers_1 rfl (lv_at hl 0 rfl) ?_
  refine gX1_starts hx hb hts hown hK hP dX1_covers_2 ?_
  refine lv_iload_n hx hb dX1_covers_5 rfl (lv_at hl 1 rfl) ?_
  refine rX1_starts (n := e2) hx hb hK hP rfl (by omega) dX1_covers_6 ?_
  refine r_lt (a := a) (b := sr e2) (tgt := 34) hx hb (by omega) (by omega) dX1_covers_7 (by decide) (fun h => ?_) (fun h => ?_)
  · refine lv_iconst (v := nI 0) hx hb dX1_covers_34 (by decide) ?_
    exact W.zret (v := nI 0) hx hb hr (by first | rfl | decide | (exact nar_bb _)) (fun t ht hW => ⟨nI 0, rfl, by rw [decide_eq_false (fun z => by have := hiff.mp z; omega)]; rfl, ht⟩) (fun _ h => absurd h List.not_mem_nil) dX1_covers_35
  · refine lv_iload_n hx hb dX1_covers_10 rfl (lv_at hl 2 rfl) ?_
    refine lv_aload_n hx hb dX1_covers_11 rfl (lv_at hl 0 rfl) ?_
    refine gX1_starts hx hb hts hown hK hP dX1_covers_12 ?_
    refine lv_iload_n hx hb dX1_covers_15 rfl (lv_at hl 1 rfl) ?_
    refine rX1_starts (n := e2) hx hb hK hP rfl (by omega) dX1_covers_16 ?_
    refine lv_aload_n hx hb dX1_covers_17 rfl (lv_at hl 0 rfl) ?_
    refine gX1_lengths hx hb hts hown hK hP dX1_covers_18 ?_
    refine lv_iload_n hx hb dX1_covers_21 rfl (lv_at hl 1 rfl) ?_
    refine rX1_lengths (n := e2) hx hb hK hP rfl (by omega) dX1_covers_22 ?_
    refine kX1_X1_sizeOf S hl.1 ⟨Nat.le_of_ble_eq_true rfl, Nat.le_of_ble_eq_true rfl⟩ (Nat.le_of_ble_eq_true rfl) ⟨Nat.zero_le _, Nat.zero_le _⟩ (ln e2) j1 dX1_covers_23 ?_
    refine r_iadd (a := sr e2) (b := 2 ^ (16 - ln e2)) hx hb dX1_covers_26 ?_
    refine r_ge (a := a) (b := (sr e2) + (2 ^ (16 - ln e2))) (tgt := 34) hx hb (by omega) (by omega) dX1_covers_27 (by decide) (fun h2 => ?_) (fun h2 => ?_)
    · refine lv_iconst (v := nI 0) hx hb dX1_covers_34 (by decide) ?_
      exact W.zret (v := nI 0) hx hb hr (by first | rfl | decide | (exact nar_bb _)) (fun t ht hW => ⟨nI 0, rfl, by rw [decide_eq_false (fun z => by have := hiff.mp z; omega)]; rfl, ht⟩) (fun _ h => absurd h List.not_mem_nil) dX1_covers_35
    · refine lv_iconst (v := nI 1) hx hb dX1_covers_30 (by decide) ?_
      refine lv_goto (tgt := 35) hx hb dX1_covers_31 (by decide) ?_
      exact W.zret (v := nI 1) hx hb hr (by first | rfl | decide | (exact nar_bb _)) (fun t ht hW => ⟨nI 1, rfl, by rw [decide_eq_true (hiff.mpr ⟨by omega, by omega⟩)]; rfl, ht⟩) (fun _ h => absurd h List.not_mem_nil) dX1_covers_35
set_option maxRecDepth 100000 in
theorem kX1_X1_covers {p : Program} {l : Launch} {e : Env} {R : Room} {s : State} {m : MethodId} {args : Array Value} {below : List Frame} {meth : Method} {c : Code} {H : Heap} {locs : List Loc} {cells slots : Nat} {Q : State → Prop} {cc : ByteArray} {pc nL : Nat} {ls : Array Slot} {rest : List Value} {dC : Nat → ClassId} {dI : Nat → Nat → Nat} {cI : ClassId} {q : Nat → Nat} {en : Nat} {sr : Nat → Nat} {ln : Nat → Nat} {pr : Nat → Nat} (S : CallFix p m c cc nL s args lw_all RX1) (hls : ls.size = nL) (hR : 1 + 1 ≤ R.frames ∧ 8 + (3 + 11) + 22 ≤ R.locals) (hrest : (rest.map fun v => v.category).sum ≤ 8) (hc : cells ≤ R.cells ∧ slots ≤ R.slots) (hK : va_K (dC, dI) vwCl (mT cI) s) (hP : va_P (dC, dI) vwCl (mW cI q en sr ln pr) H) (e2 a : Nat) (ge : e2 < en) (ga : a < 65536) (D : Nat → Nat → Option Nat) (gm : MOK en sr ln pr D) (hd : decode cc pc = .ok (.invokevirtual 43, 3)) (kk : W p l e R s m args below meth c H locs cells slots Q (F0 m (pc + 3) ls (.int (bI (decide (ct a (ln e2) = sr e2))) :: rest))) : W p l e R s m args below meth c H locs cells slots Q (F0 m pc ls (.int (nI a) :: .int (nI e2) :: .ref (q 0) :: rest)) := vp_callSi (va_Run.run (va_runV (As := [.int (nI e2), .int (nI a)]) (rest := rest) S (metX1_covers l dC dI cI q en sr ln pr e2 a ge ga D gm) (cwV 2 S.2.2.2.2 (lw_V q221 q223 qs14 q18 q224) rfl rfl rfl (by decide +kernel) hR) ⟨fun a U g mk q => by obtain ⟨q0, qP, qK⟩ := q; exact ⟨q0, qP, va_K.moved (u := U) (U := U.calling g mk a) (Vm.Alike.refl U.vm) qK⟩, va_recv hK hP (ci := 1) (q0 := 0) rfl rfl, fun U hU hW => ⟨rfl, by rw [hU]; exact hP, va_K.moved hW.alike hK⟩⟩ rfl rfl hls rfl (lv_room hrest) hd hc)) (fun r hr => by rw [hr]; exact kk)
set_option maxHeartbeats 4000000 in
set_option maxRecDepth 100000 in
theorem metX1_longest (l : Launch) (dC : Nat → ClassId) (dI : Nat → Nat → Nat) (cI : ClassId) (q : Nat → Nat) (en : Nat) (sr : Nat → Nat) (ln : Nat → Nat) (pr : Nat → Nat) (a w : Nat) (ga : a < 65536) (gw : w ≤ 17) (D : Nat → Nat → Option Nat) (gm : MOK en sr ln pr D) : Met l yX1_longest (ws_ yX1_longest cX1_longest 5 (some .int)) ({ frames := 2, cells := 0, slots := 0, locals := 44 }) (va_Pc [.ref (q 0), .int (nI a), .int (nI w)] (fun U => va_P (dC, dI) vwCl (mW cI q en sr ln pr) U.heap ∧ va_K (dC, dI) vwCl (mT cI) U)) (vp_Si (fun r => ∃ x, r = oI x ∧ LO D en sr ln a w x)) 0 0 (fun _ => False) := by
  refine Met.ofW (cc := cX1_longest) (maxL := 5) (ret := (some .int)) (by decide) rfl ?_
  intro p e s m args below meth c s₁ B hml hv
  obtain ⟨rfl, hP, hK⟩ := hv
  have hx := B.exec
  have hb := B.bytes
  have hr := B.returns
  have hts := atoms_spec (ws := (ws_ yX1_longest cX1_longest 5 (some .int))) B.pre
  have hts : ∀ w ∈ lw_all, w.before _ s = true := fun w h => hts w (List.mem_cons_of_mem _ h)
  have hown : s.vm.findClass RX1 = some m.cls := findClass_of_methodNamed B.named
  have hlocks := B.notSynchronized
  have hl := lv_entry ([.ref (q 0), .int (nI a), .int (nI w)]) (n := 5) (Nat.le_of_ble_eq_true rfl)
  rw [lg_entry_eq]
  generalize (lg_sl ([.ref (q 0), .int (nI a), .int (nI w)]) ++ List.replicate (5 - (lg_sl ([.ref (q 0), .int (nI a), .int (nI w)])).length) Slot.unset).toArray = ls at hl ⊢
  have hl : lv_has ls 5 [(0, .ref (q 0)), (1, .int (nI a)), (2, .int (nI w))] := hl
  have S : CallFix p m c _ _ s _ lw_all _ := ⟨hx, hb, hml, hown, hts⟩
  have gen := gm.1
  refine lv_iconst (v := oI none) hx hb dX1_longest_0 (by decide) ?_
  refine lv_istore_n (lv' := [(3, .int (oI none)), (0, .ref (q 0)), (1, .int (nI a)), (2, .int (nI w))]) hx hb dX1_longest_1 rfl hl (by decide) rfl (fun ls hl => ?_)
  refine lv_iconst (v := nI 0) hx hb dX1_longest_2 (by decide) ?_
  refine lv_istore (lv' := [(4, .int (nI 0)), (3, .int (oI none)), (0, .ref (q 0)), (1, .int (nI a)), (2, .int (nI w))]) hx hb dX1_longest_3 hl (by decide) rfl (fun ls hl => ?_)
  refine r_loop (σ := Option Nat × Nat) (nL := 5) (fun | (b, k) => [(0, .ref (q 0)), (1, .int (nI a)), (2, .int (nI w)), (3, .int (oI b)), (4, .int (nI k))]) (fun | (b, k) => k ≤ en ∧ LB sr ln a w b k) (fun | (b, k) => en - k) (fun x ls hI hl ih => ?_) (none, 0) ⟨Nat.zero_le _, lb_0 a w⟩ (lv_sub hl [2, 3, 4, 1, 0] rfl)
  obtain ⟨b, k⟩ := x
  have hl : lv_has ls 5 [(0, .ref (q 0)), (1, .int (nI a)), (2, .int (nI w)), (3, .int (oI b)), (4, .int (nI k))] := hl
  have hI : k ≤ en ∧ LB sr ln a w b k := hI
  obtain ⟨i1, i2⟩ := hI
  refine lv_iload hx hb dX1_longest_5 (lv_at hl 4 rfl) ?_
  refine lv_aload_n hx hb dX1_longest_7 rfl (lv_at hl 0 rfl) ?_
  refine gX1_entries hx hb hts hown hK hP dX1_longest_8 ?_
  refine r_ge (a := k) (b := en) (tgt := 64) hx hb (by omega) (by omega) dX1_longest_11 (by decide) (fun h => ?_) (fun h => ?_)
  · have e : k = en := by omega
    subst e
    refine lv_iload_n hx hb dX1_longest_64 rfl (lv_at hl 3 rfl) ?_
    exact W.iret (v := oI b) hx hb hr (fun t ht hW => ⟨oI b, rfl, ⟨b, rfl, lb_end gm i2⟩, ht⟩) (fun _ h => absurd h List.not_mem_nil) dX1_longest_65
  · obtain ⟨j1, j2, j3, j4⟩ := gm.2.1 k h
    refine lv_aload_n hx hb dX1_longest_14 rfl (lv_at hl 0 rfl) ?_
    refine lv_iload hx hb dX1_longest_15 (lv_at hl 4 rfl) ?_
    refine lv_iload_n hx hb dX1_longest_17 rfl (lv_at hl 1 rfl) ?_
    refine kX1_X1_covers S hl.1 ⟨Nat.le_of_ble_eq_true rfl, Nat.le_of_ble_eq_true rfl⟩ (Nat.le_of_ble_eq_true rfl) ⟨Nat.zero_le _, Nat.zero_le _⟩ hK hP k a h ga D gm dX1_longest_18 ?_
    refine r_ifeqB (b := decide (ct a (ln k) = sr k)) (tgt := 58) hx hb dX1_longest_21 (by decide) (fun h2 => ?_) (fun h2 => ?_)
    · refine lv_iinc (v := nI (k + 1)) (lv' := [(4, .int (nI (k + 1))), (0, .ref (q 0)), (1, .int (nI a)), (2, .int (nI w)), (3, .int (oI b))]) hx hb dX1_longest_58 hl (k := 4) rfl (nI_1 k) (by decide) rfl (fun ls hl => ?_)
      refine lv_goto (tgt := 5) hx hb dX1_longest_61 (by decide) ?_
      exact ih (b, k + 1) ls ⟨by omega, lb_skip i2 (fun z => of_decide_eq_false h2 z.1)⟩ (by show en - (k + 1) < en - k; omega) (lv_sub hl [1, 2, 3, 4, 0] rfl)
    · have h2 := of_decide_eq_true h2
      refine lv_aload_n hx hb dX1_longest_24 rfl (lv_at hl 0 rfl) ?_
      refine gX1_lengths hx hb hts hown hK hP dX1_longest_25 ?_
      refine lv_iload hx hb dX1_longest_28 (lv_at hl 4 rfl) ?_
      refine rX1_lengths (n := k) hx hb hK hP rfl (by omega) dX1_longest_30 ?_
      refine lv_iload_n hx hb dX1_longest_31 rfl (lv_at hl 2 rfl) ?_
      refine r_ge (a := ln k) (b := w) (tgt := 58) hx hb (by omega) (by omega) dX1_longest_32 (by decide) (fun h3 => ?_) (fun h3 => ?_)
      · refine lv_iinc (v := nI (k + 1)) (lv' := [(4, .int (nI (k + 1))), (0, .ref (q 0)), (1, .int (nI a)), (2, .int (nI w)), (3, .int (oI b))]) hx hb dX1_longest_58 hl (k := 4) rfl (nI_1 k) (by decide) rfl (fun ls hl => ?_)
        refine lv_goto (tgt := 5) hx hb dX1_longest_61 (by decide) ?_
        exact ih (b, k + 1) ls ⟨by omega, lb_skip i2 (fun z => by omega)⟩ (by show en - (k + 1) < en - k; omega) (lv_sub hl [1, 2, 3, 4, 0] rfl)
      · refine lv_iload_n hx hb dX1_longest_35 rfl (lv_at hl 3 rfl) ?_
        refine r_ifltO (x := b) (tgt := 55) hx hb (fun e he => by have := (i2.1 e he).1; omega) dX1_longest_36 (by decide) (fun h4 => ?_) (fun b2 h4 => ?_)
        · subst h4
          refine lv_iload hx hb dX1_longest_55 (lv_at hl 4 rfl) ?_
          refine lv_istore_n (lv' := [(3, .int (nI k)), (0, .ref (q 0)), (1, .int (nI a)), (2, .int (nI w)), (4, .int (nI k))]) hx hb dX1_longest_57 rfl hl (by decide) rfl (fun ls hl => ?_)
          refine lv_iinc (v := nI (k + 1)) (lv' := [(4, .int (nI (k + 1))), (3, .int (nI k)), (0, .ref (q 0)), (1, .int (nI a)), (2, .int (nI w))]) hx hb dX1_longest_58 hl (k := 4) rfl (nI_1 k) (by decide) rfl (fun ls hl => ?_)
          refine lv_goto (tgt := 5) hx hb dX1_longest_61 (by decide) ?_
          exact ih (some k, k + 1) ls ⟨by omega, lb_take i2 h2 h3 (fun e he => by cases he)⟩ (by show en - (k + 1) < en - k; omega) (lv_sub hl [2, 3, 4, 1, 0] rfl)
        · subst h4
          obtain ⟨b1, -⟩ := i2.1 b2 rfl
          obtain ⟨m1, m2, m3, m4⟩ := gm.2.1 b2 (by omega)
          have hl : lv_has ls 5 [(0, .ref (q 0)), (1, .int (nI a)), (2, .int (nI w)), (3, .int (nI b2)), (4, .int (nI k))] := hl
          refine lv_aload_n hx hb dX1_longest_39 rfl (lv_at hl 0 rfl) ?_
          refine gX1_lengths hx hb hts hown hK hP dX1_longest_40 ?_
          refine lv_iload hx hb dX1_longest_43 (lv_at hl 4 rfl) ?_
          refine rX1_lengths (n := k) hx hb hK hP rfl (by omega) dX1_longest_45 ?_
          refine lv_aload_n hx hb dX1_longest_46 rfl (lv_at hl 0 rfl) ?_
          refine gX1_lengths hx hb hts hown hK hP dX1_longest_47 ?_
          refine lv_iload_n hx hb dX1_longest_50 rfl (lv_at hl 3 rfl) ?_
          refine rX1_lengths (n := b2) hx hb hK hP rfl (by omega) dX1_longest_51 ?_
          refine r_le (a := ln k) (b := ln b2) (tgt := 58) hx hb (by omega) (by omega) dX1_longest_52 (by decide) (fun h5 => ?_) (fun h5 => ?_)
          · refine lv_iinc (v := nI (k + 1)) (lv' := [(4, .int (nI (k + 1))), (0, .ref (q 0)), (1, .int (nI a)), (2, .int (nI w)), (3, .int (nI b2))]) hx hb dX1_longest_58 hl (k := 4) rfl (nI_1 k) (by decide) rfl (fun ls hl => ?_)
            refine lv_goto (tgt := 5) hx hb dX1_longest_61 (by decide) ?_
            exact ih (some b2, k + 1) ls ⟨by omega, lb_keep i2 h5⟩ (by show en - (k + 1) < en - k; omega) (lv_sub hl [1, 2, 3, 4, 0] rfl)
          · refine lv_iload hx hb dX1_longest_55 (lv_at hl 4 rfl) ?_
            refine lv_istore_n (lv' := [(3, .int (nI k)), (0, .ref (q 0)), (1, .int (nI a)), (2, .int (nI w)), (4, .int (nI k))]) hx hb dX1_longest_57 rfl hl (by decide) rfl (fun ls hl => ?_)
            refine lv_iinc (v := nI (k + 1)) (lv' := [(4, .int (nI (k + 1))), (3, .int (nI k)), (0, .ref (q 0)), (1, .int (nI a)), (2, .int (nI w))]) hx hb dX1_longest_58 hl (k := 4) rfl (nI_1 k) (by decide) rfl (fun ls hl => ?_)
            refine lv_goto (tgt := 5) hx hb dX1_longest_61 (by decide) ?_
            exact ih (some k, k + 1) ls ⟨by omega, lb_take i2 h2 h3 (fun e he => by cases he; exact h5)⟩ (by show en - (k + 1) < en - k; omega) (lv_sub hl [2, 3, 4, 1, 0] rfl)
set_option maxRecDepth 100000 in
theorem kX1_X1_longest {p : Program} {l : Launch} {e : Env} {R : Room} {s : State} {m : MethodId} {args : Array Value} {below : List Frame} {meth : Method} {c : Code} {H : Heap} {locs : List Loc} {cells slots : Nat} {Q : State → Prop} {cc : ByteArray} {pc nL : Nat} {ls : Array Slot} {rest : List Value} {dC : Nat → ClassId} {dI : Nat → Nat → Nat} {cI : ClassId} {q : Nat → Nat} {en : Nat} {sr : Nat → Nat} {ln : Nat → Nat} {pr : Nat → Nat} (S : CallFix p m c cc nL s args lw_all RX1) (hls : ls.size = nL) (hR : 2 + 1 ≤ R.frames ∧ 8 + (5 + 11) + 44 ≤ R.locals) (hrest : (rest.map fun v => v.category).sum ≤ 8) (hc : cells ≤ R.cells ∧ slots ≤ R.slots) (hK : va_K (dC, dI) vwCl (mT cI) s) (hP : va_P (dC, dI) vwCl (mW cI q en sr ln pr) H) (a w : Nat) (ga : a < 65536) (gw : w ≤ 17) (D : Nat → Nat → Option Nat) (gm : MOK en sr ln pr D) (hd : decode cc pc = .ok (.invokevirtual 47, 3)) (kk : ∀ r : Int32, (∃ x, r = oI x ∧ LO D en sr ln a w x) → W p l e R s m args below meth c H locs cells slots Q (F0 m (pc + 3) ls (.int r :: rest))) : W p l e R s m args below meth c H locs cells slots Q (F0 m pc ls (.int (nI w) :: .int (nI a) :: .ref (q 0) :: rest)) := vp_callSi (va_Run.run (va_runV (As := [.int (nI a), .int (nI w)]) (rest := rest) S (metX1_longest l dC dI cI q en sr ln pr a w ga gw D gm) (cwV 2 S.2.2.2.2 (lw_V q217 q219 qs13 q18 q220) rfl rfl rfl (by decide +kernel) hR) ⟨fun a U g mk q => by obtain ⟨q0, qP, qK⟩ := q; exact ⟨q0, qP, va_K.moved (u := U) (U := U.calling g mk a) (Vm.Alike.refl U.vm) qK⟩, va_recv hK hP (ci := 1) (q0 := 0) rfl rfl, fun U hU hW => ⟨rfl, by rw [hU]; exact hP, va_K.moved hW.alike hK⟩⟩ rfl rfl hls rfl (lv_room hrest) hd hc)) kk
set_option maxHeartbeats 4000000 in
set_option maxRecDepth 100000 in
theorem metX1_owner (l : Launch) (dC : Nat → ClassId) (dI : Nat → Nat → Nat) (cI : ClassId) (q : Nat → Nat) (en : Nat) (sr : Nat → Nat) (ln : Nat → Nat) (pr : Nat → Nat) (x : Int32) (a : Nat) (gx : x &&& nI 65535 = nI a) (ga : a < 65536) (D : Nat → Nat → Option Nat) (gm : MOK en sr ln pr D) : Met l yX1_owner (ws_ yX1_owner cX1_owner 3 (some .int)) ({ frames := 3, cells := 0, slots := 0, locals := 68 }) (va_Pc [.ref (q 0), .int x] (fun U => va_P (dC, dI) vwCl (mW cI q en sr ln pr) U.heap ∧ va_K (dC, dI) vwCl (mT cI) U)) (vp_Si (fun r => r = oI (ownD D a))) 0 0 (fun _ => False) := by
  refine Met.ofW (cc := cX1_owner) (maxL := 3) (ret := (some .int)) (by decide) rfl ?_
  intro p e s m args below meth c s₁ B hml hv
  obtain ⟨rfl, hP, hK⟩ := hv
  have hx := B.exec
  have hb := B.bytes
  have hr := B.returns
  have hts := atoms_spec (ws := (ws_ yX1_owner cX1_owner 3 (some .int))) B.pre
  have hts : ∀ w ∈ lw_all, w.before _ s = true := fun w h => hts w (List.mem_cons_of_mem _ h)
  have hown : s.vm.findClass RX1 = some m.cls := findClass_of_methodNamed B.named
  have hlocks := B.notSynchronized
  have hl := lv_entry ([.ref (q 0), .int x]) (n := 3) (Nat.le_of_ble_eq_true rfl)
  rw [lg_entry_eq]
  generalize (lg_sl ([.ref (q 0), .int x]) ++ List.replicate (3 - (lg_sl ([.ref (q 0), .int x])).length) Slot.unset).toArray = ls at hl ⊢
  have hl : lv_has ls 3 [(0, .ref (q 0)), (1, .int x)] := hl
  have S : CallFix p m c _ _ s _ lw_all _ := ⟨hx, hb, hml, hown, hts⟩
  have gen := gm.1
  refine lv_aload_n hx hb dX1_owner_0 rfl (lv_at hl 0 rfl) ?_
  refine lv_iload_n hx hb dX1_owner_1 rfl (lv_at hl 1 rfl) ?_
  refine lv_ldc (v := nI 65535) hx hb hown (hts _ q200) dX1_owner_2 ?_
  refine lv_iand hx hb dX1_owner_4 ?_
  refine r_top (y := nI a) gx ?_
  refine lv_bipush (v := nI 17) hx hb dX1_owner_5 (by decide) ?_
  refine kX1_X1_longest S hl.1 ⟨Nat.le_of_ble_eq_true rfl, Nat.le_of_ble_eq_true rfl⟩ (Nat.le_of_ble_eq_true rfl) ⟨Nat.zero_le _, Nat.zero_le _⟩ hK hP a 17 ga (Nat.le_refl _) D gm dX1_owner_7 (fun r2 ⟨b, hr2, h2⟩ => ?_)
  subst hr2
  refine lv_istore_n (lv' := [(2, .int (oI b)), (0, .ref (q 0)), (1, .int x)]) hx hb dX1_owner_10 rfl hl (by decide) rfl (fun ls hl => ?_)
  refine lv_iload_n hx hb dX1_owner_11 rfl (lv_at hl 0 rfl) ?_
  refine r_ifgeO (x := b) (tgt := 19) hx hb (fun n hn => by have := (h2.1 n hn).1; omega) dX1_owner_12 (by decide) (fun d h => ?_) (fun h => ?_)
  · subst h
    have hd6 := (h2.1 d rfl).1
    have hl : lv_has ls 3 [(2, .int (nI d)), (0, .ref (q 0)), (1, .int x)] := hl
    refine lv_aload_n hx hb dX1_owner_19 rfl (lv_at hl 1 rfl) ?_
    refine gX1_peers hx hb hts hown hK hP dX1_owner_20 ?_
    refine lv_iload_n hx hb dX1_owner_23 rfl (lv_at hl 0 rfl) ?_
    refine rX1_peers (n := d) hx hb hK hP rfl (by omega) dX1_owner_24 ?_
    exact W.iret (v := nI (pr d)) hx hb hr (fun t ht hW => ⟨nI (pr d), rfl, by rw [(lo_own gm h2).1]; rfl, ht⟩) (fun _ h => absurd h List.not_mem_nil) dX1_owner_25
  · subst h
    refine lv_iconst (v := oI none) hx hb dX1_owner_15 (by decide) ?_
    refine lv_goto (tgt := 25) hx hb dX1_owner_16 (by decide) ?_
    exact W.iret (v := oI none) hx hb hr (fun t ht hW => ⟨oI none, rfl, by rw [(lo_own gm h2).1]; rfl, ht⟩) (fun _ h => absurd h List.not_mem_nil) dX1_owner_25
set_option maxRecDepth 100000 in
theorem kX1_X1_owner {p : Program} {l : Launch} {e : Env} {R : Room} {s : State} {m : MethodId} {args : Array Value} {below : List Frame} {meth : Method} {c : Code} {H : Heap} {locs : List Loc} {cells slots : Nat} {Q : State → Prop} {cc : ByteArray} {pc nL : Nat} {ls : Array Slot} {rest : List Value} {dC : Nat → ClassId} {dI : Nat → Nat → Nat} {cI : ClassId} {q : Nat → Nat} {en : Nat} {sr : Nat → Nat} {ln : Nat → Nat} {pr : Nat → Nat} (S : CallFix p m c cc nL s args lw_all RX1) (hls : ls.size = nL) (hR : 3 + 1 ≤ R.frames ∧ 8 + (3 + 11) + 68 ≤ R.locals) (hrest : (rest.map fun v => v.category).sum ≤ 8) (hc : cells ≤ R.cells ∧ slots ≤ R.slots) (hK : va_K (dC, dI) vwCl (mT cI) s) (hP : va_P (dC, dI) vwCl (mW cI q en sr ln pr) H) (x : Int32) (a : Nat) (gx : x &&& nI 65535 = nI a) (ga : a < 65536) (D : Nat → Nat → Option Nat) (gm : MOK en sr ln pr D) (hd : decode cc pc = .ok (.invokevirtual 54, 3)) (kk : W p l e R s m args below meth c H locs cells slots Q (F0 m (pc + 3) ls (.int (oI (ownD D a)) :: rest))) : W p l e R s m args below meth c H locs cells slots Q (F0 m pc ls (.int x :: .ref (q 0) :: rest)) := vp_callSi (va_Run.run (va_runV (As := [.int x]) (rest := rest) S (metX1_owner l dC dI cI q en sr ln pr x a gx ga D gm) (cwV 1 S.2.2.2.2 (lw_V q242 q214 q215 q18 q216) rfl rfl rfl (by decide +kernel) hR) ⟨fun a U g mk q => by obtain ⟨q0, qP, qK⟩ := q; exact ⟨q0, qP, va_K.moved (u := U) (U := U.calling g mk a) (Vm.Alike.refl U.vm) qK⟩, va_recv hK hP (ci := 1) (q0 := 0) rfl rfl, fun U hU hW => ⟨rfl, by rw [hU]; exact hP, va_K.moved hW.alike hK⟩⟩ rfl rfl hls rfl (lv_room hrest) hd hc)) (fun r hr => by rw [hr]; exact kk)
set_option maxHeartbeats 4000000 in
set_option maxRecDepth 100000 in
theorem metX1_length (l : Launch) (dC : Nat → ClassId) (dI : Nat → Nat → Nat) (cI : ClassId) (q : Nat → Nat) (en : Nat) (sr : Nat → Nat) (ln : Nat → Nat) (pr : Nat → Nat) (x : Int32) (a : Nat) (gx : x &&& nI 65535 = nI a) (ga : a < 65536) (D : Nat → Nat → Option Nat) (gm : MOK en sr ln pr D) : Met l yX1_length (ws_ yX1_length cX1_length 3 (some .int)) ({ frames := 3, cells := 0, slots := 0, locals := 68 }) (va_Pc [.ref (q 0), .int x] (fun U => va_P (dC, dI) vwCl (mW cI q en sr ln pr) U.heap ∧ va_K (dC, dI) vwCl (mT cI) U)) (vp_Si (fun r => r = oI (look D a 17))) 0 0 (fun _ => False) := by
  refine Met.ofW (cc := cX1_length) (maxL := 3) (ret := (some .int)) (by decide) rfl ?_
  intro p e s m args below meth c s₁ B hml hv
  obtain ⟨rfl, hP, hK⟩ := hv
  have hx := B.exec
  have hb := B.bytes
  have hr := B.returns
  have hts := atoms_spec (ws := (ws_ yX1_length cX1_length 3 (some .int))) B.pre
  have hts : ∀ w ∈ lw_all, w.before _ s = true := fun w h => hts w (List.mem_cons_of_mem _ h)
  have hown : s.vm.findClass RX1 = some m.cls := findClass_of_methodNamed B.named
  have hlocks := B.notSynchronized
  have hl := lv_entry ([.ref (q 0), .int x]) (n := 3) (Nat.le_of_ble_eq_true rfl)
  rw [lg_entry_eq]
  generalize (lg_sl ([.ref (q 0), .int x]) ++ List.replicate (3 - (lg_sl ([.ref (q 0), .int x])).length) Slot.unset).toArray = ls at hl ⊢
  have hl : lv_has ls 3 [(0, .ref (q 0)), (1, .int x)] := hl
  have S : CallFix p m c _ _ s _ lw_all _ := ⟨hx, hb, hml, hown, hts⟩
  have gen := gm.1
  refine lv_aload_n hx hb dX1_length_0 rfl (lv_at hl 0 rfl) ?_
  refine lv_iload_n hx hb dX1_length_1 rfl (lv_at hl 1 rfl) ?_
  refine lv_ldc (v := nI 65535) hx hb hown (hts _ q200) dX1_length_2 ?_
  refine lv_iand hx hb dX1_length_4 ?_
  refine r_top (y := nI a) gx ?_
  refine lv_bipush (v := nI 17) hx hb dX1_length_5 (by decide) ?_
  refine kX1_X1_longest S hl.1 ⟨Nat.le_of_ble_eq_true rfl, Nat.le_of_ble_eq_true rfl⟩ (Nat.le_of_ble_eq_true rfl) ⟨Nat.zero_le _, Nat.zero_le _⟩ hK hP a 17 ga (Nat.le_refl _) D gm dX1_length_7 (fun r2 ⟨b, hr2, h2⟩ => ?_)
  subst hr2
  refine lv_istore_n (lv' := [(2, .int (oI b)), (0, .ref (q 0)), (1, .int x)]) hx hb dX1_length_10 rfl hl (by decide) rfl (fun ls hl => ?_)
  refine lv_iload_n hx hb dX1_length_11 rfl (lv_at hl 0 rfl) ?_
  refine r_ifgeO (x := b) (tgt := 19) hx hb (fun n hn => by have := (h2.1 n hn).1; omega) dX1_length_12 (by decide) (fun d h => ?_) (fun h => ?_)
  · subst h
    have hd6 := (h2.1 d rfl).1
    have hl : lv_has ls 3 [(2, .int (nI d)), (0, .ref (q 0)), (1, .int x)] := hl
    refine lv_aload_n hx hb dX1_length_19 rfl (lv_at hl 1 rfl) ?_
    refine gX1_lengths hx hb hts hown hK hP dX1_length_20 ?_
    refine lv_iload_n hx hb dX1_length_23 rfl (lv_at hl 0 rfl) ?_
    refine rX1_lengths (n := d) hx hb hK hP rfl (by omega) dX1_length_24 ?_
    exact W.iret (v := nI (ln d)) hx hb hr (fun t ht hW => ⟨nI (ln d), rfl, by rw [(lo_own gm h2).2]; rfl, ht⟩) (fun _ h => absurd h List.not_mem_nil) dX1_length_25
  · subst h
    refine lv_iconst (v := oI none) hx hb dX1_length_15 (by decide) ?_
    refine lv_goto (tgt := 25) hx hb dX1_length_16 (by decide) ?_
    exact W.iret (v := oI none) hx hb hr (fun t ht hW => ⟨oI none, rfl, by rw [(lo_own gm h2).2]; rfl, ht⟩) (fun _ h => absurd h List.not_mem_nil) dX1_length_25
set_option maxHeartbeats 4000000 in
set_option maxRecDepth 100000 in
theorem metX1_settled (l : Launch) (dC : Nat → ClassId) (dI : Nat → Nat → Nat) (cI : ClassId) (q : Nat → Nat) (en : Nat) (sr : Nat → Nat) (ln : Nat → Nat) (pr : Nat → Nat) (x : Option Nat) (gx : ∀ e, x = some e → e < en) (D : Nat → Nat → Option Nat) (gm : MOK en sr ln pr D) : Met l yX1_settled (ws_ yX1_settled cX1_settled 4 (some .int)) ({ frames := 3, cells := 0, slots := 0, locals := 68 }) (va_Pc [.ref (q 0), .int (oI x)] (fun U => va_P (dC, dI) vwCl (mW cI q en sr ln pr) U.heap ∧ va_K (dC, dI) vwCl (mT cI) U)) (vp_Si (fun r => (x = none → r = zI (ownN D)) ∧ ∀ e, x = some e → r = zI (setD D (sr e) (ln e)))) 0 0 (fun _ => False) := by
  refine Met.ofW (cc := cX1_settled) (maxL := 4) (ret := (some .int)) (by decide) rfl ?_
  intro p e s m args below meth c s₁ B hml hv
  obtain ⟨rfl, hP, hK⟩ := hv
  have hx := B.exec
  have hb := B.bytes
  have hr := B.returns
  have hts := atoms_spec (ws := (ws_ yX1_settled cX1_settled 4 (some .int))) B.pre
  have hts : ∀ w ∈ lw_all, w.before _ s = true := fun w h => hts w (List.mem_cons_of_mem _ h)
  have hown : s.vm.findClass RX1 = some m.cls := findClass_of_methodNamed B.named
  have hlocks := B.notSynchronized
  have hl := lv_entry ([.ref (q 0), .int (oI x)]) (n := 4) (Nat.le_of_ble_eq_true rfl)
  rw [lg_entry_eq]
  generalize (lg_sl ([.ref (q 0), .int (oI x)]) ++ List.replicate (4 - (lg_sl ([.ref (q 0), .int (oI x)])).length) Slot.unset).toArray = ls at hl ⊢
  have hl : lv_has ls 4 [(0, .ref (q 0)), (1, .int (oI x))] := hl
  have S : CallFix p m c _ _ s _ lw_all _ := ⟨hx, hb, hml, hown, hts⟩
  have gen := gm.1
  refine lv_iload_n hx hb dX1_settled_0 rfl (lv_at hl 1 rfl) ?_
  refine r_join (rest := []) 18 (fun v => v = zI (bsz ln x)) (fun v hv => ?_) (fun J => ?_)
  · subst hv
    refine lv_istore_n (lv' := [(2, .int (zI (bsz ln x))), (0, .ref (q 0)), (1, .int (oI x))]) hx hb dX1_settled_18 rfl hl (by decide) rfl (fun ls hl => ?_)
    refine lv_iconst (v := nI 0) hx hb dX1_settled_19 (by decide) ?_
    refine lv_istore_n (lv' := [(3, .int (nI 0)), (2, .int (zI (bsz ln x))), (0, .ref (q 0)), (1, .int (oI x))]) hx hb dX1_settled_20 rfl hl (by decide) rfl (fun ls hl => ?_)
    refine r_loop (σ := Int × Nat) (nL := 4) (fun | (z, k) => [(0, .ref (q 0)), (1, .int (oI x)), (2, .int (zI z)), (3, .int (nI k))]) (fun | (z, k) => k ≤ en ∧ z = bsz ln x - fb_si (fun f => if cnB D sr ln x f = true then szI (ln f) else 0) k) (fun | (z, k) => en - k) (fun x ls hI hl ih => ?_) (bsz ln x, 0) ⟨Nat.zero_le _, by show bsz ln x = bsz ln x - 0; omega⟩ (lv_sub hl [2, 3, 1, 0] rfl)
    obtain ⟨z, k⟩ := x
    have hl : lv_has ls 4 [(0, .ref (q 0)), (1, .int (oI x)), (2, .int (zI z)), (3, .int (nI k))] := hl
    have hI : k ≤ en ∧ z = bsz ln x - fb_si (fun f => if cnB D sr ln x f = true then szI (ln f) else 0) k := hI
    obtain ⟨i1, i2⟩ := hI
    refine lv_iload_n hx hb dX1_settled_21 rfl (lv_at hl 3 rfl) ?_
    refine lv_aload_n hx hb dX1_settled_22 rfl (lv_at hl 0 rfl) ?_
    refine gX1_entries hx hb hts hown hK hP dX1_settled_23 ?_
    refine r_ge (a := k) (b := en) (tgt := 67) hx hb (by omega) (by omega) dX1_settled_26 (by decide) (fun h => ?_) (fun h => ?_)
    · have e : k = en := by omega
      subst e
      subst i2
      refine lv_iload_n hx hb dX1_settled_67 rfl (lv_at hl 2 rfl) ?_
      exact W.iret (v := zI (bsz ln x - fb_si (fun f => if cnB D sr ln x f = true then szI (ln f) else 0) k)) hx hb hr (fun t ht hW => ⟨zI (bsz ln x - fb_si (fun f => if cnB D sr ln x f = true then szI (ln f) else 0) k), rfl, ⟨fun hx => by subst hx; rw [set_none gm _ (fun f _ => cnB_iff none f)], fun e hx => by subst hx; rw [set_some gm _ (fun f _ => cnB_iff (some e) f)]⟩, ht⟩) (fun _ h => absurd h List.not_mem_nil) dX1_settled_68
    · obtain ⟨j1, j2, j3, j4⟩ := gm.2.1 k h
      refine lv_aload_n hx hb dX1_settled_29 rfl (lv_at hl 0 rfl) ?_
      refine lv_aload_n hx hb dX1_settled_30 rfl (lv_at hl 0 rfl) ?_
      refine gX1_starts hx hb hts hown hK hP dX1_settled_31 ?_
      refine lv_iload_n hx hb dX1_settled_34 rfl (lv_at hl 3 rfl) ?_
      refine rX1_starts (n := k) hx hb hK hP rfl (by omega) dX1_settled_35 ?_
      refine lv_aload_n hx hb dX1_settled_36 rfl (lv_at hl 0 rfl) ?_
      refine gX1_lengths hx hb hts hown hK hP dX1_settled_37 ?_
      refine lv_iload_n hx hb dX1_settled_40 rfl (lv_at hl 3 rfl) ?_
      refine rX1_lengths (n := k) hx hb hK hP rfl (by omega) dX1_settled_41 ?_
      refine kX1_X1_longest S hl.1 ⟨Nat.le_of_ble_eq_true rfl, Nat.le_of_ble_eq_true rfl⟩ (Nat.le_of_ble_eq_true rfl) ⟨Nat.zero_le _, Nat.zero_le _⟩ hK hP (sr k) (ln k) j2 (by omega) D gm dX1_settled_42 (fun r2 ⟨b, hr2, h2⟩ => ?_)
      subst hr2
      have hcn := lo_cnd gm gx h2
      refine lv_iload_n hx hb dX1_settled_45 rfl (lv_at hl 1 rfl) ?_
      refine r_neo (x := b) (y := x) (tgt := 61) hx hb (fun e he => by have := (h2.1 e he).1; omega) (fun e he => by have := gx e he; omega) dX1_settled_46 (by decide) (fun h3 => ?_) (fun h3 => ?_)
      · refine lv_iinc (v := nI (k + 1)) (lv' := [(3, .int (nI (k + 1))), (0, .ref (q 0)), (1, .int (oI x)), (2, .int (zI z))]) hx hb dX1_settled_61 hl (k := 3) rfl (nI_1 k) (by decide) rfl (fun ls hl => ?_)
        refine lv_goto (tgt := 21) hx hb dX1_settled_64 (by decide) ?_
        exact ih (z, k + 1) ls ⟨by omega, by rw [fb_si_succ, cnB_no (fun q => h3 (hcn.mpr q)), i2]; simp⟩ (by show en - (k + 1) < en - k; omega) (lv_sub hl [1, 2, 3, 0] rfl)
      · refine lv_iload_n hx hb dX1_settled_49 rfl (lv_at hl 2 rfl) ?_
        refine lv_aload_n hx hb dX1_settled_50 rfl (lv_at hl 0 rfl) ?_
        refine gX1_lengths hx hb hts hown hK hP dX1_settled_51 ?_
        refine lv_iload_n hx hb dX1_settled_54 rfl (lv_at hl 3 rfl) ?_
        refine rX1_lengths (n := k) hx hb hK hP rfl (by omega) dX1_settled_55 ?_
        refine kX1_X1_sizeOf S hl.1 ⟨Nat.le_of_ble_eq_true rfl, Nat.le_of_ble_eq_true rfl⟩ (Nat.le_of_ble_eq_true rfl) ⟨Nat.zero_le _, Nat.zero_le _⟩ (ln k) j1 dX1_settled_56 ?_
        refine r_top (y := zI (szI (ln k))) (zI_n _) ?_
        refine r_zisub hx hb dX1_settled_59 ?_
        refine lv_istore_n (lv' := [(2, .int (zI (z - (szI (ln k))))), (0, .ref (q 0)), (1, .int (oI x)), (3, .int (nI k))]) hx hb dX1_settled_60 rfl hl (by decide) rfl (fun ls hl => ?_)
        refine lv_iinc (v := nI (k + 1)) (lv' := [(3, .int (nI (k + 1))), (2, .int (zI (z - (szI (ln k))))), (0, .ref (q 0)), (1, .int (oI x))]) hx hb dX1_settled_61 hl (k := 3) rfl (nI_1 k) (by decide) rfl (fun ls hl => ?_)
        refine lv_goto (tgt := 21) hx hb dX1_settled_64 (by decide) ?_
        exact ih (z - szI (ln k), k + 1) ls ⟨by omega, by rw [fb_si_succ, (cnB_iff x k).mpr (hcn.mp h3), i2]; simp; omega⟩ (by show en - (k + 1) < en - k; omega) (lv_sub hl [2, 3, 1, 0] rfl)
  · refine r_ifgeO (x := x) (tgt := 9) hx hb (fun e he => by have := gx e he; omega) dX1_settled_1 (by decide) (fun e2 h => ?_) (fun h => ?_)
    · subst h
      have e3 := gx e2 rfl
      obtain ⟨j1, j2, j3, j4⟩ := gm.2.1 e2 e3
      have hl : lv_has ls 4 [(0, .ref (q 0)), (1, .int (nI e2))] := hl
      refine lv_aload_n hx hb dX1_settled_9 rfl (lv_at hl 0 rfl) ?_
      refine gX1_lengths hx hb hts hown hK hP dX1_settled_10 ?_
      refine lv_iload_n hx hb dX1_settled_13 rfl (lv_at hl 1 rfl) ?_
      refine rX1_lengths (n := e2) hx hb hK hP rfl (by omega) dX1_settled_14 ?_
      refine kX1_X1_sizeOf S hl.1 ⟨Nat.le_of_ble_eq_true rfl, Nat.le_of_ble_eq_true rfl⟩ (Nat.le_of_ble_eq_true rfl) ⟨Nat.zero_le _, Nat.zero_le _⟩ (ln e2) j1 dX1_settled_15 ?_
      exact J _ (zI_n _)
    · subst h
      refine lv_ldc (v := nI 65536) hx hb hown (hts _ q237) dX1_settled_4 ?_
      refine lv_goto (tgt := 18) hx hb dX1_settled_6 (by decide) ?_
      exact J _ (zI_n 65536)
set_option maxRecDepth 100000 in
theorem kX1_X1_settled {p : Program} {l : Launch} {e : Env} {R : Room} {s : State} {m : MethodId} {args : Array Value} {below : List Frame} {meth : Method} {c : Code} {H : Heap} {locs : List Loc} {cells slots : Nat} {Q : State → Prop} {cc : ByteArray} {pc nL : Nat} {ls : Array Slot} {rest : List Value} {dC : Nat → ClassId} {dI : Nat → Nat → Nat} {cI : ClassId} {q : Nat → Nat} {en : Nat} {sr : Nat → Nat} {ln : Nat → Nat} {pr : Nat → Nat} (S : CallFix p m c cc nL s args lw_all RX1) (hls : ls.size = nL) (hR : 3 + 1 ≤ R.frames ∧ 8 + (4 + 11) + 68 ≤ R.locals) (hrest : (rest.map fun v => v.category).sum ≤ 8) (hc : cells ≤ R.cells ∧ slots ≤ R.slots) (hK : va_K (dC, dI) vwCl (mT cI) s) (hP : va_P (dC, dI) vwCl (mW cI q en sr ln pr) H) (x : Option Nat) (gx : ∀ e, x = some e → e < en) (D : Nat → Nat → Option Nat) (gm : MOK en sr ln pr D) (hd : decode cc pc = .ok (.invokevirtual 51, 3)) (kk : ∀ r : Int32, ((x = none → r = zI (ownN D)) ∧ ∀ e, x = some e → r = zI (setD D (sr e) (ln e))) → W p l e R s m args below meth c H locs cells slots Q (F0 m (pc + 3) ls (.int r :: rest))) : W p l e R s m args below meth c H locs cells slots Q (F0 m pc ls (.int (oI x) :: .ref (q 0) :: rest)) := vp_callSi (va_Run.run (va_runV (As := [.int (oI x)]) (rest := rest) S (metX1_settled l dC dI cI q en sr ln pr x gx D gm) (cwV 1 S.2.2.2.2 (lw_V q233 q235 qs15 q18 q236) rfl rfl rfl (by decide +kernel) hR) ⟨fun a U g mk q => by obtain ⟨q0, qP, qK⟩ := q; exact ⟨q0, qP, va_K.moved (u := U) (U := U.calling g mk a) (Vm.Alike.refl U.vm) qK⟩, va_recv hK hP (ci := 1) (q0 := 0) rfl rfl, fun U hU hW => ⟨rfl, by rw [hU]; exact hP, va_K.moved hW.alike hK⟩⟩ rfl rfl hls rfl (lv_room hrest) hd hc)) kk
set_option maxHeartbeats 4000000 in
set_option maxRecDepth 100000 in
theorem metX1_owned (l : Launch) (dC : Nat → ClassId) (dI : Nat → Nat → Nat) (cI : ClassId) (q : Nat → Nat) (en : Nat) (sr : Nat → Nat) (ln : Nat → Nat) (pr : Nat → Nat) (x1 : Int32) (D : Nat → Nat → Option Nat) (gm : MOK en sr ln pr D) : Met l yX1_owned (ws_ yX1_owned cX1_owned 4 (some .int)) ({ frames := 4, cells := 0, slots := 0, locals := 91 }) (va_Pc [.ref (q 0), .int x1] (fun U => va_P (dC, dI) vwCl (mW cI q en sr ln pr) U.heap ∧ va_K (dC, dI) vwCl (mT cI) U)) (vp_Si (fun r => OWS D x1 r)) 0 0 (fun _ => False) := by
  refine Met.ofW (cc := cX1_owned) (maxL := 4) (ret := (some .int)) (by decide) rfl ?_
  intro p e s m args below meth c s₁ B hml hv
  obtain ⟨rfl, hP, hK⟩ := hv
  have hx := B.exec
  have hb := B.bytes
  have hr := B.returns
  have hts := atoms_spec (ws := (ws_ yX1_owned cX1_owned 4 (some .int))) B.pre
  have hts : ∀ w ∈ lw_all, w.before _ s = true := fun w h => hts w (List.mem_cons_of_mem _ h)
  have hown : s.vm.findClass RX1 = some m.cls := findClass_of_methodNamed B.named
  have hlocks := B.notSynchronized
  have hl := lv_entry ([.ref (q 0), .int x1]) (n := 4) (Nat.le_of_ble_eq_true rfl)
  rw [lg_entry_eq]
  generalize (lg_sl ([.ref (q 0), .int x1]) ++ List.replicate (4 - (lg_sl ([.ref (q 0), .int x1])).length) Slot.unset).toArray = ls at hl ⊢
  have hl : lv_has ls 4 [(0, .ref (q 0)), (1, .int x1)] := hl
  have S : CallFix p m c _ _ s _ lw_all _ := ⟨hx, hb, hml, hown, hts⟩
  have gen := gm.1
  refine lv_iload_n hx hb dX1_owned_0 rfl (lv_at hl 1 rfl) ?_
  refine lv_iconst (v := oI none) hx hb dX1_owned_1 (by decide) ?_
  refine lv_icmp_lt (tgt := 11) hx hb dX1_owned_2 (by decide) (fun h => ?_) (fun h => ?_)
  · refine lv_bipush (v := (-2)) hx hb dX1_owned_11 (by decide) ?_
    exact W.iret (v := (-2)) hx hb hr (fun t ht hW => ⟨(-2), rfl, ows_bad (Or.inl h), ht⟩) (fun _ h => absurd h List.not_mem_nil) dX1_owned_13
  · refine lv_iload_n hx hb dX1_owned_5 rfl (lv_at hl 1 rfl) ?_
    refine lv_bipush (v := nI 7) hx hb dX1_owned_6 (by decide) ?_
    refine lv_icmp_le (tgt := 14) hx hb dX1_owned_8 (by decide) (fun h2 => ?_) (fun h2 => ?_)
    · obtain ⟨y, hy, hyb⟩ := rng_o h h2
      subst hy
      have hl : lv_has ls 4 [(0, .ref (q 0)), (1, .int (oI y))] := hl
      refine lv_iload_n hx hb dX1_owned_14 rfl (lv_at hl 1 rfl) ?_
      refine lv_iconst (v := oI none) hx hb dX1_owned_15 (by decide) ?_
      refine r_neo (x := y) (y := none) (tgt := 25) hx hb (rng_b hyb) (fun n hn => by cases hn) dX1_owned_16 (by decide) (fun h3 => ?_) (fun h3 => ?_)
      · obtain ⟨y1, hy1⟩ : ∃ y1, y = some y1 := by
          cases y with
          | none => exact absurd rfl h3
          | some y1 => exact ⟨y1, rfl⟩
        subst hy1
        have y8 := hyb y1 rfl
        have hl : lv_has ls 4 [(0, .ref (q 0)), (1, .int (nI y1))] := hl
        refine lv_iconst (v := nI 0) hx hb dX1_owned_25 (by decide) ?_
        refine lv_istore_n (lv' := [(2, .int (nI 0)), (0, .ref (q 0)), (1, .int (nI y1))]) hx hb dX1_owned_26 rfl hl (by decide) rfl (fun ls hl => ?_)
        skip
        refine lv_iconst (v := nI 0) hx hb dX1_owned_27 (by decide) ?_
        refine lv_istore_n (lv' := [(3, .int (nI 0)), (2, .int (nI 0)), (0, .ref (q 0)), (1, .int (nI y1))]) hx hb dX1_owned_28 rfl hl (by decide) rfl (fun ls hl => ?_)
        have hl : lv_has ls 4 [(3, .int (nI 0)), (2, .int (zI 0)), (0, .ref (q 0)), (1, .int (nI y1))] := hl
        refine r_loop (σ := Int × Nat) (nL := 4) (fun | (z, k) => [(0, .ref (q 0)), (1, .int (nI y1)), (2, .int (zI z)), (3, .int (nI k))]) (fun | (z, k) => k ≤ en ∧ z = fb_si (fun e => if pr e = y1 then setD D (sr e) (ln e) else 0) k) (fun | (z, k) => en - k) (fun x ls hI hl ih => ?_) (0, 0) ⟨Nat.zero_le _, rfl⟩ (lv_sub hl [2, 3, 1, 0] rfl)
        obtain ⟨z, k⟩ := x
        have hl : lv_has ls 4 [(0, .ref (q 0)), (1, .int (nI y1)), (2, .int (zI z)), (3, .int (nI k))] := hl
        have hI : k ≤ en ∧ z = fb_si (fun e => if pr e = y1 then setD D (sr e) (ln e) else 0) k := hI
        obtain ⟨i1, i2⟩ := hI
        refine lv_iload_n hx hb dX1_owned_29 rfl (lv_at hl 3 rfl) ?_
        refine lv_aload_n hx hb dX1_owned_30 rfl (lv_at hl 0 rfl) ?_
        refine gX1_entries hx hb hts hown hK hP dX1_owned_31 ?_
        refine r_ge (a := k) (b := en) (tgt := 61) hx hb (by omega) (by omega) dX1_owned_34 (by decide) (fun h4 => ?_) (fun h4 => ?_)
        · have e : k = en := by omega
          subst e
          subst i2
          refine lv_iload_n hx hb dX1_owned_61 rfl (lv_at hl 2 rfl) ?_
          exact W.iret (v := zI (fb_si (fun e => if pr e = y1 then setD D (sr e) (ln e) else 0) k)) hx hb hr (fun t ht hW => ⟨zI (fb_si (fun e => if pr e = y1 then setD D (sr e) (ln e) else 0) k), rfl, ows_good hyb (fun hn => by cases hn) (fun n hn => by cases hn; rw [own_model gm]), ht⟩) (fun _ h => absurd h List.not_mem_nil) dX1_owned_62
        · obtain ⟨j1, j2, j3, j4⟩ := gm.2.1 k h4
          refine lv_aload_n hx hb dX1_owned_37 rfl (lv_at hl 0 rfl) ?_
          refine gX1_peers hx hb hts hown hK hP dX1_owned_38 ?_
          refine lv_iload_n hx hb dX1_owned_41 rfl (lv_at hl 3 rfl) ?_
          refine rX1_peers (n := k) hx hb hK hP rfl (by omega) dX1_owned_42 ?_
          refine lv_iload_n hx hb dX1_owned_43 rfl (lv_at hl 1 rfl) ?_
          refine r_ne (a := pr k) (b := y1) (tgt := 55) hx hb (by omega) (by omega) dX1_owned_44 (by decide) (fun h5 => ?_) (fun h5 => ?_)
          · refine lv_iinc (v := nI (k + 1)) (lv' := [(3, .int (nI (k + 1))), (0, .ref (q 0)), (1, .int (nI y1)), (2, .int (zI z))]) hx hb dX1_owned_55 hl (k := 3) rfl (nI_1 k) (by decide) rfl (fun ls hl => ?_)
            refine lv_goto (tgt := 29) hx hb dX1_owned_58 (by decide) ?_
            exact ih (z, k + 1) ls ⟨by omega, by rw [fb_si_succ, if_neg h5, i2]; simp⟩ (by show en - (k + 1) < en - k; omega) (lv_sub hl [1, 2, 3, 0] rfl)
          · refine lv_iload_n hx hb dX1_owned_47 rfl (lv_at hl 2 rfl) ?_
            refine lv_aload_n hx hb dX1_owned_48 rfl (lv_at hl 0 rfl) ?_
            refine lv_iload_n hx hb dX1_owned_49 rfl (lv_at hl 3 rfl) ?_
            refine kX1_X1_settled S hl.1 ⟨Nat.le_of_ble_eq_true rfl, Nat.le_of_ble_eq_true rfl⟩ (Nat.le_of_ble_eq_true rfl) ⟨Nat.zero_le _, Nat.zero_le _⟩ hK hP (some k) (fun e he => by cases he; exact h4) D gm dX1_owned_50 (fun r2 hr2 => ?_)
            refine r_top (y := zI (setD D (sr k) (ln k))) (hr2.2 k rfl) ?_
            refine r_ziadd hx hb dX1_owned_53 ?_
            refine lv_istore_n (lv' := [(2, .int (zI (z + (setD D (sr k) (ln k))))), (0, .ref (q 0)), (1, .int (nI y1)), (3, .int (nI k))]) hx hb dX1_owned_54 rfl hl (by decide) rfl (fun ls hl => ?_)
            refine lv_iinc (v := nI (k + 1)) (lv' := [(3, .int (nI (k + 1))), (2, .int (zI (z + (setD D (sr k) (ln k))))), (0, .ref (q 0)), (1, .int (nI y1))]) hx hb dX1_owned_55 hl (k := 3) rfl (nI_1 k) (by decide) rfl (fun ls hl => ?_)
            refine lv_goto (tgt := 29) hx hb dX1_owned_58 (by decide) ?_
            exact ih (z + setD D (sr k) (ln k), k + 1) ls ⟨by omega, by rw [fb_si_succ, if_pos h5, i2]⟩ (by show en - (k + 1) < en - k; omega) (lv_sub hl [2, 3, 1, 0] rfl)
      · subst h3
        refine lv_aload_n hx hb dX1_owned_19 rfl (lv_at hl 0 rfl) ?_
        refine lv_iconst (v := oI none) hx hb dX1_owned_20 (by decide) ?_
        refine kX1_X1_settled S hl.1 ⟨Nat.le_of_ble_eq_true rfl, Nat.le_of_ble_eq_true rfl⟩ (Nat.le_of_ble_eq_true rfl) ⟨Nat.zero_le _, Nat.zero_le _⟩ hK hP none (fun e he => by cases he) D gm dX1_owned_21 (fun r2 hr2 => ?_)
        exact W.iret (v := r2) hx hb hr (fun t ht hW => ⟨r2, rfl, ows_good hyb (fun _ => hr2.1 rfl) (fun n hn => by cases hn), ht⟩) (fun _ h => absurd h List.not_mem_nil) dX1_owned_24
    · refine lv_bipush (v := (-2)) hx hb dX1_owned_11 (by decide) ?_
      exact W.iret (v := (-2)) hx hb hr (fun t ht hW => ⟨(-2), rfl, ows_bad (Or.inr (nle_lt h2)), ht⟩) (fun _ h => absurd h List.not_mem_nil) dX1_owned_13
set_option maxHeartbeats 4000000 in
set_option maxRecDepth 100000 in
theorem metX1_entries (l : Launch) (dC : Nat → ClassId) (dI : Nat → Nat → Nat) (cI : ClassId) (q : Nat → Nat) (en : Nat) (sr : Nat → Nat) (ln : Nat → Nat) (pr : Nat → Nat) (x1 : Int32) (D : Nat → Nat → Option Nat) (gm : MOK en sr ln pr D) : Met l yX1_entries (ws_ yX1_entries cX1_entries 4 (some .int)) ({ frames := 0, cells := 0, slots := 0, locals := 0 }) (va_Pc [.ref (q 0), .int x1] (fun U => va_P (dC, dI) vwCl (mW cI q en sr ln pr) U.heap ∧ va_K (dC, dI) vwCl (mT cI) U)) (vp_Si (fun r => ENS D x1 r)) 0 0 (fun _ => False) := by
  refine Met.ofW (cc := cX1_entries) (maxL := 4) (ret := (some .int)) (by decide) rfl ?_
  intro p e s m args below meth c s₁ B hml hv
  obtain ⟨rfl, hP, hK⟩ := hv
  have hx := B.exec
  have hb := B.bytes
  have hr := B.returns
  have hts := atoms_spec (ws := (ws_ yX1_entries cX1_entries 4 (some .int))) B.pre
  have hts : ∀ w ∈ lw_all, w.before _ s = true := fun w h => hts w (List.mem_cons_of_mem _ h)
  have hown : s.vm.findClass RX1 = some m.cls := findClass_of_methodNamed B.named
  have hlocks := B.notSynchronized
  have hl := lv_entry ([.ref (q 0), .int x1]) (n := 4) (Nat.le_of_ble_eq_true rfl)
  rw [lg_entry_eq]
  generalize (lg_sl ([.ref (q 0), .int x1]) ++ List.replicate (4 - (lg_sl ([.ref (q 0), .int x1])).length) Slot.unset).toArray = ls at hl ⊢
  have hl : lv_has ls 4 [(0, .ref (q 0)), (1, .int x1)] := hl
  have S : CallFix p m c _ _ s _ lw_all _ := ⟨hx, hb, hml, hown, hts⟩
  have gen := gm.1
  refine lv_iload_n hx hb dX1_entries_0 rfl (lv_at hl 1 rfl) ?_
  refine lv_if_lt (tgt := 10) hx hb dX1_entries_1 (by decide) (fun h1 => ?_) (fun h1 => ?_)
  · refine lv_iconst (v := oI none) hx hb dX1_entries_10 (by decide) ?_
    exact W.iret (v := oI none) hx hb hr (fun t ht hW => ⟨oI none, rfl, ens_bad (Or.inl h1), ht⟩) (fun _ h => absurd h List.not_mem_nil) dX1_entries_11
  · refine lv_iload_n hx hb dX1_entries_4 rfl (lv_at hl 1 rfl) ?_
    refine lv_bipush (v := nI 7) hx hb dX1_entries_5 (by decide) ?_
    refine lv_icmp_le (tgt := 12) hx hb dX1_entries_7 (by decide) (fun h2 => ?_) (fun h2 => ?_)
    · obtain ⟨y, gy, ey⟩ := nI_of2 (M := nI 7) (n := 7) (by decide) h1 h2
      subst ey
      have hl : lv_has ls 4 [(0, .ref (q 0)), (1, .int (nI y))] := hl
      refine lv_iconst (v := nI 0) hx hb dX1_entries_12 (by decide) ?_
      refine lv_istore_n (lv' := [(2, .int (nI 0)), (0, .ref (q 0)), (1, .int (nI y))]) hx hb dX1_entries_13 rfl hl (by decide) rfl (fun ls hl => ?_)
      refine lv_iconst (v := nI 0) hx hb dX1_entries_14 (by decide) ?_
      refine lv_istore_n (lv' := [(3, .int (nI 0)), (2, .int (nI 0)), (0, .ref (q 0)), (1, .int (nI y))]) hx hb dX1_entries_15 rfl hl (by decide) rfl (fun ls hl => ?_)
      refine r_loop (σ := Nat × Nat) (nL := 4) (fun | (n, k) => [(0, .ref (q 0)), (1, .int (nI y)), (2, .int (nI n)), (3, .int (nI k))]) (fun | (n, k) => k ≤ en ∧ fb_ct (fun e => decide (pr e = y)) k = n) (fun | (n, k) => en - k) (fun x ls hI hl ih => ?_) (0, 0) ⟨Nat.zero_le _, rfl⟩ (lv_sub hl [2, 3, 1, 0] rfl)
      obtain ⟨n, k⟩ := x
      have hl : lv_has ls 4 [(0, .ref (q 0)), (1, .int (nI y)), (2, .int (nI n)), (3, .int (nI k))] := hl
      have hI : k ≤ en ∧ fb_ct (fun e => decide (pr e = y)) k = n := hI
      obtain ⟨i1, i2⟩ := hI
      refine lv_iload_n hx hb dX1_entries_16 rfl (lv_at hl 3 rfl) ?_
      refine lv_aload_n hx hb dX1_entries_17 rfl (lv_at hl 0 rfl) ?_
      refine gX1_entries hx hb hts hown hK hP dX1_entries_18 ?_
      refine r_ge (a := k) (b := en) (tgt := 43) hx hb (by omega) (by omega) dX1_entries_21 (by decide) (fun h3 => ?_) (fun h3 => ?_)
      · have e : k = en := by omega
        subst e
        subst i2
        refine lv_iload_n hx hb dX1_entries_43 rfl (lv_at hl 2 rfl) ?_
        exact W.iret (v := nI (fb_ct (fun e => decide (pr e = y)) k)) hx hb hr (fun t ht hW => ⟨nI (fb_ct (fun e => decide (pr e = y)) k), rfl, ens_good (by omega) (by rw [zI_n]; exact congrArg zI (cnt_model gm (fun _ _ r => r = y))), ht⟩) (fun _ h => absurd h List.not_mem_nil) dX1_entries_44
      · obtain ⟨j1, j2, j3, j4⟩ := gm.2.1 k h3
        refine lv_aload_n hx hb dX1_entries_24 rfl (lv_at hl 0 rfl) ?_
        refine gX1_peers hx hb hts hown hK hP dX1_entries_25 ?_
        refine lv_iload_n hx hb dX1_entries_28 rfl (lv_at hl 3 rfl) ?_
        refine rX1_peers (n := k) hx hb hK hP rfl (by omega) dX1_entries_29 ?_
        refine lv_iload_n hx hb dX1_entries_30 rfl (lv_at hl 1 rfl) ?_
        refine r_ne (a := pr k) (b := y) (tgt := 37) hx hb (by omega) (by omega) dX1_entries_31 (by decide) (fun h5 => ?_) (fun h5 => ?_)
        · refine lv_iinc (v := nI (k + 1)) (lv' := [(3, .int (nI (k + 1))), (0, .ref (q 0)), (1, .int (nI y)), (2, .int (nI n))]) hx hb dX1_entries_37 hl (k := 3) rfl (nI_1 k) (by decide) rfl (fun ls hl => ?_)
          refine lv_goto (tgt := 16) hx hb dX1_entries_40 (by decide) ?_
          exact ih (n, k + 1) ls ⟨by omega, by rw [fb_ct_succ, decide_eq_false h5, i2]; rfl⟩ (by show en - (k + 1) < en - k; omega) (lv_sub hl [1, 2, 3, 0] rfl)
        · refine lv_iinc (v := nI (n + 1)) (lv' := [(2, .int (nI (n + 1))), (0, .ref (q 0)), (1, .int (nI y)), (3, .int (nI k))]) hx hb dX1_entries_34 hl (k := 2) rfl (nI_1 n) (by decide) rfl (fun ls hl => ?_)
          refine lv_iinc (v := nI (k + 1)) (lv' := [(3, .int (nI (k + 1))), (2, .int (nI (n + 1))), (0, .ref (q 0)), (1, .int (nI y))]) hx hb dX1_entries_37 hl (k := 3) rfl (nI_1 k) (by decide) rfl (fun ls hl => ?_)
          refine lv_goto (tgt := 16) hx hb dX1_entries_40 (by decide) ?_
          exact ih (n + 1, k + 1) ls ⟨by omega, by rw [fb_ct_succ, decide_eq_true h5, i2]; rfl⟩ (by show en - (k + 1) < en - k; omega) (lv_sub hl [2, 3, 1, 0] rfl)
    · refine lv_iconst (v := oI none) hx hb dX1_entries_10 (by decide) ?_
      exact W.iret (v := oI none) hx hb hr (fun t ht hW => ⟨oI none, rfl, ens_bad (Or.inr (nle_lt h2)), ht⟩) (fun _ h => absurd h List.not_mem_nil) dX1_entries_11
set_option maxHeartbeats 4000000 in
set_option maxRecDepth 100000 in
theorem metX1_useless (l : Launch) (dC : Nat → ClassId) (dI : Nat → Nat → Nat) (cI : ClassId) (q : Nat → Nat) (en : Nat) (sr : Nat → Nat) (ln : Nat → Nat) (pr : Nat → Nat) (D : Nat → Nat → Option Nat) (gm : MOK en sr ln pr D) : Met l yX1_useless (ws_ yX1_useless cX1_useless 4 (some .int)) ({ frames := 4, cells := 0, slots := 0, locals := 91 }) (va_Pc [.ref (q 0)] (fun U => va_P (dC, dI) vwCl (mW cI q en sr ln pr) U.heap ∧ va_K (dC, dI) vwCl (mT cI) U)) (vp_Si (fun r => r = zI (uslD D))) 0 0 (fun _ => False) := by
  refine Met.ofW (cc := cX1_useless) (maxL := 4) (ret := (some .int)) (by decide) rfl ?_
  intro p e s m args below meth c s₁ B hml hv
  obtain ⟨rfl, hP, hK⟩ := hv
  have hx := B.exec
  have hb := B.bytes
  have hr := B.returns
  have hts := atoms_spec (ws := (ws_ yX1_useless cX1_useless 4 (some .int))) B.pre
  have hts : ∀ w ∈ lw_all, w.before _ s = true := fun w h => hts w (List.mem_cons_of_mem _ h)
  have hown : s.vm.findClass RX1 = some m.cls := findClass_of_methodNamed B.named
  have hlocks := B.notSynchronized
  have hl := lv_entry ([.ref (q 0)]) (n := 4) (Nat.le_of_ble_eq_true rfl)
  rw [lg_entry_eq]
  generalize (lg_sl ([.ref (q 0)]) ++ List.replicate (4 - (lg_sl ([.ref (q 0)])).length) Slot.unset).toArray = ls at hl ⊢
  have hl : lv_has ls 4 [(0, .ref (q 0))] := hl
  have S : CallFix p m c _ _ s _ lw_all _ := ⟨hx, hb, hml, hown, hts⟩
  have gen := gm.1
  refine lv_iconst (v := nI 0) hx hb dX1_useless_0 (by decide) ?_
  refine lv_istore_n (lv' := [(1, .int (nI 0)), (0, .ref (q 0))]) hx hb dX1_useless_1 rfl hl (by decide) rfl (fun ls hl => ?_)
  refine lv_iconst (v := nI 0) hx hb dX1_useless_2 (by decide) ?_
  refine lv_istore_n (lv' := [(2, .int (nI 0)), (1, .int (nI 0)), (0, .ref (q 0))]) hx hb dX1_useless_3 rfl hl (by decide) rfl (fun ls hl => ?_)
  refine r_loop (σ := Nat × Nat) (nL := 4) (fun | (n, k) => [(0, .ref (q 0)), (1, .int (nI n)), (2, .int (nI k))]) (fun | (n, k) => k ≤ en ∧ fb_ct (fun e => decide (zI (setD D (sr e) (ln e)) = 0 ∨ parP D (sr e) (ln e) = some (pr e))) k = n) (fun | (n, k) => en - k) (fun x ls hI hl ih => ?_) (0, 0) ⟨Nat.zero_le _, rfl⟩ (lv_sub hl [2, 1, 0] rfl)
  obtain ⟨n, k⟩ := x
  have hl : lv_has ls 4 [(0, .ref (q 0)), (1, .int (nI n)), (2, .int (nI k))] := hl
  have hI : k ≤ en ∧ fb_ct (fun e => decide (zI (setD D (sr e) (ln e)) = 0 ∨ parP D (sr e) (ln e) = some (pr e))) k = n := hI
  obtain ⟨i1, i2⟩ := hI
  refine lv_iload_n hx hb dX1_useless_4 rfl (lv_at hl 2 rfl) ?_
  refine lv_aload_n hx hb dX1_useless_5 rfl (lv_at hl 0 rfl) ?_
  refine gX1_entries hx hb hts hown hK hP dX1_useless_6 ?_
  refine r_ge (a := k) (b := en) (tgt := 65) hx hb (by omega) (by omega) dX1_useless_9 (by decide) (fun h => ?_) (fun h => ?_)
  · have e : k = en := by omega
    subst e
    subst i2
    refine lv_iload_n hx hb dX1_useless_65 rfl (lv_at hl 1 rfl) ?_
    exact W.iret (v := nI (fb_ct (fun e => decide (zI (setD D (sr e) (ln e)) = 0 ∨ parP D (sr e) (ln e) = some (pr e))) k)) hx hb hr (fun t ht hW => ⟨nI (fb_ct (fun e => decide (zI (setD D (sr e) (ln e)) = 0 ∨ parP D (sr e) (ln e) = some (pr e))) k), rfl, by rw [zI_n]; exact congrArg zI (cnt_model gm (fun pp l r => zI (setD D pp l) = 0 ∨ parP D pp l = some r)), ht⟩) (fun _ h => absurd h List.not_mem_nil) dX1_useless_66
  · obtain ⟨j1, j2, j3, j4⟩ := gm.2.1 k h
    refine lv_aload_n hx hb dX1_useless_12 rfl (lv_at hl 0 rfl) ?_
    refine lv_aload_n hx hb dX1_useless_13 rfl (lv_at hl 0 rfl) ?_
    refine gX1_starts hx hb hts hown hK hP dX1_useless_14 ?_
    refine lv_iload_n hx hb dX1_useless_17 rfl (lv_at hl 2 rfl) ?_
    refine rX1_starts (n := k) hx hb hK hP rfl (by omega) dX1_useless_18 ?_
    refine lv_aload_n hx hb dX1_useless_19 rfl (lv_at hl 0 rfl) ?_
    refine gX1_lengths hx hb hts hown hK hP dX1_useless_20 ?_
    refine lv_iload_n hx hb dX1_useless_23 rfl (lv_at hl 2 rfl) ?_
    refine rX1_lengths (n := k) hx hb hK hP rfl (by omega) dX1_useless_24 ?_
    refine kX1_X1_longest S hl.1 ⟨Nat.le_of_ble_eq_true rfl, Nat.le_of_ble_eq_true rfl⟩ (Nat.le_of_ble_eq_true rfl) ⟨Nat.zero_le _, Nat.zero_le _⟩ hK hP (sr k) (ln k) j2 (by omega) D gm dX1_useless_25 (fun r2 ⟨b, hr2, h2⟩ => ?_)
    subst hr2
    have hpar := lo_par gm h2
    refine lv_istore_n (lv' := [(3, .int (oI b)), (0, .ref (q 0)), (1, .int (nI n)), (2, .int (nI k))]) hx hb dX1_useless_28 rfl hl (by decide) rfl (fun ls hl => ?_)
    refine lv_aload_n hx hb dX1_useless_29 rfl (lv_at hl 1 rfl) ?_
    refine lv_iload_n hx hb dX1_useless_30 rfl (lv_at hl 3 rfl) ?_
    refine kX1_X1_settled S hl.1 ⟨Nat.le_of_ble_eq_true rfl, Nat.le_of_ble_eq_true rfl⟩ (Nat.le_of_ble_eq_true rfl) ⟨Nat.zero_le _, Nat.zero_le _⟩ hK hP (some k) (fun e he => by cases he; exact h) D gm dX1_useless_31 (fun r3 hr3 => ?_)
    refine r_top (y := zI (setD D (sr k) (ln k))) (hr3.2 k rfl) ?_
    refine lv_if_eq (tgt := 56) hx hb dX1_useless_34 (by decide) (fun h3 => ?_) (fun h3 => ?_)
    · refine lv_iinc (v := nI (n + 1)) (lv' := [(1, .int (nI (n + 1))), (3, .int (oI b)), (0, .ref (q 0)), (2, .int (nI k))]) hx hb dX1_useless_56 hl (k := 2) rfl (nI_1 n) (by decide) rfl (fun ls hl => ?_)
      refine lv_iinc (v := nI (k + 1)) (lv' := [(2, .int (nI (k + 1))), (1, .int (nI (n + 1))), (3, .int (oI b)), (0, .ref (q 0))]) hx hb dX1_useless_59 hl (k := 3) rfl (nI_1 k) (by decide) rfl (fun ls hl => ?_)
      refine lv_goto (tgt := 4) hx hb dX1_useless_62 (by decide) ?_
      exact ih (n + 1, k + 1) ls ⟨by omega, by rw [fb_ct_succ, decide_eq_true (Or.inl h3), i2]; rfl⟩ (by show en - (k + 1) < en - k; omega) (lv_sub hl [3, 1, 0] rfl)
    · refine lv_iload_n hx hb dX1_useless_37 rfl (lv_at hl 0 rfl) ?_
      refine r_ifltO (x := b) (tgt := 59) hx hb (fun e he => by have := (h2.1 e he).1; omega) dX1_useless_38 (by decide) (fun h4 => ?_) (fun b2 h4 => ?_)
      · subst h4
        refine lv_iinc (v := nI (k + 1)) (lv' := [(2, .int (nI (k + 1))), (3, .int (oI none)), (0, .ref (q 0)), (1, .int (nI n))]) hx hb dX1_useless_59 hl (k := 3) rfl (nI_1 k) (by decide) rfl (fun ls hl => ?_)
        refine lv_goto (tgt := 4) hx hb dX1_useless_62 (by decide) ?_
        exact ih (n, k + 1) ls ⟨by omega, by rw [fb_ct_succ, decide_eq_false (fun z => by rcases z with z | z; exact h3 z; rw [hpar] at z; cases z), i2]; rfl⟩ (by show en - (k + 1) < en - k; omega) (lv_sub hl [2, 3, 0] rfl)
      · subst h4
        obtain ⟨b1, -⟩ := h2.1 b2 rfl
        obtain ⟨m1, m2, m3, m4⟩ := gm.2.1 b2 b1
        have hl : lv_has ls 4 [(3, .int (nI b2)), (0, .ref (q 0)), (1, .int (nI n)), (2, .int (nI k))] := hl
        refine lv_aload_n hx hb dX1_useless_41 rfl (lv_at hl 1 rfl) ?_
        refine gX1_peers hx hb hts hown hK hP dX1_useless_42 ?_
        refine lv_iload_n hx hb dX1_useless_45 rfl (lv_at hl 0 rfl) ?_
        refine rX1_peers (n := b2) hx hb hK hP rfl (by omega) dX1_useless_46 ?_
        refine lv_aload_n hx hb dX1_useless_47 rfl (lv_at hl 1 rfl) ?_
        refine gX1_peers hx hb hts hown hK hP dX1_useless_48 ?_
        refine lv_iload_n hx hb dX1_useless_51 rfl (lv_at hl 3 rfl) ?_
        refine rX1_peers (n := k) hx hb hK hP rfl (by omega) dX1_useless_52 ?_
        refine r_ne (a := pr b2) (b := pr k) (tgt := 59) hx hb (by omega) (by omega) dX1_useless_53 (by decide) (fun h5 => ?_) (fun h5 => ?_)
        · refine lv_iinc (v := nI (k + 1)) (lv' := [(2, .int (nI (k + 1))), (3, .int (nI b2)), (0, .ref (q 0)), (1, .int (nI n))]) hx hb dX1_useless_59 hl (k := 3) rfl (nI_1 k) (by decide) rfl (fun ls hl => ?_)
          refine lv_goto (tgt := 4) hx hb dX1_useless_62 (by decide) ?_
          exact ih (n, k + 1) ls ⟨by omega, by rw [fb_ct_succ, decide_eq_false (fun z => by rcases z with z | z; exact h3 z; rw [hpar] at z; exact h5 (Option.some.inj z)), i2]; rfl⟩ (by show en - (k + 1) < en - k; omega) (lv_sub hl [2, 3, 0] rfl)
        · refine lv_iinc (v := nI (n + 1)) (lv' := [(1, .int (nI (n + 1))), (3, .int (nI b2)), (0, .ref (q 0)), (2, .int (nI k))]) hx hb dX1_useless_56 hl (k := 2) rfl (nI_1 n) (by decide) rfl (fun ls hl => ?_)
          refine lv_iinc (v := nI (k + 1)) (lv' := [(2, .int (nI (k + 1))), (1, .int (nI (n + 1))), (3, .int (nI b2)), (0, .ref (q 0))]) hx hb dX1_useless_59 hl (k := 3) rfl (nI_1 k) (by decide) rfl (fun ls hl => ?_)
          refine lv_goto (tgt := 4) hx hb dX1_useless_62 (by decide) ?_
          exact ih (n + 1, k + 1) ls ⟨by omega, by rw [fb_ct_succ, decide_eq_true (Or.inr (by rw [hpar]; exact congrArg some h5)), i2]; rfl⟩ (by show en - (k + 1) < en - k; omega) (lv_sub hl [3, 1, 0] rfl)
end
section
set_option maxRecDepth 100000
theorem mo_lt {en : Nat} {sr ln pr : Nat → Nat} {D : Nat → Nat → Option Nat} (h : MOK en sr ln pr D) {a r : Nat} (ho : ownD D a = some r) : r < 8 := by
  unfold ownD at ho
  cases hl : look D a 17 with
  | none => rw [hl] at ho; cases ho
  | some k =>
    rw [hl] at ho
    obtain ⟨e, he, -, -, e3⟩ := (h.2.2.2 _ _ r).mp ho
    rw [← e3]
    exact (h.2.1 e he).2.2.2
set_option maxHeartbeats 4000000 in
set_option maxRecDepth 100000 in
theorem metX1_drop (l : Launch) (dC : Nat → ClassId) (dI : Nat → Nat → Nat) (cI : ClassId) (q : Nat → Nat) (sz : Nat) (en : Nat) (sr : Nat → Nat) (ln : Nat → Nat) (pr : Nat → Nat) (e2 : Nat) (ge : e2 < en) (gen : en ≤ 32) : Met l yX1_drop (ws_ yX1_drop cX1_drop 2 none) ({ frames := 0, cells := 0, slots := 0, locals := 0 }) (va_Pc [.ref (q 0), .int (nI e2)] (fun U => U.heap.size = sz ∧ va_P (dC, dI) vwCl (mW cI q en sr ln pr) U.heap ∧ va_K (dC, dI) vwCl (mT cI) U ∧ va_D (fun _ => True) (mW cI q en sr ln pr))) (va_Qv (fun (u : Unit) => True) (fun (u : Unit) t => va_P (dC, dI) vwCl (mW cI q (en - 1) (va_up sr e2 (sr (en - 1))) (va_up ln e2 (ln (en - 1))) (va_up pr e2 (pr (en - 1)))) t.heap ∧ va_K (dC, dI) vwCl (mT cI) t ∧ va_D (va_A (mW cI q en sr ln pr) sz) (mW cI q (en - 1) (va_up sr e2 (sr (en - 1))) (va_up ln e2 (ln (en - 1))) (va_up pr e2 (pr (en - 1))))) (va_A (mW cI q en sr ln pr) sz)) 0 0 (va_A (mW cI q en sr ln pr) sz) := by
  refine Met.ofW (cc := cX1_drop) (maxL := 2) (ret := none) (by decide) rfl ?_
  intro p e s m args below meth c s₁ B hml hv
  obtain ⟨rfl, hsz, hP, hK, hD0⟩ := hv
  have hx := B.exec
  have hb := B.bytes
  have hr := B.returns
  have hts := atoms_spec (ws := (ws_ yX1_drop cX1_drop 2 none)) B.pre
  have hts : ∀ w ∈ lw_all, w.before _ s = true := fun w h => hts w (List.mem_cons_of_mem _ h)
  have hown : s.vm.findClass RX1 = some m.cls := findClass_of_methodNamed B.named
  have hlocks := B.notSynchronized
  subst hsz
  have hD := hD0.self (sz := s.heap.size)
  generalize hAe : va_A (mW cI q en sr ln pr) s.heap.size = A at hD ⊢
  have hA : ∀ q : Nat, s.heap.size ≤ q → A q := fun q h => by rw [← hAe]; exact Or.inr h
  have hS : va_S A s.heap s.heap [] := va_S.rf
  have hl := lv_entry ([.ref (q 0), .int (nI e2)]) (n := 2) (Nat.le_of_ble_eq_true rfl)
  rw [lg_entry_eq]
  generalize (lg_sl ([.ref (q 0), .int (nI e2)]) ++ List.replicate (2 - (lg_sl ([.ref (q 0), .int (nI e2)])).length) Slot.unset).toArray = ls at hl ⊢
  have hl : lv_has ls 2 [(0, .ref (q 0)), (1, .int (nI e2))] := hl
  have S : CallFix p m c _ _ s _ lw_all _ := ⟨hx, hb, hml, hown, hts⟩
  refine lv_aload_n hx hb dX1_drop_0 rfl (lv_at hl 0 rfl) ?_
  refine lv_dup hx hb dX1_drop_1 rfl ?_
  refine gX1_entries hx hb hts hown hK hP dX1_drop_2 ?_
  refine lv_iconst (v := nI 1) hx hb dX1_drop_5 (by decide) ?_
  refine r_isub (a := en) (b := 1) hx hb (by omega) dX1_drop_6 ?_
  refine pX1_entries (v := en - 1) hx hb hts hown hK hP hD hS dX1_drop_7 (fun H locs hP hD hS => ?_)
  refine lv_aload_n hx hb dX1_drop_10 rfl (lv_at hl 0 rfl) ?_
  refine gX1_starts hx hb hts hown hK hP dX1_drop_11 ?_
  refine lv_iload_n hx hb dX1_drop_14 rfl (lv_at hl 1 rfl) ?_
  refine lv_aload_n hx hb dX1_drop_15 rfl (lv_at hl 0 rfl) ?_
  refine gX1_starts hx hb hts hown hK hP dX1_drop_16 ?_
  refine lv_aload_n hx hb dX1_drop_19 rfl (lv_at hl 0 rfl) ?_
  refine gX1_entries hx hb hts hown hK hP dX1_drop_20 ?_
  refine rX1_starts (n := en - 1) hx hb hK hP rfl (by omega) dX1_drop_23 ?_
  refine wX1_starts (n := e2) (v := sr (en - 1)) hx hb hK hP hD hS rfl (by omega) dX1_drop_24 (fun H locs hP hD hS => ?_)
  refine lv_aload_n hx hb dX1_drop_25 rfl (lv_at hl 0 rfl) ?_
  refine gX1_lengths hx hb hts hown hK hP dX1_drop_26 ?_
  refine lv_iload_n hx hb dX1_drop_29 rfl (lv_at hl 1 rfl) ?_
  refine lv_aload_n hx hb dX1_drop_30 rfl (lv_at hl 0 rfl) ?_
  refine gX1_lengths hx hb hts hown hK hP dX1_drop_31 ?_
  refine lv_aload_n hx hb dX1_drop_34 rfl (lv_at hl 0 rfl) ?_
  refine gX1_entries hx hb hts hown hK hP dX1_drop_35 ?_
  refine rX1_lengths (n := en - 1) hx hb hK hP rfl (by omega) dX1_drop_38 ?_
  refine wX1_lengths (n := e2) (v := ln (en - 1)) hx hb hK hP hD hS rfl (by omega) dX1_drop_39 (fun H locs hP hD hS => ?_)
  refine lv_aload_n hx hb dX1_drop_40 rfl (lv_at hl 0 rfl) ?_
  refine gX1_peers hx hb hts hown hK hP dX1_drop_41 ?_
  refine lv_iload_n hx hb dX1_drop_44 rfl (lv_at hl 1 rfl) ?_
  refine lv_aload_n hx hb dX1_drop_45 rfl (lv_at hl 0 rfl) ?_
  refine gX1_peers hx hb hts hown hK hP dX1_drop_46 ?_
  refine lv_aload_n hx hb dX1_drop_49 rfl (lv_at hl 0 rfl) ?_
  refine gX1_entries hx hb hts hown hK hP dX1_drop_50 ?_
  refine rX1_peers (n := en - 1) hx hb hK hP rfl (by omega) dX1_drop_53 ?_
  refine wX1_peers (n := e2) (v := pr (en - 1)) hx hb hK hP hD hS rfl (by omega) dX1_drop_54 (fun H locs hP hD hS => ?_)
  exact W.vret hx hb hr (fun t ht hW => ⟨⟨(), rfl, trivial, by rw [ht]; exact hP, va_K.moved hW.alike hK, hD⟩, hS.F ht⟩) hS.2.2 dX1_drop_55
set_option maxRecDepth 100000 in
theorem kX1_X1_drop {p : Program} {l : Launch} {e : Env} {R : Room} {s : State} {m : MethodId} {args : Array Value} {below : List Frame} {meth : Method} {c : Code} {H : Heap} {locs : List Loc} {cells slots : Nat} {Q : State → Prop} {cc : ByteArray} {pc nL : Nat} {ls : Array Slot} {rest : List Value} {A : Nat → Prop} {H0 : Heap} {dC : Nat → ClassId} {dI : Nat → Nat → Nat} {cI : ClassId} {q : Nat → Nat} {en : Nat} {sr : Nat → Nat} {ln : Nat → Nat} {pr : Nat → Nat} (S : CallFix p m c cc nL s args lw_all RX1) (hls : ls.size = nL) (hR : 0 + 1 ≤ R.frames ∧ 8 + (2 + 11) + 0 ≤ R.locals) (hrest : (rest.map fun v => v.category).sum ≤ 8) (hc : cells ≤ R.cells ∧ slots ≤ R.slots) (hK : va_K (dC, dI) vwCl (mT cI) s) (hP : va_P (dC, dI) vwCl (mW cI q en sr ln pr) H) (hD : va_D A (mW cI q en sr ln pr)) (hS : va_S A H0 H locs) (hA : ∀ q : Nat, H0.size ≤ q → A q) (e2 : Nat) (ge : e2 < en) (gen : en ≤ 32) (hd : decode cc pc = .ok (.invokevirtual 39, 3)) (kk : ∀ (u : Unit) (H : Heap) (locs : List Loc), (True) → va_P (dC, dI) vwCl (mW cI q (en - 1) (va_up sr e2 (sr (en - 1))) (va_up ln e2 (ln (en - 1))) (va_up pr e2 (pr (en - 1)))) H → va_D A (mW cI q (en - 1) (va_up sr e2 (sr (en - 1))) (va_up ln e2 (ln (en - 1))) (va_up pr e2 (pr (en - 1)))) → va_S A H0 H locs → W p l e R s m args below meth c H locs cells slots Q (F0 m (pc + 3) ls (rest))) : W p l e R s m args below meth c H locs cells slots Q (F0 m pc ls (.int (nI e2) :: .ref (q 0) :: rest)) := by
  have hFc := va_free (wc := mW cI q en sr ln pr) hD hS hA [0, 1, 2, 3] rfl
  refine va_callv (va_runV (As := [.int (nI e2)]) (rest := rest) S (metX1_drop l dC dI cI q H.size en sr ln pr e2 ge gen) (cwV 1 S.2.2.2.2 (lw_V q205 q207 qs12 q18 q208) rfl rfl rfl (by decide +kernel) hR) ⟨fun a U g mk q => by obtain ⟨q0, q1, qP, qK, qD⟩ := q; exact ⟨q0, q1, qP, va_K.moved (u := U) (U := U.calling g mk a) (Vm.Alike.refl U.vm) qK, qD⟩, va_recv hK hP (ci := 1) (q0 := 0) rfl rfl, fun U hU hW => ⟨rfl, by rw [hU], by rw [hU]; exact hP, va_K.moved hW.alike hK, hD.weaken (fun _ _ _ _ => trivial)⟩⟩ rfl rfl hls rfl (lv_room hrest) hd hc) hS (fun q _ h => hFc q h) hFc (fun u t H1 locs1 ht hvm hw hB hz1 hk1 hS1 => ?_)
  obtain ⟨hP1, hK1, hD1⟩ := hB
  rw [ht] at hP1
  obtain ⟨hP2, hD2⟩ := va_join (wr := []) (w1 := mW cI q (en - 1) (va_up sr e2 (sr (en - 1))) (va_up ln e2 (ln (en - 1))) (va_up pr e2 (pr (en - 1)))) hP hD [0, 1, 2, 3] [] rfl rfl (by decide) (by decide) hk1 hFc hP1 hD1
  exact kk u H1 locs1 hw hP2 hD2 hS1
set_option maxHeartbeats 4000000 in
set_option maxRecDepth 100000 in
theorem metX1_allow (l : Launch) (dC : Nat → ClassId) (dI : Nat → Nat → Nat) (cI : ClassId) (q : Nat → Nat) (sz : Nat) (en : Nat) (sr : Nat → Nat) (ln : Nat → Nat) (pr : Nat → Nat) (x1 x2 x3 : Int32) (D : Nat → Nat → Option Nat) (gm : MOK en sr ln pr D) : Met l yX1_allow (ws_ yX1_allow cX1_allow 5 (some .int)) ({ frames := 3, cells := 0, slots := 0, locals := 67 }) (va_Pc [.ref (q 0), .int x1, .int x2, .int x3] (fun U => U.heap.size = sz ∧ va_P (dC, dI) vwCl (mW cI q en sr ln pr) U.heap ∧ va_K (dC, dI) vwCl (mT cI) U ∧ va_D (fun _ => True) (mW cI q en sr ln pr))) (va_Qi (fun (r : Int32) (u : Nat × (Nat → Nat) × (Nat → Nat) × (Nat → Nat)) => ∃ D2, MOK u.1 u.2.1 u.2.2.1 u.2.2.2 D2 ∧ ALS D x1 x2 x3 en u.1 D2 r) (fun (u : Nat × (Nat → Nat) × (Nat → Nat) × (Nat → Nat)) t => va_P (dC, dI) vwCl (mW cI q u.1 u.2.1 u.2.2.1 u.2.2.2) t.heap ∧ va_K (dC, dI) vwCl (mT cI) t ∧ va_D (va_A (mW cI q en sr ln pr) sz) (mW cI q u.1 u.2.1 u.2.2.1 u.2.2.2)) (va_A (mW cI q en sr ln pr) sz)) 0 0 (va_A (mW cI q en sr ln pr) sz) := by
  refine Met.ofW (cc := cX1_allow) (maxL := 5) (ret := (some .int)) (by decide) rfl ?_
  intro p e s m args below meth c s₁ B hml hv
  obtain ⟨rfl, hsz, hP, hK, hD0⟩ := hv
  have hx := B.exec
  have hb := B.bytes
  have hr := B.returns
  have hts := atoms_spec (ws := (ws_ yX1_allow cX1_allow 5 (some .int))) B.pre
  have hts : ∀ w ∈ lw_all, w.before _ s = true := fun w h => hts w (List.mem_cons_of_mem _ h)
  have hown : s.vm.findClass RX1 = some m.cls := findClass_of_methodNamed B.named
  have hlocks := B.notSynchronized
  subst hsz
  have hD := hD0.self (sz := s.heap.size)
  generalize hAe : va_A (mW cI q en sr ln pr) s.heap.size = A at hD ⊢
  have hA : ∀ q : Nat, s.heap.size ≤ q → A q := fun q h => by rw [← hAe]; exact Or.inr h
  have hS : va_S A s.heap s.heap [] := va_S.rf
  have hl := lv_entry ([.ref (q 0), .int x1, .int x2, .int x3]) (n := 5) (Nat.le_of_ble_eq_true rfl)
  rw [lg_entry_eq]
  generalize (lg_sl ([.ref (q 0), .int x1, .int x2, .int x3]) ++ List.replicate (5 - (lg_sl ([.ref (q 0), .int x1, .int x2, .int x3])).length) Slot.unset).toArray = ls at hl ⊢
  have hl : lv_has ls 5 [(0, .ref (q 0)), (1, .int x1), (2, .int x2), (3, .int x3)] := hl
  have S : CallFix p m c _ _ s _ lw_all _ := ⟨hx, hb, hml, hown, hts⟩
  have gen := gm.1
  refine lv_iload_n hx hb dX1_allow_0 rfl (lv_at hl 2 rfl) ?_
  refine kX1_X1_badLength S hl.1 ⟨Nat.le_of_ble_eq_true rfl, Nat.le_of_ble_eq_true rfl⟩ (Nat.le_of_ble_eq_true rfl) ⟨Nat.zero_le _, Nat.zero_le _⟩ x2 dX1_allow_1 ?_
  refine r_ifneB (b := decide (x2 < 0 ∨ nI 16 < x2)) (tgt := 17) hx hb dX1_allow_4 (by decide) (fun h0 => ?_) (fun h0 => ?_)
  · refine lv_iconst (v := oI none) hx hb dX1_allow_17 (by decide) ?_
    exact W.iret (v := oI none) hx hb hr (fun t ht hW => ⟨⟨oI none, (en, sr, ln, pr), rfl, ⟨D, gm, als_bad (by rcases of_decide_eq_true h0 with z | z; exact Or.inl z; exact Or.inr (Or.inl z))⟩, by rw [ht]; exact hP, va_K.moved hW.alike hK, hD⟩, hS.F ht⟩) hS.2.2 dX1_allow_18
  · have h0 := of_decide_eq_false h0
    have h1 : ¬ x2 < 0 := fun z => h0 (Or.inl z)
    have h2 : ¬ nI 16 < x2 := fun z => h0 (Or.inr z)
    refine lv_iload_n hx hb dX1_allow_7 rfl (lv_at hl 3 rfl) ?_
    refine lv_if_lt (tgt := 17) hx hb dX1_allow_8 (by decide) (fun h3 => ?_) (fun h3 => ?_)
    · refine lv_iconst (v := oI none) hx hb dX1_allow_17 (by decide) ?_
      exact W.iret (v := oI none) hx hb hr (fun t ht hW => ⟨⟨oI none, (en, sr, ln, pr), rfl, ⟨D, gm, als_bad (Or.inr (Or.inr (Or.inl h3)))⟩, by rw [ht]; exact hP, va_K.moved hW.alike hK, hD⟩, hS.F ht⟩) hS.2.2 dX1_allow_18
    · refine lv_iload_n hx hb dX1_allow_11 rfl (lv_at hl 3 rfl) ?_
      refine lv_bipush (v := nI 7) hx hb dX1_allow_12 (by decide) ?_
      refine lv_icmp_le (tgt := 19) hx hb dX1_allow_14 (by decide) (fun h4 => ?_) (fun h4 => ?_)
      · obtain ⟨k, gk, ek⟩ := nI_of2 (M := nI 16) (n := 16) (by decide) h1 (nlt_le h2)
        obtain ⟨y, gy, ey⟩ := nI_of2 (M := nI 7) (n := 7) (by decide) h3 h4
        subst ek; subst ey
        obtain ⟨a, ha1, ea⟩ := and16_I x1
        have gq : ct a k < 65536 := ct_lt k ha1
        have hl : lv_has ls 5 [(0, .ref (q 0)), (1, .int x1), (2, .int (nI k)), (3, .int (nI y))] := hl
        refine lv_aload_n hx hb dX1_allow_19 rfl (lv_at hl 0 rfl) ?_
        refine lv_iload_n hx hb dX1_allow_20 rfl (lv_at hl 1 rfl) ?_
        refine lv_iload_n hx hb dX1_allow_21 rfl (lv_at hl 2 rfl) ?_
        refine kX1_X1_find S hl.1 ⟨Nat.le_of_ble_eq_true rfl, Nat.le_of_ble_eq_true rfl⟩ (Nat.le_of_ble_eq_true rfl) ⟨Nat.zero_le _, Nat.zero_le _⟩ hK hP x1 a k ea ha1 gk D gm dX1_allow_22 (fun r2 ⟨w, hr2, w1, w2⟩ => ?_)
        subst hr2
        refine lv_istore (lv' := [(4, .int (oI w)), (0, .ref (q 0)), (1, .int x1), (2, .int (nI k)), (3, .int (nI y))]) hx hb dX1_allow_25 hl (by decide) rfl (fun ls hl => ?_)
        refine lv_iload hx hb dX1_allow_27 (lv_at hl 0 rfl) ?_
        refine r_ifgeO (x := w) (tgt := 43) hx hb (fun e he => by have := (w1 e he).1; omega) dX1_allow_29 (by decide) (fun e4 h5 => ?_) (fun h5 => ?_)
        · subst h5
          obtain ⟨e1, e2, e3⟩ := w1 e4 rfl
          have hDe := mo_D gm e1
          rw [e2, e3] at hDe
          have hl : lv_has ls 5 [(4, .int (nI e4)), (0, .ref (q 0)), (1, .int x1), (2, .int (nI k)), (3, .int (nI y))] := hl
          refine lv_iload hx hb dX1_allow_43 (lv_at hl 0 rfl) ?_
          refine lv_if_ge (tgt := 84) hx hb dX1_allow_45 (by decide) (fun _ => ?_) (fun z => absurd (nI_pos' (by omega)) z)
          refine lv_aload_n hx hb dX1_allow_84 rfl (lv_at hl 1 rfl) ?_
          refine gX1_peers hx hb hts hown hK hP dX1_allow_85 ?_
          refine lv_iload hx hb dX1_allow_88 (lv_at hl 0 rfl) ?_
          refine lv_iload_n hx hb dX1_allow_90 rfl (lv_at hl 4 rfl) ?_
          refine wX1_peers (n := e4) (v := y) hx hb hK hP hD hS rfl (by omega) dX1_allow_91 (fun H locs hP hD hS => ?_)
          refine lv_aload_n hx hb dX1_allow_92 rfl (lv_at hl 1 rfl) ?_
          refine gX1_entries hx hb hts hown hK hP dX1_allow_93 ?_
          have hz := mok_set gm e1 (show y < 8 by omega)
          rw [e2, e3] at hz
          exact W.iret (v := nI en) hx hb hr (fun t ht hW => ⟨⟨nI en, (en, sr, ln, (va_up pr e4 y)), rfl, ⟨_, hz, als_good gk (by omega) ea ha1 (fun z => by rw [hDe] at z; cases z.1) (fun _ => ⟨rfl, rfl⟩)⟩, by rw [ht]; exact hP, va_K.moved hW.alike hK, hD⟩, hS.F ht⟩) hS.2.2 dX1_allow_96
        · subst h5
          have hDn := mo_none gm (w2 rfl)
          have hl : lv_has ls 5 [(4, .int (oI none)), (0, .ref (q 0)), (1, .int x1), (2, .int (nI k)), (3, .int (nI y))] := hl
          refine lv_aload_n hx hb dX1_allow_32 rfl (lv_at hl 1 rfl) ?_
          refine gX1_entries hx hb hts hown hK hP dX1_allow_33 ?_
          refine lv_bipush (v := nI 32) hx hb dX1_allow_36 (by decide) ?_
          refine r_ne (a := en) (b := 32) (tgt := 43) hx hb (by omega) (by omega) dX1_allow_38 (by decide) (fun h6 => ?_) (fun h6 => ?_)
          · refine lv_iload hx hb dX1_allow_43 (lv_at hl 0 rfl) ?_
            refine r_ifgeO (x := none) (tgt := 84) hx hb (fun w hw => by cases hw) dX1_allow_45 (by decide) (fun w7 h7 => ?_) (fun h7 => ?_)
            · cases h7
            · refine lv_aload_n hx hb dX1_allow_48 rfl (lv_at hl 1 rfl) ?_
              refine gX1_entries hx hb hts hown hK hP dX1_allow_49 ?_
              refine lv_istore (lv' := [(4, .int (nI en)), (0, .ref (q 0)), (1, .int x1), (2, .int (nI k)), (3, .int (nI y))]) hx hb dX1_allow_52 hl (by decide) rfl (fun ls hl => ?_)
              refine lv_aload_n hx hb dX1_allow_54 rfl (lv_at hl 1 rfl) ?_
              refine gX1_starts hx hb hts hown hK hP dX1_allow_55 ?_
              refine lv_iload hx hb dX1_allow_58 (lv_at hl 0 rfl) ?_
              refine lv_iload_n hx hb dX1_allow_60 rfl (lv_at hl 2 rfl) ?_
              refine lv_iload_n hx hb dX1_allow_61 rfl (lv_at hl 3 rfl) ?_
              refine kX1_X1_start S hl.1 ⟨Nat.le_of_ble_eq_true rfl, Nat.le_of_ble_eq_true rfl⟩ (Nat.le_of_ble_eq_true rfl) ⟨Nat.zero_le _, Nat.zero_le _⟩ x1 a k ea ha1 gk dX1_allow_62 ?_
              refine wX1_starts (n := en) (v := ct a k) hx hb hK hP hD hS rfl (by omega) dX1_allow_65 (fun H locs hP hD hS => ?_)
              refine lv_aload_n hx hb dX1_allow_66 rfl (lv_at hl 1 rfl) ?_
              refine gX1_lengths hx hb hts hown hK hP dX1_allow_67 ?_
              refine lv_iload hx hb dX1_allow_70 (lv_at hl 0 rfl) ?_
              refine lv_iload_n hx hb dX1_allow_72 rfl (lv_at hl 3 rfl) ?_
              refine wX1_lengths (n := en) (v := k) hx hb hK hP hD hS rfl (by omega) dX1_allow_73 (fun H locs hP hD hS => ?_)
              refine lv_aload_n hx hb dX1_allow_74 rfl (lv_at hl 1 rfl) ?_
              refine lv_dup hx hb dX1_allow_75 rfl ?_
              refine gX1_entries hx hb hts hown hK hP dX1_allow_76 ?_
              refine lv_iconst (v := nI 1) hx hb dX1_allow_79 (by decide) ?_
              refine r_iadd (a := en) (b := 1) hx hb dX1_allow_80 ?_
              refine pX1_entries (v := en + 1) hx hb hts hown hK hP hD hS dX1_allow_81 (fun H locs hP hD hS => ?_)
              refine lv_aload_n hx hb dX1_allow_84 rfl (lv_at hl 1 rfl) ?_
              refine gX1_peers hx hb hts hown hK hP dX1_allow_85 ?_
              refine lv_iload hx hb dX1_allow_88 (lv_at hl 0 rfl) ?_
              refine lv_iload_n hx hb dX1_allow_90 rfl (lv_at hl 4 rfl) ?_
              refine wX1_peers (n := en) (v := y) hx hb hK hP hD hS rfl (by omega) dX1_allow_91 (fun H locs hP hD hS => ?_)
              refine lv_aload_n hx hb dX1_allow_92 rfl (lv_at hl 1 rfl) ?_
              refine gX1_entries hx hb hts hown hK hP dX1_allow_93 ?_
              exact W.iret (v := nI (en + 1)) hx hb hr (fun t ht hW => ⟨⟨nI (en + 1), (en + 1, (va_up sr en (ct a k)), (va_up ln en k), (va_up pr en y)), rfl, ⟨_, mok_add gm (by omega) (show y < 8 by omega) gq gk (ct_ct a (Nat.le_refl k)) (w2 rfl), als_good gk (by omega) ea ha1 (fun z => absurd z.2 h6) (fun _ => ⟨rfl, rfl⟩)⟩, by rw [ht]; exact hP, va_K.moved hW.alike hK, hD⟩, hS.F ht⟩) hS.2.2 dX1_allow_96
          · refine lv_iconst (v := oI none) hx hb dX1_allow_41 (by decide) ?_
            exact W.iret (v := oI none) hx hb hr (fun t ht hW => ⟨⟨oI none, (en, sr, ln, pr), rfl, ⟨D, gm, als_good gk (by omega) ea ha1 (fun _ => ⟨rfl, rfl⟩) (fun z => absurd ⟨hDn, h6⟩ z)⟩, by rw [ht]; exact hP, va_K.moved hW.alike hK, hD⟩, hS.F ht⟩) hS.2.2 dX1_allow_42
      · refine lv_iconst (v := oI none) hx hb dX1_allow_17 (by decide) ?_
        exact W.iret (v := oI none) hx hb hr (fun t ht hW => ⟨⟨oI none, (en, sr, ln, pr), rfl, ⟨D, gm, als_bad (Or.inr (Or.inr (Or.inr (nle_lt h4))))⟩, by rw [ht]; exact hP, va_K.moved hW.alike hK, hD⟩, hS.F ht⟩) hS.2.2 dX1_allow_18
set_option maxHeartbeats 4000000 in
set_option maxRecDepth 100000 in
theorem metX1_deny (l : Launch) (dC : Nat → ClassId) (dI : Nat → Nat → Nat) (cI : ClassId) (q : Nat → Nat) (sz : Nat) (en : Nat) (sr : Nat → Nat) (ln : Nat → Nat) (pr : Nat → Nat) (x1 x2 : Int32) (D : Nat → Nat → Option Nat) (gm : MOK en sr ln pr D) : Met l yX1_deny (ws_ yX1_deny cX1_deny 4 (some .int)) ({ frames := 3, cells := 0, slots := 0, locals := 67 }) (va_Pc [.ref (q 0), .int x1, .int x2] (fun U => U.heap.size = sz ∧ va_P (dC, dI) vwCl (mW cI q en sr ln pr) U.heap ∧ va_K (dC, dI) vwCl (mT cI) U ∧ va_D (fun _ => True) (mW cI q en sr ln pr))) (va_Qi (fun (r : Int32) (u : Nat × (Nat → Nat) × (Nat → Nat) × (Nat → Nat)) => ∃ D2, MOK u.1 u.2.1 u.2.2.1 u.2.2.2 D2 ∧ DNS D x1 x2 u.1 D2 r) (fun (u : Nat × (Nat → Nat) × (Nat → Nat) × (Nat → Nat)) t => va_P (dC, dI) vwCl (mW cI q u.1 u.2.1 u.2.2.1 u.2.2.2) t.heap ∧ va_K (dC, dI) vwCl (mT cI) t ∧ va_D (va_A (mW cI q en sr ln pr) sz) (mW cI q u.1 u.2.1 u.2.2.1 u.2.2.2)) (va_A (mW cI q en sr ln pr) sz)) 0 0 (va_A (mW cI q en sr ln pr) sz) := by
  refine Met.ofW (cc := cX1_deny) (maxL := 4) (ret := (some .int)) (by decide) rfl ?_
  intro p e s m args below meth c s₁ B hml hv
  obtain ⟨rfl, hsz, hP, hK, hD0⟩ := hv
  have hx := B.exec
  have hb := B.bytes
  have hr := B.returns
  have hts := atoms_spec (ws := (ws_ yX1_deny cX1_deny 4 (some .int))) B.pre
  have hts : ∀ w ∈ lw_all, w.before _ s = true := fun w h => hts w (List.mem_cons_of_mem _ h)
  have hown : s.vm.findClass RX1 = some m.cls := findClass_of_methodNamed B.named
  have hlocks := B.notSynchronized
  subst hsz
  have hD := hD0.self (sz := s.heap.size)
  generalize hAe : va_A (mW cI q en sr ln pr) s.heap.size = A at hD ⊢
  have hA : ∀ q : Nat, s.heap.size ≤ q → A q := fun q h => by rw [← hAe]; exact Or.inr h
  have hS : va_S A s.heap s.heap [] := va_S.rf
  have hl := lv_entry ([.ref (q 0), .int x1, .int x2]) (n := 4) (Nat.le_of_ble_eq_true rfl)
  rw [lg_entry_eq]
  generalize (lg_sl ([.ref (q 0), .int x1, .int x2]) ++ List.replicate (4 - (lg_sl ([.ref (q 0), .int x1, .int x2])).length) Slot.unset).toArray = ls at hl ⊢
  have hl : lv_has ls 4 [(0, .ref (q 0)), (1, .int x1), (2, .int x2)] := hl
  have S : CallFix p m c _ _ s _ lw_all _ := ⟨hx, hb, hml, hown, hts⟩
  have gen := gm.1
  refine lv_iload_n hx hb dX1_deny_0 rfl (lv_at hl 2 rfl) ?_
  refine kX1_X1_badLength S hl.1 ⟨Nat.le_of_ble_eq_true rfl, Nat.le_of_ble_eq_true rfl⟩ (Nat.le_of_ble_eq_true rfl) ⟨Nat.zero_le _, Nat.zero_le _⟩ x2 dX1_deny_1 ?_
  refine r_ifeqB (b := decide (x2 < 0 ∨ nI 16 < x2)) (tgt := 11) hx hb dX1_deny_4 (by decide) (fun h0 => ?_) (fun h0 => ?_)
  · have h0 := of_decide_eq_false h0
    obtain ⟨k, gk, ek⟩ := nI_of2 (M := nI 16) (n := 16) (by decide) (fun z => h0 (Or.inl z)) (nlt_le (fun z => h0 (Or.inr z)))
    subst ek
    obtain ⟨a, ha1, ea⟩ := and16_I x1
    have hl : lv_has ls 4 [(0, .ref (q 0)), (1, .int x1), (2, .int (nI k))] := hl
    refine lv_aload_n hx hb dX1_deny_11 rfl (lv_at hl 0 rfl) ?_
    refine lv_iload_n hx hb dX1_deny_12 rfl (lv_at hl 1 rfl) ?_
    refine lv_iload_n hx hb dX1_deny_13 rfl (lv_at hl 2 rfl) ?_
    refine kX1_X1_find S hl.1 ⟨Nat.le_of_ble_eq_true rfl, Nat.le_of_ble_eq_true rfl⟩ (Nat.le_of_ble_eq_true rfl) ⟨Nat.zero_le _, Nat.zero_le _⟩ hK hP x1 a k ea ha1 gk D gm dX1_deny_14 (fun r2 ⟨w, hr2, w1, w2⟩ => ?_)
    subst hr2
    refine lv_istore_n (lv' := [(3, .int (oI w)), (0, .ref (q 0)), (1, .int x1), (2, .int (nI k))]) hx hb dX1_deny_17 rfl hl (by decide) rfl (fun ls hl => ?_)
    refine lv_iload_n hx hb dX1_deny_18 rfl (lv_at hl 0 rfl) ?_
    refine r_ifgeO (x := w) (tgt := 24) hx hb (fun e he => by have := (w1 e he).1; omega) dX1_deny_19 (by decide) (fun e4 h5 => ?_) (fun h5 => ?_)
    · subst h5
      obtain ⟨e1, e2, e3⟩ := w1 e4 rfl
      have hDe := mo_D gm e1
      rw [e2, e3] at hDe
      have hl : lv_has ls 4 [(3, .int (nI e4)), (0, .ref (q 0)), (1, .int x1), (2, .int (nI k))] := hl
      refine lv_aload_n hx hb dX1_deny_24 rfl (lv_at hl 1 rfl) ?_
      refine lv_iload_n hx hb dX1_deny_25 rfl (lv_at hl 0 rfl) ?_
      refine kX1_X1_drop S hl.1 ⟨Nat.le_of_ble_eq_true rfl, Nat.le_of_ble_eq_true rfl⟩ (Nat.le_of_ble_eq_true rfl) ⟨Nat.zero_le _, Nat.zero_le _⟩ hK hP hD hS hA e4 e1 gen dX1_deny_26 (fun u H locs hw hP hD hS => ?_)
      refine lv_aload_n hx hb dX1_deny_29 rfl (lv_at hl 1 rfl) ?_
      refine gX1_entries hx hb hts hown hK hP dX1_deny_30 ?_
      have hz := mok_drop gm e1
      rw [e2, e3] at hz
      exact W.iret (v := nI (en - 1)) hx hb hr (fun t ht hW => ⟨⟨nI (en - 1), (en - 1, va_up sr e4 (sr (en - 1)), va_up ln e4 (ln (en - 1)), va_up pr e4 (pr (en - 1))), rfl, ⟨_, hz, dns_good gk ea ha1 (fun z => by rw [hDe] at z; cases z) (fun _ => ⟨rfl, rfl⟩)⟩, by rw [ht]; exact hP, va_K.moved hW.alike hK, hD⟩, hS.F ht⟩) hS.2.2 dX1_deny_33
    · refine lv_iconst (v := oI none) hx hb dX1_deny_22 (by decide) ?_
      exact W.iret (v := oI none) hx hb hr (fun t ht hW => ⟨⟨oI none, (en, sr, ln, pr), rfl, ⟨D, gm, dns_good gk ea ha1 (fun _ => ⟨rfl, rfl⟩) (fun z => absurd (mo_none gm (w2 h5)) z)⟩, by rw [ht]; exact hP, va_K.moved hW.alike hK, hD⟩, hS.F ht⟩) hS.2.2 dX1_deny_23
  · refine lv_iconst (v := oI none) hx hb dX1_deny_7 (by decide) ?_
    refine lv_goto (tgt := 17) hx hb dX1_deny_8 (by decide) ?_
    refine lv_istore_n (lv' := [(3, .int (oI none)), (0, .ref (q 0)), (1, .int x1), (2, .int x2)]) hx hb dX1_deny_17 rfl hl (by decide) rfl (fun ls hl => ?_)
    refine lv_iload_n hx hb dX1_deny_18 rfl (lv_at hl 0 rfl) ?_
    refine r_ifgeO (x := none) (tgt := 24) hx hb (fun w hw => by cases hw) dX1_deny_19 (by decide) (fun w5 h5 => ?_) (fun h5 => ?_)
    · cases h5
    · refine lv_iconst (v := oI none) hx hb dX1_deny_22 (by decide) ?_
      exact W.iret (v := oI none) hx hb hr (fun t ht hW => ⟨⟨oI none, (en, sr, ln, pr), rfl, ⟨D, gm, dns_bad (of_decide_eq_true h0)⟩, by rw [ht]; exact hP, va_K.moved hW.alike hK, hD⟩, hS.F ht⟩) hS.2.2 dX1_deny_23
set_option maxHeartbeats 4000000 in
set_option maxRecDepth 100000 in
theorem metX1_forget (l : Launch) (dC : Nat → ClassId) (dI : Nat → Nat → Nat) (cI : ClassId) (q : Nat → Nat) (sz : Nat) (en : Nat) (sr : Nat → Nat) (ln : Nat → Nat) (pr : Nat → Nat) (x1 : Int32) (D : Nat → Nat → Option Nat) (gm : MOK en sr ln pr D) : Met l yX1_forget (ws_ yX1_forget cX1_forget 4 (some .int)) ({ frames := 1, cells := 0, slots := 0, locals := 21 }) (va_Pc [.ref (q 0), .int x1] (fun U => U.heap.size = sz ∧ va_P (dC, dI) vwCl (mW cI q en sr ln pr) U.heap ∧ va_K (dC, dI) vwCl (mT cI) U ∧ va_D (fun _ => True) (mW cI q en sr ln pr))) (va_Qi (fun (r : Int32) (u : Nat × (Nat → Nat) × (Nat → Nat) × (Nat → Nat)) => ∃ D2, MOK u.1 u.2.1 u.2.2.1 u.2.2.2 D2 ∧ FGS D x1 en u.1 D2 r) (fun (u : Nat × (Nat → Nat) × (Nat → Nat) × (Nat → Nat)) t => va_P (dC, dI) vwCl (mW cI q u.1 u.2.1 u.2.2.1 u.2.2.2) t.heap ∧ va_K (dC, dI) vwCl (mT cI) t ∧ va_D (va_A (mW cI q en sr ln pr) sz) (mW cI q u.1 u.2.1 u.2.2.1 u.2.2.2)) (va_A (mW cI q en sr ln pr) sz)) 0 0 (va_A (mW cI q en sr ln pr) sz) := by
  refine Met.ofW (cc := cX1_forget) (maxL := 4) (ret := (some .int)) (by decide) rfl ?_
  intro p e s m args below meth c s₁ B hml hv
  obtain ⟨rfl, hsz, hP, hK, hD0⟩ := hv
  have hx := B.exec
  have hb := B.bytes
  have hr := B.returns
  have hts := atoms_spec (ws := (ws_ yX1_forget cX1_forget 4 (some .int))) B.pre
  have hts : ∀ w ∈ lw_all, w.before _ s = true := fun w h => hts w (List.mem_cons_of_mem _ h)
  have hown : s.vm.findClass RX1 = some m.cls := findClass_of_methodNamed B.named
  have hlocks := B.notSynchronized
  subst hsz
  have hD := hD0.self (sz := s.heap.size)
  generalize hAe : va_A (mW cI q en sr ln pr) s.heap.size = A at hD ⊢
  have hA : ∀ q : Nat, s.heap.size ≤ q → A q := fun q h => by rw [← hAe]; exact Or.inr h
  have hS : va_S A s.heap s.heap [] := va_S.rf
  have hl := lv_entry ([.ref (q 0), .int x1]) (n := 4) (Nat.le_of_ble_eq_true rfl)
  rw [lg_entry_eq]
  generalize (lg_sl ([.ref (q 0), .int x1]) ++ List.replicate (4 - (lg_sl ([.ref (q 0), .int x1])).length) Slot.unset).toArray = ls at hl ⊢
  have hl : lv_has ls 4 [(0, .ref (q 0)), (1, .int x1)] := hl
  have S : CallFix p m c _ _ s _ lw_all _ := ⟨hx, hb, hml, hown, hts⟩
  have gen := gm.1
  refine lv_iload_n hx hb dX1_forget_0 rfl (lv_at hl 1 rfl) ?_
  refine lv_if_lt (tgt := 10) hx hb dX1_forget_1 (by decide) (fun h1 => ?_) (fun h1 => ?_)
  · refine lv_iconst (v := oI none) hx hb dX1_forget_10 (by decide) ?_
    exact W.iret (v := oI none) hx hb hr (fun t ht hW => ⟨⟨oI none, (en, sr, ln, pr), rfl, ⟨D, gm, fgs_bad (Or.inl h1)⟩, by rw [ht]; exact hP, va_K.moved hW.alike hK, hD⟩, hS.F ht⟩) hS.2.2 dX1_forget_11
  · refine lv_iload_n hx hb dX1_forget_4 rfl (lv_at hl 1 rfl) ?_
    refine lv_bipush (v := nI 7) hx hb dX1_forget_5 (by decide) ?_
    refine lv_icmp_le (tgt := 12) hx hb dX1_forget_7 (by decide) (fun h2 => ?_) (fun h2 => ?_)
    · obtain ⟨y, gy, ey⟩ := nI_of2 (M := nI 7) (n := 7) (by decide) h1 h2
      subst ey
      have hl : lv_has ls 4 [(0, .ref (q 0)), (1, .int (nI y))] := hl
      refine lv_aload_n hx hb dX1_forget_12 rfl (lv_at hl 0 rfl) ?_
      refine gX1_entries hx hb hts hown hK hP dX1_forget_13 ?_
      refine lv_istore_n (lv' := [(2, .int (nI en)), (0, .ref (q 0)), (1, .int (nI y))]) hx hb dX1_forget_16 rfl hl (by decide) rfl (fun ls hl => ?_)
      refine lv_aload_n hx hb dX1_forget_17 rfl (lv_at hl 1 rfl) ?_
      refine gX1_entries hx hb hts hown hK hP dX1_forget_18 ?_
      refine lv_iconst (v := nI 1) hx hb dX1_forget_21 (by decide) ?_
      refine lv_isub hx hb dX1_forget_22 ?_
      refine r_top (y := oI (pr1 en)) (sub_pr1 en) ?_
      refine lv_istore_n (lv' := [(3, .int (oI (pr1 en))), (2, .int (nI en)), (0, .ref (q 0)), (1, .int (nI y))]) hx hb dX1_forget_23 rfl hl (by decide) rfl (fun ls hl => ?_)
      refine r_loopH (σ := Nat × Nat × (Nat → Nat) × (Nat → Nat) × (Nat → Nat) × (Nat → Nat → Option Nat)) (nL := 4) (fun | (k, en2, sr2, ln2, pr2, D2) => [(0, .ref (q 0)), (1, .int (nI y)), (2, .int (nI en)), (3, .int (oI (pr1 k)))]) (fun | (k, en2, sr2, ln2, pr2, D2) => mW cI q en2 sr2 ln2 pr2) (fun | (k, en2, sr2, ln2, pr2, D2) => MOK en2 sr2 ln2 pr2 D2 ∧ k ≤ en2 ∧ en2 ≤ en ∧ (∀ e, k ≤ e → e < en2 → pr2 e ≠ y) ∧ FGI D D2 y) (fun | (k, en2, sr2, ln2, pr2, D2) => k) (fun x ls H locs hI hl hP hD hS ih => ?_) (en, en, sr, ln, pr, D) ⟨gm, Nat.le_refl _, Nat.le_refl _, fun e h1 h2 => absurd h1 (by omega), fgi_0 y⟩ (lv_sub hl [2, 3, 1, 0] rfl) hP hD hS
      obtain ⟨k, en2, sr2, ln2, pr2, D2⟩ := x
      have hl : lv_has ls 4 [(0, .ref (q 0)), (1, .int (nI y)), (2, .int (nI en)), (3, .int (oI (pr1 k)))] := hl
      have hP : va_P (dC, dI) vwCl (mW cI q en2 sr2 ln2 pr2) H := hP
      have hD : va_D A (mW cI q en2 sr2 ln2 pr2) := hD
      have hI : MOK en2 sr2 ln2 pr2 D2 ∧ k ≤ en2 ∧ en2 ≤ en ∧ (∀ e, k ≤ e → e < en2 → pr2 e ≠ y) ∧ FGI D D2 y := hI
      obtain ⟨t2, i1, i2, i3, i4⟩ := hI
      have gen2 := t2.1
      refine lv_iload_n hx hb dX1_forget_24 rfl (lv_at hl 3 rfl) ?_
      refine r_ifltO (x := pr1 k) (tgt := 49) hx hb (fun e he => by
        cases k with
        | zero => cases he
        | succ k => cases he; omega) dX1_forget_25 (by decide) (fun h3 => ?_) (fun e4 h3 => ?_)
      · have hk : k = 0 := by
          cases k with
          | zero => rfl
          | succ k => cases h3
        refine lv_iload_n hx hb dX1_forget_49 rfl (lv_at hl 2 rfl) ?_
        refine lv_aload_n hx hb dX1_forget_50 rfl (lv_at hl 0 rfl) ?_
        refine gX1_entries hx hb hts hown hK hP dX1_forget_51 ?_
        refine r_isub (a := en) (b := en2) hx hb (by omega) dX1_forget_54 ?_
        exact W.iret (v := nI (en - en2)) hx hb hr (fun t ht hW => ⟨⟨nI (en - en2), (en2, sr2, ln2, pr2), rfl, ⟨D2, t2, fgs_good (by omega) (fgi_end i4 (fun pp l z => by
          obtain ⟨e, he, -, -, e3⟩ := (t2.2.2.2 pp l y).mp z
          exact i3 e (by omega) he e3)) (by show en2 ≤ en; omega) rfl⟩, by rw [ht]; exact hP, va_K.moved hW.alike hK, hD⟩, hS.F ht⟩) hS.2.2 dX1_forget_55
      · have hk : k = e4 + 1 := by
          cases k with
          | zero => cases h3
          | succ k => cases h3; rfl
        subst hk
        have e6 : e4 < en2 := i1
        obtain ⟨j1, j2, j3, j4⟩ := t2.2.1 e4 e6
        have hl : lv_has ls 4 [(0, .ref (q 0)), (1, .int (nI y)), (2, .int (nI en)), (3, .int (nI e4))] := hl
        refine lv_aload_n hx hb dX1_forget_28 rfl (lv_at hl 0 rfl) ?_
        refine gX1_peers hx hb hts hown hK hP dX1_forget_29 ?_
        refine lv_iload_n hx hb dX1_forget_32 rfl (lv_at hl 3 rfl) ?_
        refine rX1_peers (n := e4) hx hb hK hP rfl (by omega) dX1_forget_33 ?_
        refine lv_iload_n hx hb dX1_forget_34 rfl (lv_at hl 1 rfl) ?_
        refine r_ne (a := pr2 e4) (b := y) (tgt := 43) hx hb (by omega) (by omega) dX1_forget_35 (by decide) (fun h5 => ?_) (fun h5 => ?_)
        · refine lv_iinc (v := oI (pr1 e4)) (lv' := [(3, .int (oI (pr1 e4))), (0, .ref (q 0)), (1, .int (nI y)), (2, .int (nI en))]) hx hb dX1_forget_43 hl (k := 3) rfl (dec_pr1 e4) (by decide) rfl (fun ls hl => ?_)
          refine lv_goto (tgt := 24) hx hb dX1_forget_46 (by decide) ?_
          exact ih (e4, en2, sr2, ln2, pr2, D2) ls H locs ⟨t2, by omega, i2, (fun e he hu => by
            rcases Nat.lt_or_ge e4 e with z | z
            · exact i3 e (by omega) hu
            · rw [show e = e4 by omega]; exact h5), i4⟩ (by show e4 < e4 + 1; omega) (lv_sub hl [1, 2, 3, 0] rfl) hP hD hS
        · refine lv_aload_n hx hb dX1_forget_38 rfl (lv_at hl 0 rfl) ?_
          refine lv_iload_n hx hb dX1_forget_39 rfl (lv_at hl 3 rfl) ?_
          refine kX1_X1_drop S hl.1 ⟨Nat.le_of_ble_eq_true rfl, Nat.le_of_ble_eq_true rfl⟩ (Nat.le_of_ble_eq_true rfl) ⟨Nat.zero_le _, Nat.zero_le _⟩ hK hP hD hS hA e4 e6 gen2 dX1_forget_40 (fun u H locs hw hP hD hS => ?_)
          refine lv_iinc (v := oI (pr1 e4)) (lv' := [(3, .int (oI (pr1 e4))), (0, .ref (q 0)), (1, .int (nI y)), (2, .int (nI en))]) hx hb dX1_forget_43 hl (k := 3) rfl (dec_pr1 e4) (by decide) rfl (fun ls hl => ?_)
          refine lv_goto (tgt := 24) hx hb dX1_forget_46 (by decide) ?_
          exact ih (e4, en2 - 1, va_up sr2 e4 (sr2 (en2 - 1)), va_up ln2 e4 (ln2 (en2 - 1)), va_up pr2 e4 (pr2 (en2 - 1)), ddel D2 (sr2 e4) (ln2 e4)) ls H locs ⟨mok_drop t2 e6, by omega, by omega, (fun e he hu => by
            by_cases z : e = e4
            · rw [z, up_s]; exact i3 (en2 - 1) (by omega) (by omega)
            · rw [up_n _ _ z]; exact i3 e (by omega) (by omega)), fgi_del i4 (by rw [mo_D t2 e6, h5])⟩ (by show e4 < e4 + 1; omega) (lv_sub hl [1, 2, 3, 0] rfl) hP hD hS
    · refine lv_iconst (v := oI none) hx hb dX1_forget_10 (by decide) ?_
      exact W.iret (v := oI none) hx hb hr (fun t ht hW => ⟨⟨oI none, (en, sr, ln, pr), rfl, ⟨D, gm, fgs_bad (Or.inr (nle_lt h2))⟩, by rw [ht]; exact hP, va_K.moved hW.alike hK, hD⟩, hS.F ht⟩) hS.2.2 dX1_forget_11
set_option maxHeartbeats 4000000 in
set_option maxRecDepth 100000 in
theorem metX1_next (l : Launch) (dC : Nat → ClassId) (dI : Nat → Nat → Nat) (cI : ClassId) (q : Nat → Nat) (en : Nat) (sr : Nat → Nat) (ln : Nat → Nat) (pr : Nat → Nat) (x1 x2 : Int32) (D : Nat → Nat → Option Nat) (gm : MOK en sr ln pr D) : Met l yX1_next (ws_ yX1_next cX1_next 8 (some .int)) ({ frames := 4, cells := 0, slots := 0, locals := 90 }) (va_Pc [.ref (q 0), .int x1, .int x2] (fun U => va_P (dC, dI) vwCl (mW cI q en sr ln pr) U.heap ∧ va_K (dC, dI) vwCl (mT cI) U)) (vp_Si (fun r => NXS D x1 x2 r)) 0 0 (fun _ => False) := by
  refine Met.ofW (cc := cX1_next) (maxL := 8) (ret := (some .int)) (by decide) rfl ?_
  intro p e s m args below meth c s₁ B hml hv
  obtain ⟨rfl, hP, hK⟩ := hv
  have hx := B.exec
  have hb := B.bytes
  have hr := B.returns
  have hts := atoms_spec (ws := (ws_ yX1_next cX1_next 8 (some .int))) B.pre
  have hts : ∀ w ∈ lw_all, w.before _ s = true := fun w h => hts w (List.mem_cons_of_mem _ h)
  have hown : s.vm.findClass RX1 = some m.cls := findClass_of_methodNamed B.named
  have hlocks := B.notSynchronized
  have hl := lv_entry ([.ref (q 0), .int x1, .int x2]) (n := 8) (Nat.le_of_ble_eq_true rfl)
  rw [lg_entry_eq]
  generalize (lg_sl ([.ref (q 0), .int x1, .int x2]) ++ List.replicate (8 - (lg_sl ([.ref (q 0), .int x1, .int x2])).length) Slot.unset).toArray = ls at hl ⊢
  have hl : lv_has ls 8 [(0, .ref (q 0)), (1, .int x1), (2, .int x2)] := hl
  have S : CallFix p m c _ _ s _ lw_all _ := ⟨hx, hb, hml, hown, hts⟩
  have gen := gm.1
  have gob : ∀ a n, ownD D a = some n → n < 2 ^ 31 := fun a n hn => by have := mo_lt gm hn; omega
  refine lv_iload_n hx hb dX1_next_0 rfl (lv_at hl 1 rfl) ?_
  refine lv_iconst (v := oI none) hx hb dX1_next_1 (by decide) ?_
  refine lv_icmp_lt (tgt := 11) hx hb dX1_next_2 (by decide) (fun h => ?_) (fun h => ?_)
  · refine lv_bipush (v := (-2)) hx hb dX1_next_11 (by decide) ?_
    exact W.iret (v := (-2)) hx hb hr (fun t ht hW => ⟨(-2), rfl, ⟨fun _ => rfl, fun y hy hyb => absurd h (by rw [hy]; exact (rng_in hyb).1)⟩, ht⟩) (fun _ h => absurd h List.not_mem_nil) dX1_next_13
  · refine lv_iload_n hx hb dX1_next_5 rfl (lv_at hl 1 rfl) ?_
    refine lv_bipush (v := nI 7) hx hb dX1_next_6 (by decide) ?_
    refine lv_icmp_le (tgt := 14) hx hb dX1_next_8 (by decide) (fun h2 => ?_) (fun h2 => ?_)
    · obtain ⟨y, hy, hyb⟩ := rng_o h h2
      subst hy
      have fin : ∀ z, NX D y x2.toNatClampNeg z → NXS D (oI y) x2 (oI z) := fun z hz => ⟨fun w => absurd w (rng_not hyb), fun y2 hy2 hyb2 => ⟨z, rfl, by rw [← (oI_inj (rng_b hyb) (rng_b hyb2)).mp hy2]; exact hz⟩⟩
      have hl : lv_has ls 8 [(0, .ref (q 0)), (1, .int (oI y)), (2, .int x2)] := hl
      refine lv_iload_n hx hb dX1_next_14 rfl (lv_at hl 2 rfl) ?_
      refine r_join (rest := []) 23 (fun v => v = nI x2.toNatClampNeg) (fun v hv => ?_) (fun J => ?_)
      · subst hv
        have hf := clamp_lt x2
        generalize hfe : x2.toNatClampNeg = f at hf fin ⊢
        refine lv_istore_n (lv' := [(3, .int (nI f)), (0, .ref (q 0)), (1, .int (oI y)), (2, .int x2)]) hx hb dX1_next_23 rfl hl (by decide) rfl (fun ls hl => ?_)
        refine lv_iload_n hx hb dX1_next_24 rfl (lv_at hl 0 rfl) ?_
        refine lv_ldc (v := nI 65535) hx hb hown (hts _ q200) dX1_next_25 ?_
        refine r_le (a := f) (b := 65535) (tgt := 32) hx hb (by omega) (by omega) dX1_next_27 (by decide) (fun h3 => ?_) (fun h3 => ?_)
        · refine lv_aload_n hx hb dX1_next_32 rfl (lv_at hl 1 rfl) ?_
          refine lv_iload_n hx hb dX1_next_33 rfl (lv_at hl 0 rfl) ?_
          refine kX1_X1_owner S hl.1 ⟨Nat.le_of_ble_eq_true rfl, Nat.le_of_ble_eq_true rfl⟩ (Nat.le_of_ble_eq_true rfl) ⟨Nat.zero_le _, Nat.zero_le _⟩ hK hP (nI f) f (and16_n (by omega)) (by omega) D gm dX1_next_34 ?_
          refine lv_iload_n hx hb dX1_next_37 rfl (lv_at hl 2 rfl) ?_
          refine r_neo (x := ownD D f) (y := y) (tgt := 43) hx hb (fun n hn => gob _ n hn) (rng_b hyb) dX1_next_38 (by decide) (fun h4 => ?_) (fun h4 => ?_)
          · refine lv_iconst (v := oI none) hx hb dX1_next_43 (by decide) ?_
            refine lv_istore (lv' := [(4, .int (oI none)), (3, .int (nI f)), (0, .ref (q 0)), (1, .int (oI y)), (2, .int x2)]) hx hb dX1_next_44 hl (by decide) rfl (fun ls hl => ?_)
            refine lv_iconst (v := nI 0) hx hb dX1_next_46 (by decide) ?_
            refine lv_istore (lv' := [(5, .int (nI 0)), (4, .int (oI none)), (3, .int (nI f)), (0, .ref (q 0)), (1, .int (oI y)), (2, .int x2)]) hx hb dX1_next_47 hl (by decide) rfl (fun ls hl => ?_)
            refine r_loop (σ := Option Nat × Nat) (nL := 8) (fun | (b, k) => [(0, .ref (q 0)), (1, .int (oI y)), (2, .int x2), (3, .int (nI f)), (4, .int (oI b)), (5, .int (nI k))]) (fun | (b, k) => k ≤ en ∧ NB D y f (mds sr ln k) b) (fun | (b, k) => en - k) (fun x ls hI hl ih => ?_) (none, 0) ⟨Nat.zero_le _, nb_0 y f⟩ (lv_sub hl [3, 4, 5, 2, 1, 0] rfl)
            obtain ⟨b, k⟩ := x
            have hl : lv_has ls 8 [(0, .ref (q 0)), (1, .int (oI y)), (2, .int x2), (3, .int (nI f)), (4, .int (oI b)), (5, .int (nI k))] := hl
            have hI : k ≤ en ∧ NB D y f (mds sr ln k) b := hI
            obtain ⟨i1, i2⟩ := hI
            refine lv_iload hx hb dX1_next_49 (lv_at hl 5 rfl) ?_
            refine lv_aload_n hx hb dX1_next_51 rfl (lv_at hl 0 rfl) ?_
            refine gX1_entries hx hb hts hown hK hP dX1_next_52 ?_
            refine r_ge (a := k) (b := en) (tgt := 159) hx hb (by omega) (by omega) dX1_next_55 (by decide) (fun h5 => ?_) (fun h5 => ?_)
            · have e : k = en := by omega
              subst e
              refine lv_iload hx hb dX1_next_159 (lv_at hl 4 rfl) ?_
              exact W.iret (v := oI b) hx hb hr (fun t ht hW => ⟨oI b, rfl, fin b (nb_end gm h4 i2), ht⟩) (fun _ h => absurd h List.not_mem_nil) dX1_next_161
            · obtain ⟨j1, j2, j3, j4⟩ := gm.2.1 k h5
              have s2 := sz_le (ln k)
              refine lv_aload_n hx hb dX1_next_58 rfl (lv_at hl 0 rfl) ?_
              refine gX1_starts hx hb hts hown hK hP dX1_next_59 ?_
              refine lv_iload hx hb dX1_next_62 (lv_at hl 5 rfl) ?_
              refine rX1_starts (n := k) hx hb hK hP rfl (by omega) dX1_next_64 ?_
              refine lv_istore (lv' := [(6, .int (nI (sr k))), (0, .ref (q 0)), (1, .int (oI y)), (2, .int x2), (3, .int (nI f)), (4, .int (oI b)), (5, .int (nI k))]) hx hb dX1_next_65 hl (by decide) rfl (fun ls hl => ?_)
              refine lv_iload hx hb dX1_next_67 (lv_at hl 0 rfl) ?_
              refine lv_aload_n hx hb dX1_next_69 rfl (lv_at hl 1 rfl) ?_
              refine gX1_lengths hx hb hts hown hK hP dX1_next_70 ?_
              refine lv_iload hx hb dX1_next_73 (lv_at hl 6 rfl) ?_
              refine rX1_lengths (n := k) hx hb hK hP rfl (by omega) dX1_next_75 ?_
              refine kX1_X1_sizeOf S hl.1 ⟨Nat.le_of_ble_eq_true rfl, Nat.le_of_ble_eq_true rfl⟩ (Nat.le_of_ble_eq_true rfl) ⟨Nat.zero_le _, Nat.zero_le _⟩ (ln k) j1 dX1_next_76 ?_
              refine r_iadd (a := sr k) (b := 2 ^ (16 - ln k)) hx hb dX1_next_79 ?_
              refine lv_istore (lv' := [(7, .int (nI ((sr k) + (2 ^ (16 - ln k))))), (6, .int (nI (sr k))), (0, .ref (q 0)), (1, .int (oI y)), (2, .int x2), (3, .int (nI f)), (4, .int (oI b)), (5, .int (nI k))]) hx hb dX1_next_80 hl (by decide) rfl (fun ls hl => ?_)
              refine r_joinL (σ := Option Nat) (nL := 8) 114 (fun b3 => [(0, .ref (q 0)), (1, .int (oI y)), (2, .int x2), (3, .int (nI f)), (4, .int (oI b3)), (5, .int (nI k)), (6, .int (nI (sr k))), (7, .int (nI (sr k + 2 ^ (16 - ln k))))]) (fun b3 => NB D y f (fun w => mds sr ln k w ∨ w = sr k) b3) (fun x ls hv hl => ?_) (fun J => ?_)
              · obtain ⟨b3, rfl⟩ : ∃ z, z = x := ⟨_, rfl⟩
                have hl : lv_has ls 8 [(0, .ref (q 0)), (1, .int (oI y)), (2, .int x2), (3, .int (nI f)), (4, .int (oI b3)), (5, .int (nI k)), (6, .int (nI (sr k))), (7, .int (nI (sr k + 2 ^ (16 - ln k))))] := hl
                have hv : NB D y f (fun w => mds sr ln k w ∨ w = sr k) b3 := hv
                refine lv_iload hx hb dX1_next_114 (lv_at hl 7 rfl) ?_
                refine lv_iload_n hx hb dX1_next_116 rfl (lv_at hl 3 rfl) ?_
                refine r_le (a := sr k + 2 ^ (16 - ln k)) (b := f) (tgt := 153) hx hb (by omega) (by omega) dX1_next_117 (by decide) (fun h6 => ?_) (fun h6 => ?_)
                · refine lv_iinc (v := nI (k + 1)) (lv' := [(5, .int (nI (k + 1))), (0, .ref (q 0)), (1, .int (oI y)), (2, .int x2), (3, .int (nI f)), (4, .int (oI b3)), (6, .int (nI (sr k))), (7, .int (nI (sr k + 2 ^ (16 - ln k))))]) hx hb dX1_next_153 hl (k := 5) rfl (nI_1 k) (by decide) rfl (fun ls hl => ?_)
                  refine lv_goto (tgt := 49) hx hb dX1_next_156 (by decide) ?_
                  exact ih (b3, k + 1) ls ⟨by omega, nb_step (nb_skip hv (fun z => by omega))⟩ (by show en - (k + 1) < en - k; omega) (lv_sub hl [1, 2, 3, 4, 5, 0] rfl)
                · refine lv_iload hx hb dX1_next_120 (lv_at hl 7 rfl) ?_
                  refine lv_ldc (v := nI 65536) hx hb hown (hts _ q237) dX1_next_122 ?_
                  refine r_ge (a := sr k + 2 ^ (16 - ln k)) (b := 65536) (tgt := 153) hx hb (by omega) (by omega) dX1_next_124 (by decide) (fun h7 => ?_) (fun h7 => ?_)
                  · refine lv_iinc (v := nI (k + 1)) (lv' := [(5, .int (nI (k + 1))), (0, .ref (q 0)), (1, .int (oI y)), (2, .int x2), (3, .int (nI f)), (4, .int (oI b3)), (6, .int (nI (sr k))), (7, .int (nI (sr k + 2 ^ (16 - ln k))))]) hx hb dX1_next_153 hl (k := 5) rfl (nI_1 k) (by decide) rfl (fun ls hl => ?_)
                    refine lv_goto (tgt := 49) hx hb dX1_next_156 (by decide) ?_
                    exact ih (b3, k + 1) ls ⟨by omega, nb_step (nb_skip hv (fun z => by omega))⟩ (by show en - (k + 1) < en - k; omega) (lv_sub hl [1, 2, 3, 4, 5, 0] rfl)
                  · refine lv_aload_n hx hb dX1_next_127 rfl (lv_at hl 0 rfl) ?_
                    refine lv_iload hx hb dX1_next_128 (lv_at hl 7 rfl) ?_
                    refine kX1_X1_owner S hl.1 ⟨Nat.le_of_ble_eq_true rfl, Nat.le_of_ble_eq_true rfl⟩ (Nat.le_of_ble_eq_true rfl) ⟨Nat.zero_le _, Nat.zero_le _⟩ hK hP (nI (sr k + 2 ^ (16 - ln k))) (sr k + 2 ^ (16 - ln k)) (and16_n h7) h7 D gm dX1_next_130 ?_
                    refine lv_iload_n hx hb dX1_next_133 rfl (lv_at hl 1 rfl) ?_
                    refine r_neo (x := ownD D (sr k + 2 ^ (16 - ln k))) (y := y) (tgt := 153) hx hb (fun n hn => gob _ n hn) (rng_b hyb) dX1_next_134 (by decide) (fun h8 => ?_) (fun h8 => ?_)
                    · refine lv_iinc (v := nI (k + 1)) (lv' := [(5, .int (nI (k + 1))), (0, .ref (q 0)), (1, .int (oI y)), (2, .int x2), (3, .int (nI f)), (4, .int (oI b3)), (6, .int (nI (sr k))), (7, .int (nI (sr k + 2 ^ (16 - ln k))))]) hx hb dX1_next_153 hl (k := 5) rfl (nI_1 k) (by decide) rfl (fun ls hl => ?_)
                      refine lv_goto (tgt := 49) hx hb dX1_next_156 (by decide) ?_
                      exact ih (b3, k + 1) ls ⟨by omega, nb_step (nb_skip hv (fun z => h8 z.2.2))⟩ (by show en - (k + 1) < en - k; omega) (lv_sub hl [1, 2, 3, 4, 5, 0] rfl)
                    · refine lv_iload hx hb dX1_next_137 (lv_at hl 4 rfl) ?_
                      refine r_ifltO (x := b3) (tgt := 149) hx hb (fun e he => by have := (hv.1 e he).2.1; omega) dX1_next_139 (by decide) (fun h9 => ?_) (fun b4 h9 => ?_)
                      · subst h9
                        refine lv_iload hx hb dX1_next_149 (lv_at hl 7 rfl) ?_
                        refine lv_istore (lv' := [(4, .int (nI (sr k + 2 ^ (16 - ln k)))), (0, .ref (q 0)), (1, .int (oI y)), (2, .int x2), (3, .int (nI f)), (5, .int (nI k)), (6, .int (nI (sr k))), (7, .int (nI (sr k + 2 ^ (16 - ln k))))]) hx hb dX1_next_151 hl (by decide) rfl (fun ls hl => ?_)
                        refine lv_iinc (v := nI (k + 1)) (lv' := [(5, .int (nI (k + 1))), (4, .int (nI (sr k + 2 ^ (16 - ln k)))), (0, .ref (q 0)), (1, .int (oI y)), (2, .int x2), (3, .int (nI f)), (6, .int (nI (sr k))), (7, .int (nI (sr k + 2 ^ (16 - ln k))))]) hx hb dX1_next_153 hl (k := 5) rfl (nI_1 k) (by decide) rfl (fun ls hl => ?_)
                        refine lv_goto (tgt := 49) hx hb dX1_next_156 (by decide) ?_
                        exact ih (some (sr k + 2 ^ (16 - ln k)), k + 1) ls ⟨by omega, nb_step (nb_take hv h6 h7 h8 (fun x hx => by cases hx))⟩ (by show en - (k + 1) < en - k; omega) (lv_sub hl [2, 3, 4, 5, 1, 0] rfl)
                      · subst h9
                        obtain ⟨b5, b6, -⟩ := hv.1 b4 rfl
                        have hl : lv_has ls 8 [(0, .ref (q 0)), (1, .int (oI y)), (2, .int x2), (3, .int (nI f)), (4, .int (nI b4)), (5, .int (nI k)), (6, .int (nI (sr k))), (7, .int (nI (sr k + 2 ^ (16 - ln k))))] := hl
                        refine lv_iload hx hb dX1_next_142 (lv_at hl 7 rfl) ?_
                        refine lv_iload hx hb dX1_next_144 (lv_at hl 4 rfl) ?_
                        refine r_ge (a := sr k + 2 ^ (16 - ln k)) (b := b4) (tgt := 153) hx hb (by omega) (by omega) dX1_next_146 (by decide) (fun h10 => ?_) (fun h10 => ?_)
                        · refine lv_iinc (v := nI (k + 1)) (lv' := [(5, .int (nI (k + 1))), (0, .ref (q 0)), (1, .int (oI y)), (2, .int x2), (3, .int (nI f)), (4, .int (nI b4)), (6, .int (nI (sr k))), (7, .int (nI (sr k + 2 ^ (16 - ln k))))]) hx hb dX1_next_153 hl (k := 5) rfl (nI_1 k) (by decide) rfl (fun ls hl => ?_)
                          refine lv_goto (tgt := 49) hx hb dX1_next_156 (by decide) ?_
                          exact ih (some b4, k + 1) ls ⟨by omega, nb_step (nb_keep hv h10)⟩ (by show en - (k + 1) < en - k; omega) (lv_sub hl [1, 2, 3, 4, 5, 0] rfl)
                        · refine lv_iload hx hb dX1_next_149 (lv_at hl 7 rfl) ?_
                          refine lv_istore (lv' := [(4, .int (nI (sr k + 2 ^ (16 - ln k)))), (0, .ref (q 0)), (1, .int (oI y)), (2, .int x2), (3, .int (nI f)), (5, .int (nI k)), (6, .int (nI (sr k))), (7, .int (nI (sr k + 2 ^ (16 - ln k))))]) hx hb dX1_next_151 hl (by decide) rfl (fun ls hl => ?_)
                          refine lv_iinc (v := nI (k + 1)) (lv' := [(5, .int (nI (k + 1))), (4, .int (nI (sr k + 2 ^ (16 - ln k)))), (0, .ref (q 0)), (1, .int (oI y)), (2, .int x2), (3, .int (nI f)), (6, .int (nI (sr k))), (7, .int (nI (sr k + 2 ^ (16 - ln k))))]) hx hb dX1_next_153 hl (k := 5) rfl (nI_1 k) (by decide) rfl (fun ls hl => ?_)
                          refine lv_goto (tgt := 49) hx hb dX1_next_156 (by decide) ?_
                          exact ih (some (sr k + 2 ^ (16 - ln k)), k + 1) ls ⟨by omega, nb_step (nb_take hv h6 h7 h8 (fun x hx => by cases hx; exact h10))⟩ (by show en - (k + 1) < en - k; omega) (lv_sub hl [2, 3, 4, 5, 1, 0] rfl)
              · refine lv_iload hx hb dX1_next_82 (lv_at hl 1 rfl) ?_
                refine lv_iload_n hx hb dX1_next_84 rfl (lv_at hl 5 rfl) ?_
                refine r_le (a := sr k) (b := f) (tgt := 114) hx hb (by omega) (by omega) dX1_next_85 (by decide) (fun h6 => ?_) (fun h6 => ?_)
                · exact J (b) ls (nb_skip i2 (fun z => by omega)) (lv_sub hl [2, 3, 4, 5, 6, 7, 1, 0] rfl)
                · refine lv_aload_n hx hb dX1_next_88 rfl (lv_at hl 2 rfl) ?_
                  refine lv_iload hx hb dX1_next_89 (lv_at hl 1 rfl) ?_
                  refine kX1_X1_owner S hl.1 ⟨Nat.le_of_ble_eq_true rfl, Nat.le_of_ble_eq_true rfl⟩ (Nat.le_of_ble_eq_true rfl) ⟨Nat.zero_le _, Nat.zero_le _⟩ hK hP (nI (sr k)) (sr k) (and16_n j2) j2 D gm dX1_next_91 ?_
                  refine lv_iload_n hx hb dX1_next_94 rfl (lv_at hl 3 rfl) ?_
                  refine r_neo (x := ownD D (sr k)) (y := y) (tgt := 114) hx hb (fun n hn => gob _ n hn) (rng_b hyb) dX1_next_95 (by decide) (fun h8 => ?_) (fun h8 => ?_)
                  · exact J (b) ls (nb_skip i2 (fun z => h8 z.2.2)) (lv_sub hl [2, 3, 4, 5, 6, 7, 1, 0] rfl)
                  · refine lv_iload hx hb dX1_next_98 (lv_at hl 6 rfl) ?_
                    refine r_ifltO (x := b) (tgt := 110) hx hb (fun e he => by have := (i2.1 e he).2.1; omega) dX1_next_100 (by decide) (fun h9 => ?_) (fun b4 h9 => ?_)
                    · subst h9
                      refine lv_iload hx hb dX1_next_110 (lv_at hl 1 rfl) ?_
                      refine lv_istore (lv' := [(4, .int (nI (sr k))), (7, .int (nI ((sr k) + (2 ^ (16 - ln k))))), (6, .int (nI (sr k))), (0, .ref (q 0)), (1, .int (oI y)), (2, .int x2), (3, .int (nI f)), (5, .int (nI k))]) hx hb dX1_next_112 hl (by decide) rfl (fun ls hl => ?_)
                      exact J (some (sr k)) ls (nb_take i2 h6 j2 h8 (fun x hx => by cases hx)) (lv_sub hl [3, 4, 5, 6, 0, 7, 2, 1] rfl)
                    · subst h9
                      obtain ⟨b5, b6, -⟩ := i2.1 b4 rfl
                      have hl : lv_has ls 8 [(7, .int (nI ((sr k) + (2 ^ (16 - ln k))))), (6, .int (nI (sr k))), (0, .ref (q 0)), (1, .int (oI y)), (2, .int x2), (3, .int (nI f)), (4, .int (nI b4)), (5, .int (nI k))] := hl
                      refine lv_iload hx hb dX1_next_103 (lv_at hl 1 rfl) ?_
                      refine lv_iload hx hb dX1_next_105 (lv_at hl 6 rfl) ?_
                      refine r_ge (a := sr k) (b := b4) (tgt := 114) hx hb (by omega) (by omega) dX1_next_107 (by decide) (fun h10 => ?_) (fun h10 => ?_)
                      · exact J (some b4) ls (nb_keep i2 h10) (lv_sub hl [2, 3, 4, 5, 6, 7, 1, 0] rfl)
                      · refine lv_iload hx hb dX1_next_110 (lv_at hl 1 rfl) ?_
                        refine lv_istore (lv' := [(4, .int (nI (sr k))), (7, .int (nI ((sr k) + (2 ^ (16 - ln k))))), (6, .int (nI (sr k))), (0, .ref (q 0)), (1, .int (oI y)), (2, .int x2), (3, .int (nI f)), (5, .int (nI k))]) hx hb dX1_next_112 hl (by decide) rfl (fun ls hl => ?_)
                        exact J (some (sr k)) ls (nb_take i2 h6 j2 h8 (fun x hx => by cases hx; exact h10)) (lv_sub hl [3, 4, 5, 6, 0, 7, 2, 1] rfl)
          · refine lv_iload_n hx hb dX1_next_41 rfl (lv_at hl 0 rfl) ?_
            exact W.iret (v := nI f) hx hb hr (fun t ht hW => ⟨nI f, rfl, fin (some f) ⟨fun w hw => (by cases hw; exact ⟨Nat.le_refl _, by omega, h4, fun b hb1 hb2 => absurd hb1 (by omega)⟩), fun hw => (by cases hw)⟩, ht⟩) (fun _ h => absurd h List.not_mem_nil) dX1_next_42
        · refine lv_iconst (v := oI none) hx hb dX1_next_30 (by decide) ?_
          exact W.iret (v := oI none) hx hb hr (fun t ht hW => ⟨oI none, rfl, fin none ⟨fun w hw => (by cases hw), fun _ b hb1 hb2 => absurd hb1 (by omega)⟩, ht⟩) (fun _ h => absurd h List.not_mem_nil) dX1_next_31
      · refine lv_if_ge (tgt := 22) hx hb dX1_next_15 (by decide) (fun h3 => ?_) (fun h3 => ?_)
        · refine lv_iload_n hx hb dX1_next_22 rfl (lv_at hl 2 rfl) ?_
          exact J _ (clamp_pos h3)
        · refine lv_iconst (v := nI 0) hx hb dX1_next_18 (by decide) ?_
          refine lv_goto (tgt := 23) hx hb dX1_next_19 (by decide) ?_
          exact J _ (clamp_neg h3)
    · refine lv_bipush (v := (-2)) hx hb dX1_next_11 (by decide) ?_
      exact W.iret (v := (-2)) hx hb hr (fun t ht hW => ⟨(-2), rfl, ⟨fun _ => rfl, fun y hy hyb => absurd (by rw [hy]; exact (rng_in hyb).2) h2⟩, ht⟩) (fun _ h => absurd h List.not_mem_nil) dX1_next_13
end
section
set_option maxRecDepth 100000
set_option maxHeartbeats 4000000 in
set_option maxRecDepth 100000 in
theorem metX0_init (l : Launch) (dC : Nat → ClassId) (dI : Nat → Nat → Nat) (h0 sz : Nat) : Met l yX0_init (ws_ yX0_init cX0_init 2 none) ({ frames := 1, cells := 9, slots := 585, locals := 12 }) (va_Pc [.ref h0] (fun U => U.heap.size = sz ∧ va_P (dC, dI) vwCl [(h0, .inr (0, [.int 0, .int 0, .int 0, .null, .null, .null, .null, .null, .int 0, .int 0, .null, .null, .null, .null]))] U.heap ∧ va_K (dC, dI) vwCl [] U ∧ va_D (fun _ => True) [(h0, .inr (0, [.int 0, .int 0, .int 0, .null, .null, .null, .null, .null, .int 0, .int 0, .null, .null, .null, .null]))])) (va_Qv (fun (u : ClassId × ClassId × (Nat → Nat) × (Nat → Option Nat)) => u.2.2.1 0 = h0 ∧ ∀ n, n < 64 → u.2.2.2 (2 * n) = if n = 63 then none else some (n + 1)) (fun (u : ClassId × ClassId × (Nat → Nat) × (Nat → Option Nat)) t => va_P (dC, dI) vwCl (xW u.1 u.2.1 u.2.2.1 0 none (some 0) (some 0) (some 0) (fun _ => false) (fun _ => 0) (fun _ => 0) (fun _ => some 0) u.2.2.2 (fun _ => 0) (fun _ => 0) (fun _ => some 0) (fun _ => 0)) t.heap ∧ va_K (dC, dI) vwCl [(u.1, .int), (u.2.1, .boolean)] t ∧ va_D (va_A [(h0, .inr (0, [.int 0, .int 0, .int 0, .null, .null, .null, .null, .null, .int 0, .int 0, .null, .null, .null, .null]))] sz) (xW u.1 u.2.1 u.2.2.1 0 none (some 0) (some 0) (some 0) (fun _ => false) (fun _ => 0) (fun _ => 0) (fun _ => some 0) u.2.2.2 (fun _ => 0) (fun _ => 0) (fun _ => some 0) (fun _ => 0))) (va_A [(h0, .inr (0, [.int 0, .int 0, .int 0, .null, .null, .null, .null, .null, .int 0, .int 0, .null, .null, .null, .null]))] sz)) 9 585 (va_A [(h0, .inr (0, [.int 0, .int 0, .int 0, .null, .null, .null, .null, .null, .int 0, .int 0, .null, .null, .null, .null]))] sz) := by
  refine Met.ofW (cc := cX0_init) (maxL := 2) (ret := none) (by decide) rfl ?_
  intro p e s m args below meth c s₁ B hml hv
  obtain ⟨rfl, hsz, hP, hK, hD0⟩ := hv
  have hx := B.exec
  have hb := B.bytes
  have hr := B.returns
  have hts := atoms_spec (ws := (ws_ yX0_init cX0_init 2 none)) B.pre
  have hts : ∀ w ∈ lw_all, w.before _ s = true := fun w h => hts w (List.mem_cons_of_mem _ h)
  have hown : s.vm.findClass RX0 = some m.cls := findClass_of_methodNamed B.named
  have hlocks := B.notSynchronized
  have hin : meth.name = "<init>" := (name_of_methodNamed B.named B.method).1
  subst hsz
  have hD := hD0.self (sz := s.heap.size)
  generalize hAe : va_A [(h0, .inr (0, [.int 0, .int 0, .int 0, .null, .null, .null, .null, .null, .int 0, .int 0, .null, .null, .null, .null]))] s.heap.size = A at hD ⊢
  have hA : ∀ q : Nat, s.heap.size ≤ q → A q := fun q h => by rw [← hAe]; exact Or.inr h
  have hS : va_S A s.heap s.heap [] := va_S.rf
  have hP : va_P (dC, dI) vwCl [(h0, .inr (0, [.int 0, .int 0, .int 0, .null, .null, .null, .null, .null, .int 0, .int 0, .null, .null, .null, .null]))] s.heap := hP
  have hl := lv_entry ([.ref h0]) (n := 2) (Nat.le_of_ble_eq_true rfl)
  rw [lg_entry_eq]
  generalize (lg_sl ([.ref h0]) ++ List.replicate (2 - (lg_sl ([.ref h0])).length) Slot.unset).toArray = ls at hl ⊢
  have hl : lv_has ls 2 [(0, .ref h0)] := hl
  refine lv_aload_n hx hb dX0_init_0 rfl (lv_at hl 0 rfl) ?_
  refine W.objInit hx hb hown (hts _ q24) (hts _ q25) (hts _ q26) rfl (by rw [hml]; exact hl.1) rfl dX0_init_1 (Nat.le_of_ble_eq_true rfl) (Nat.le_of_ble_eq_true rfl) ?_
  refine W.eq (g2 := F0 m 4 ls []) rfl ?_
  refine lv_aload_n hx hb dX0_init_4 rfl (lv_at hl 0 rfl) ?_
  refine lv_bipush (v := nI 64) hx hb dX0_init_5 (by decide) ?_
  refine va_newa (atype := .boolean) hx hb (hts _ q70) (ty := .boolean) rfl hK hP hD hS hA (n := nI 64) (N' := 64) (a0 := (64, .inl (fun _ => bI false))) (fun cA => by rfl) (by decide) (by decide) (by decide) (Nat.le_of_ble_eq_true rfl) (Nat.le_of_ble_eq_true rfl) dX0_init_7 (fun a3 c3 H hK hP hD hS => ?_)
  have hP : va_P (dC, dI) vwCl [(h0, .inr (0, [.int 0, .int 0, .int 0, .null, .null, .null, .null, .null, .int 0, .int 0, .null, .null, .null, .null])), (a3, .inl (c3, 64, .inl (fun _ => bI false)))] H := hP
  have hD : va_D A [(h0, .inr (0, [.int 0, .int 0, .int 0, .null, .null, .null, .null, .null, .int 0, .int 0, .null, .null, .null, .null])), (a3, .inl (c3, 64, .inl (fun _ => bI false)))] := hD
  have hK : va_K (dC, dI) vwCl [(c3, .boolean)] s := hK
  refine va_putF (D := (dC, dI)) (ci := 0) (v := .ref a3) (ty := .array .boolean) (C := RX0) (T := TX0) (N := 14) hx hb hts in_X0 tyX0 tyX0_ok nmX0 hown hK hP hD hS 0 rfl rfl 3 (by decide) (hts _ q30) (fun _ h9 => h9) rfl hin rfl (by decide +kernel) rfl rfl (Nat.le_of_ble_eq_true rfl) dX0_init_9 (fun H locs hP hD hS => ?_)
  have hP : va_P (dC, dI) vwCl [(h0, .inr (0, [.int 0, .int 0, .int 0, .ref a3, .null, .null, .null, .null, .int 0, .int 0, .null, .null, .null, .null])), (a3, .inl (c3, 64, .inl (fun _ => bI false)))] H := hP
  have hD : va_D A [(h0, .inr (0, [.int 0, .int 0, .int 0, .ref a3, .null, .null, .null, .null, .int 0, .int 0, .null, .null, .null, .null])), (a3, .inl (c3, 64, .inl (fun _ => bI false)))] := hD
  refine lv_aload_n hx hb dX0_init_12 rfl (lv_at hl 0 rfl) ?_
  refine lv_bipush (v := nI 64) hx hb dX0_init_13 (by decide) ?_
  refine va_newa (atype := .int) hx hb (hts _ q71) (ty := .int) rfl hK hP hD hS hA (n := nI 64) (N' := 64) (a0 := (64, .inl (fun _ => nI 0))) (fun cA => by rfl) (by decide) (by decide) (by decide) (Nat.le_of_ble_eq_true rfl) (Nat.le_of_ble_eq_true rfl) dX0_init_15 (fun a4 c4 H hK hP hD hS => ?_)
  have hP : va_P (dC, dI) vwCl [(h0, .inr (0, [.int 0, .int 0, .int 0, .ref a3, .null, .null, .null, .null, .int 0, .int 0, .null, .null, .null, .null])), (a3, .inl (c3, 64, .inl (fun _ => bI false))), (a4, .inl (c4, 64, .inl (fun _ => nI 0)))] H := hP
  have hD : va_D A [(h0, .inr (0, [.int 0, .int 0, .int 0, .ref a3, .null, .null, .null, .null, .int 0, .int 0, .null, .null, .null, .null])), (a3, .inl (c3, 64, .inl (fun _ => bI false))), (a4, .inl (c4, 64, .inl (fun _ => nI 0)))] := hD
  have hK : va_K (dC, dI) vwCl [(c3, .boolean), (c4, .int)] s := hK
  refine va_putF (D := (dC, dI)) (ci := 0) (v := .ref a4) (ty := .array .int) (C := RX0) (T := TX0) (N := 14) hx hb hts in_X0 tyX0 tyX0_ok nmX0 hown hK hP hD hS 0 rfl rfl 4 (by decide) (hts _ q31) (fun _ h9 => h9) rfl hin rfl (by decide +kernel) rfl rfl (Nat.le_of_ble_eq_true rfl) dX0_init_17 (fun H locs hP hD hS => ?_)
  have hP : va_P (dC, dI) vwCl [(h0, .inr (0, [.int 0, .int 0, .int 0, .ref a3, .ref a4, .null, .null, .null, .int 0, .int 0, .null, .null, .null, .null])), (a3, .inl (c3, 64, .inl (fun _ => bI false))), (a4, .inl (c4, 64, .inl (fun _ => nI 0)))] H := hP
  have hD : va_D A [(h0, .inr (0, [.int 0, .int 0, .int 0, .ref a3, .ref a4, .null, .null, .null, .int 0, .int 0, .null, .null, .null, .null])), (a3, .inl (c3, 64, .inl (fun _ => bI false))), (a4, .inl (c4, 64, .inl (fun _ => nI 0)))] := hD
  refine lv_aload_n hx hb dX0_init_20 rfl (lv_at hl 0 rfl) ?_
  refine lv_bipush (v := nI 64) hx hb dX0_init_21 (by decide) ?_
  refine va_newa (atype := .int) hx hb (hts _ q71) (ty := .int) rfl hK hP hD hS hA (n := nI 64) (N' := 64) (a0 := (64, .inl (fun _ => nI 0))) (fun cA => by rfl) (by decide) (by decide) (by decide) (Nat.le_of_ble_eq_true rfl) (Nat.le_of_ble_eq_true rfl) dX0_init_23 (fun a5 c5 H hK hP hD hS => ?_)
  have hP : va_P (dC, dI) vwCl [(h0, .inr (0, [.int 0, .int 0, .int 0, .ref a3, .ref a4, .null, .null, .null, .int 0, .int 0, .null, .null, .null, .null])), (a3, .inl (c3, 64, .inl (fun _ => bI false))), (a4, .inl (c4, 64, .inl (fun _ => nI 0))), (a5, .inl (c5, 64, .inl (fun _ => nI 0)))] H := hP
  have hD : va_D A [(h0, .inr (0, [.int 0, .int 0, .int 0, .ref a3, .ref a4, .null, .null, .null, .int 0, .int 0, .null, .null, .null, .null])), (a3, .inl (c3, 64, .inl (fun _ => bI false))), (a4, .inl (c4, 64, .inl (fun _ => nI 0))), (a5, .inl (c5, 64, .inl (fun _ => nI 0)))] := hD
  have hK : va_K (dC, dI) vwCl [(c3, .boolean), (c4, .int), (c5, .int)] s := hK
  refine va_putF (D := (dC, dI)) (ci := 0) (v := .ref a5) (ty := .array .int) (C := RX0) (T := TX0) (N := 14) hx hb hts in_X0 tyX0 tyX0_ok nmX0 hown hK hP hD hS 0 rfl rfl 5 (by decide) (hts _ q32) (fun _ h9 => h9) rfl hin rfl (by decide +kernel) rfl rfl (Nat.le_of_ble_eq_true rfl) dX0_init_25 (fun H locs hP hD hS => ?_)
  have hP : va_P (dC, dI) vwCl [(h0, .inr (0, [.int 0, .int 0, .int 0, .ref a3, .ref a4, .ref a5, .null, .null, .int 0, .int 0, .null, .null, .null, .null])), (a3, .inl (c3, 64, .inl (fun _ => bI false))), (a4, .inl (c4, 64, .inl (fun _ => nI 0))), (a5, .inl (c5, 64, .inl (fun _ => nI 0)))] H := hP
  have hD : va_D A [(h0, .inr (0, [.int 0, .int 0, .int 0, .ref a3, .ref a4, .ref a5, .null, .null, .int 0, .int 0, .null, .null, .null, .null])), (a3, .inl (c3, 64, .inl (fun _ => bI false))), (a4, .inl (c4, 64, .inl (fun _ => nI 0))), (a5, .inl (c5, 64, .inl (fun _ => nI 0)))] := hD
  refine lv_aload_n hx hb dX0_init_28 rfl (lv_at hl 0 rfl) ?_
  refine lv_bipush (v := nI 64) hx hb dX0_init_29 (by decide) ?_
  refine va_newa (atype := .int) hx hb (hts _ q71) (ty := .int) rfl hK hP hD hS hA (n := nI 64) (N' := 64) (a0 := (64, .inl (fun _ => oI (some 0)))) (fun cA => by rfl) (by decide) (by decide) (by decide) (Nat.le_of_ble_eq_true rfl) (Nat.le_of_ble_eq_true rfl) dX0_init_31 (fun a6 c6 H hK hP hD hS => ?_)
  have hP : va_P (dC, dI) vwCl [(h0, .inr (0, [.int 0, .int 0, .int 0, .ref a3, .ref a4, .ref a5, .null, .null, .int 0, .int 0, .null, .null, .null, .null])), (a3, .inl (c3, 64, .inl (fun _ => bI false))), (a4, .inl (c4, 64, .inl (fun _ => nI 0))), (a5, .inl (c5, 64, .inl (fun _ => nI 0))), (a6, .inl (c6, 64, .inl (fun _ => oI (some 0))))] H := hP
  have hD : va_D A [(h0, .inr (0, [.int 0, .int 0, .int 0, .ref a3, .ref a4, .ref a5, .null, .null, .int 0, .int 0, .null, .null, .null, .null])), (a3, .inl (c3, 64, .inl (fun _ => bI false))), (a4, .inl (c4, 64, .inl (fun _ => nI 0))), (a5, .inl (c5, 64, .inl (fun _ => nI 0))), (a6, .inl (c6, 64, .inl (fun _ => oI (some 0))))] := hD
  have hK : va_K (dC, dI) vwCl [(c3, .boolean), (c4, .int), (c5, .int), (c6, .int)] s := hK
  refine va_putF (D := (dC, dI)) (ci := 0) (v := .ref a6) (ty := .array .int) (C := RX0) (T := TX0) (N := 14) hx hb hts in_X0 tyX0 tyX0_ok nmX0 hown hK hP hD hS 0 rfl rfl 6 (by decide) (hts _ q33) (fun _ h9 => h9) rfl hin rfl (by decide +kernel) rfl rfl (Nat.le_of_ble_eq_true rfl) dX0_init_33 (fun H locs hP hD hS => ?_)
  have hP : va_P (dC, dI) vwCl [(h0, .inr (0, [.int 0, .int 0, .int 0, .ref a3, .ref a4, .ref a5, .ref a6, .null, .int 0, .int 0, .null, .null, .null, .null])), (a3, .inl (c3, 64, .inl (fun _ => bI false))), (a4, .inl (c4, 64, .inl (fun _ => nI 0))), (a5, .inl (c5, 64, .inl (fun _ => nI 0))), (a6, .inl (c6, 64, .inl (fun _ => oI (some 0))))] H := hP
  have hD : va_D A [(h0, .inr (0, [.int 0, .int 0, .int 0, .ref a3, .ref a4, .ref a5, .ref a6, .null, .int 0, .int 0, .null, .null, .null, .null])), (a3, .inl (c3, 64, .inl (fun _ => bI false))), (a4, .inl (c4, 64, .inl (fun _ => nI 0))), (a5, .inl (c5, 64, .inl (fun _ => nI 0))), (a6, .inl (c6, 64, .inl (fun _ => oI (some 0))))] := hD
  refine lv_aload_n hx hb dX0_init_36 rfl (lv_at hl 0 rfl) ?_
  refine lv_sipush (v := nI 128) hx hb dX0_init_37 (by decide) ?_
  refine va_newa (atype := .int) hx hb (hts _ q71) (ty := .int) rfl hK hP hD hS hA (n := nI 128) (N' := 128) (a0 := (128, .inl (fun _ => oI (some 0)))) (fun cA => by rfl) (by decide) (by decide) (by decide) (Nat.le_of_ble_eq_true rfl) (Nat.le_of_ble_eq_true rfl) dX0_init_40 (fun a7 c7 H hK hP hD hS => ?_)
  have hP : va_P (dC, dI) vwCl [(h0, .inr (0, [.int 0, .int 0, .int 0, .ref a3, .ref a4, .ref a5, .ref a6, .null, .int 0, .int 0, .null, .null, .null, .null])), (a3, .inl (c3, 64, .inl (fun _ => bI false))), (a4, .inl (c4, 64, .inl (fun _ => nI 0))), (a5, .inl (c5, 64, .inl (fun _ => nI 0))), (a6, .inl (c6, 64, .inl (fun _ => oI (some 0)))), (a7, .inl (c7, 128, .inl (fun _ => oI (some 0))))] H := hP
  have hD : va_D A [(h0, .inr (0, [.int 0, .int 0, .int 0, .ref a3, .ref a4, .ref a5, .ref a6, .null, .int 0, .int 0, .null, .null, .null, .null])), (a3, .inl (c3, 64, .inl (fun _ => bI false))), (a4, .inl (c4, 64, .inl (fun _ => nI 0))), (a5, .inl (c5, 64, .inl (fun _ => nI 0))), (a6, .inl (c6, 64, .inl (fun _ => oI (some 0)))), (a7, .inl (c7, 128, .inl (fun _ => oI (some 0))))] := hD
  have hK : va_K (dC, dI) vwCl [(c3, .boolean), (c4, .int), (c5, .int), (c6, .int), (c7, .int)] s := hK
  refine va_putF (D := (dC, dI)) (ci := 0) (v := .ref a7) (ty := .array .int) (C := RX0) (T := TX0) (N := 14) hx hb hts in_X0 tyX0 tyX0_ok nmX0 hown hK hP hD hS 0 rfl rfl 7 (by decide) (hts _ q34) (fun _ h9 => h9) rfl hin rfl (by decide +kernel) rfl rfl (Nat.le_of_ble_eq_true rfl) dX0_init_42 (fun H locs hP hD hS => ?_)
  have hP : va_P (dC, dI) vwCl [(h0, .inr (0, [.int 0, .int 0, .int 0, .ref a3, .ref a4, .ref a5, .ref a6, .ref a7, .int 0, .int 0, .null, .null, .null, .null])), (a3, .inl (c3, 64, .inl (fun _ => bI false))), (a4, .inl (c4, 64, .inl (fun _ => nI 0))), (a5, .inl (c5, 64, .inl (fun _ => nI 0))), (a6, .inl (c6, 64, .inl (fun _ => oI (some 0)))), (a7, .inl (c7, 128, .inl (fun _ => oI (some 0))))] H := hP
  have hD : va_D A [(h0, .inr (0, [.int 0, .int 0, .int 0, .ref a3, .ref a4, .ref a5, .ref a6, .ref a7, .int 0, .int 0, .null, .null, .null, .null])), (a3, .inl (c3, 64, .inl (fun _ => bI false))), (a4, .inl (c4, 64, .inl (fun _ => nI 0))), (a5, .inl (c5, 64, .inl (fun _ => nI 0))), (a6, .inl (c6, 64, .inl (fun _ => oI (some 0)))), (a7, .inl (c7, 128, .inl (fun _ => oI (some 0))))] := hD
  refine lv_aload_n hx hb dX0_init_45 rfl (lv_at hl 0 rfl) ?_
  refine lv_bipush (v := nI 9) hx hb dX0_init_46 (by decide) ?_
  refine va_newa (atype := .int) hx hb (hts _ q71) (ty := .int) rfl hK hP hD hS hA (n := nI 9) (N' := 9) (a0 := (9, .inl (fun _ => zI 0))) (fun cA => by rfl) (by decide) (by decide) (by decide) (Nat.le_of_ble_eq_true rfl) (Nat.le_of_ble_eq_true rfl) dX0_init_48 (fun a10 c10 H hK hP hD hS => ?_)
  have hP : va_P (dC, dI) vwCl [(h0, .inr (0, [.int 0, .int 0, .int 0, .ref a3, .ref a4, .ref a5, .ref a6, .ref a7, .int 0, .int 0, .null, .null, .null, .null])), (a3, .inl (c3, 64, .inl (fun _ => bI false))), (a4, .inl (c4, 64, .inl (fun _ => nI 0))), (a5, .inl (c5, 64, .inl (fun _ => nI 0))), (a6, .inl (c6, 64, .inl (fun _ => oI (some 0)))), (a7, .inl (c7, 128, .inl (fun _ => oI (some 0)))), (a10, .inl (c10, 9, .inl (fun _ => zI 0)))] H := hP
  have hD : va_D A [(h0, .inr (0, [.int 0, .int 0, .int 0, .ref a3, .ref a4, .ref a5, .ref a6, .ref a7, .int 0, .int 0, .null, .null, .null, .null])), (a3, .inl (c3, 64, .inl (fun _ => bI false))), (a4, .inl (c4, 64, .inl (fun _ => nI 0))), (a5, .inl (c5, 64, .inl (fun _ => nI 0))), (a6, .inl (c6, 64, .inl (fun _ => oI (some 0)))), (a7, .inl (c7, 128, .inl (fun _ => oI (some 0)))), (a10, .inl (c10, 9, .inl (fun _ => zI 0)))] := hD
  have hK : va_K (dC, dI) vwCl [(c3, .boolean), (c4, .int), (c5, .int), (c6, .int), (c7, .int), (c10, .int)] s := hK
  refine va_putF (D := (dC, dI)) (ci := 0) (v := .ref a10) (ty := .array .int) (C := RX0) (T := TX0) (N := 14) hx hb hts in_X0 tyX0 tyX0_ok nmX0 hown hK hP hD hS 0 rfl rfl 10 (by decide) (hts _ q37) (fun _ h9 => h9) rfl hin rfl (by decide +kernel) rfl rfl (Nat.le_of_ble_eq_true rfl) dX0_init_50 (fun H locs hP hD hS => ?_)
  have hP : va_P (dC, dI) vwCl [(h0, .inr (0, [.int 0, .int 0, .int 0, .ref a3, .ref a4, .ref a5, .ref a6, .ref a7, .int 0, .int 0, .ref a10, .null, .null, .null])), (a3, .inl (c3, 64, .inl (fun _ => bI false))), (a4, .inl (c4, 64, .inl (fun _ => nI 0))), (a5, .inl (c5, 64, .inl (fun _ => nI 0))), (a6, .inl (c6, 64, .inl (fun _ => oI (some 0)))), (a7, .inl (c7, 128, .inl (fun _ => oI (some 0)))), (a10, .inl (c10, 9, .inl (fun _ => zI 0)))] H := hP
  have hD : va_D A [(h0, .inr (0, [.int 0, .int 0, .int 0, .ref a3, .ref a4, .ref a5, .ref a6, .ref a7, .int 0, .int 0, .ref a10, .null, .null, .null])), (a3, .inl (c3, 64, .inl (fun _ => bI false))), (a4, .inl (c4, 64, .inl (fun _ => nI 0))), (a5, .inl (c5, 64, .inl (fun _ => nI 0))), (a6, .inl (c6, 64, .inl (fun _ => oI (some 0)))), (a7, .inl (c7, 128, .inl (fun _ => oI (some 0)))), (a10, .inl (c10, 9, .inl (fun _ => zI 0)))] := hD
  refine lv_aload_n hx hb dX0_init_53 rfl (lv_at hl 0 rfl) ?_
  refine lv_bipush (v := nI 64) hx hb dX0_init_54 (by decide) ?_
  refine va_newa (atype := .int) hx hb (hts _ q71) (ty := .int) rfl hK hP hD hS hA (n := nI 64) (N' := 64) (a0 := (64, .inl (fun _ => zI 0))) (fun cA => by rfl) (by decide) (by decide) (by decide) (Nat.le_of_ble_eq_true rfl) (Nat.le_of_ble_eq_true rfl) dX0_init_56 (fun a11 c11 H hK hP hD hS => ?_)
  have hP : va_P (dC, dI) vwCl [(h0, .inr (0, [.int 0, .int 0, .int 0, .ref a3, .ref a4, .ref a5, .ref a6, .ref a7, .int 0, .int 0, .ref a10, .null, .null, .null])), (a3, .inl (c3, 64, .inl (fun _ => bI false))), (a4, .inl (c4, 64, .inl (fun _ => nI 0))), (a5, .inl (c5, 64, .inl (fun _ => nI 0))), (a6, .inl (c6, 64, .inl (fun _ => oI (some 0)))), (a7, .inl (c7, 128, .inl (fun _ => oI (some 0)))), (a10, .inl (c10, 9, .inl (fun _ => zI 0))), (a11, .inl (c11, 64, .inl (fun _ => zI 0)))] H := hP
  have hD : va_D A [(h0, .inr (0, [.int 0, .int 0, .int 0, .ref a3, .ref a4, .ref a5, .ref a6, .ref a7, .int 0, .int 0, .ref a10, .null, .null, .null])), (a3, .inl (c3, 64, .inl (fun _ => bI false))), (a4, .inl (c4, 64, .inl (fun _ => nI 0))), (a5, .inl (c5, 64, .inl (fun _ => nI 0))), (a6, .inl (c6, 64, .inl (fun _ => oI (some 0)))), (a7, .inl (c7, 128, .inl (fun _ => oI (some 0)))), (a10, .inl (c10, 9, .inl (fun _ => zI 0))), (a11, .inl (c11, 64, .inl (fun _ => zI 0)))] := hD
  have hK : va_K (dC, dI) vwCl [(c3, .boolean), (c4, .int), (c5, .int), (c6, .int), (c7, .int), (c10, .int), (c11, .int)] s := hK
  refine va_putF (D := (dC, dI)) (ci := 0) (v := .ref a11) (ty := .array .int) (C := RX0) (T := TX0) (N := 14) hx hb hts in_X0 tyX0 tyX0_ok nmX0 hown hK hP hD hS 0 rfl rfl 11 (by decide) (hts _ q38) (fun _ h9 => h9) rfl hin rfl (by decide +kernel) rfl rfl (Nat.le_of_ble_eq_true rfl) dX0_init_58 (fun H locs hP hD hS => ?_)
  have hP : va_P (dC, dI) vwCl [(h0, .inr (0, [.int 0, .int 0, .int 0, .ref a3, .ref a4, .ref a5, .ref a6, .ref a7, .int 0, .int 0, .ref a10, .ref a11, .null, .null])), (a3, .inl (c3, 64, .inl (fun _ => bI false))), (a4, .inl (c4, 64, .inl (fun _ => nI 0))), (a5, .inl (c5, 64, .inl (fun _ => nI 0))), (a6, .inl (c6, 64, .inl (fun _ => oI (some 0)))), (a7, .inl (c7, 128, .inl (fun _ => oI (some 0)))), (a10, .inl (c10, 9, .inl (fun _ => zI 0))), (a11, .inl (c11, 64, .inl (fun _ => zI 0)))] H := hP
  have hD : va_D A [(h0, .inr (0, [.int 0, .int 0, .int 0, .ref a3, .ref a4, .ref a5, .ref a6, .ref a7, .int 0, .int 0, .ref a10, .ref a11, .null, .null])), (a3, .inl (c3, 64, .inl (fun _ => bI false))), (a4, .inl (c4, 64, .inl (fun _ => nI 0))), (a5, .inl (c5, 64, .inl (fun _ => nI 0))), (a6, .inl (c6, 64, .inl (fun _ => oI (some 0)))), (a7, .inl (c7, 128, .inl (fun _ => oI (some 0)))), (a10, .inl (c10, 9, .inl (fun _ => zI 0))), (a11, .inl (c11, 64, .inl (fun _ => zI 0)))] := hD
  refine lv_aload_n hx hb dX0_init_61 rfl (lv_at hl 0 rfl) ?_
  refine lv_bipush (v := nI 64) hx hb dX0_init_62 (by decide) ?_
  refine va_newa (atype := .int) hx hb (hts _ q71) (ty := .int) rfl hK hP hD hS hA (n := nI 64) (N' := 64) (a0 := (64, .inl (fun _ => oI (some 0)))) (fun cA => by rfl) (by decide) (by decide) (by decide) (Nat.le_of_ble_eq_true rfl) (Nat.le_of_ble_eq_true rfl) dX0_init_64 (fun a12 c12 H hK hP hD hS => ?_)
  have hP : va_P (dC, dI) vwCl [(h0, .inr (0, [.int 0, .int 0, .int 0, .ref a3, .ref a4, .ref a5, .ref a6, .ref a7, .int 0, .int 0, .ref a10, .ref a11, .null, .null])), (a3, .inl (c3, 64, .inl (fun _ => bI false))), (a4, .inl (c4, 64, .inl (fun _ => nI 0))), (a5, .inl (c5, 64, .inl (fun _ => nI 0))), (a6, .inl (c6, 64, .inl (fun _ => oI (some 0)))), (a7, .inl (c7, 128, .inl (fun _ => oI (some 0)))), (a10, .inl (c10, 9, .inl (fun _ => zI 0))), (a11, .inl (c11, 64, .inl (fun _ => zI 0))), (a12, .inl (c12, 64, .inl (fun _ => oI (some 0))))] H := hP
  have hD : va_D A [(h0, .inr (0, [.int 0, .int 0, .int 0, .ref a3, .ref a4, .ref a5, .ref a6, .ref a7, .int 0, .int 0, .ref a10, .ref a11, .null, .null])), (a3, .inl (c3, 64, .inl (fun _ => bI false))), (a4, .inl (c4, 64, .inl (fun _ => nI 0))), (a5, .inl (c5, 64, .inl (fun _ => nI 0))), (a6, .inl (c6, 64, .inl (fun _ => oI (some 0)))), (a7, .inl (c7, 128, .inl (fun _ => oI (some 0)))), (a10, .inl (c10, 9, .inl (fun _ => zI 0))), (a11, .inl (c11, 64, .inl (fun _ => zI 0))), (a12, .inl (c12, 64, .inl (fun _ => oI (some 0))))] := hD
  have hK : va_K (dC, dI) vwCl [(c3, .boolean), (c4, .int), (c5, .int), (c6, .int), (c7, .int), (c10, .int), (c11, .int), (c12, .int)] s := hK
  refine va_putF (D := (dC, dI)) (ci := 0) (v := .ref a12) (ty := .array .int) (C := RX0) (T := TX0) (N := 14) hx hb hts in_X0 tyX0 tyX0_ok nmX0 hown hK hP hD hS 0 rfl rfl 12 (by decide) (hts _ q39) (fun _ h9 => h9) rfl hin rfl (by decide +kernel) rfl rfl (Nat.le_of_ble_eq_true rfl) dX0_init_66 (fun H locs hP hD hS => ?_)
  have hP : va_P (dC, dI) vwCl [(h0, .inr (0, [.int 0, .int 0, .int 0, .ref a3, .ref a4, .ref a5, .ref a6, .ref a7, .int 0, .int 0, .ref a10, .ref a11, .ref a12, .null])), (a3, .inl (c3, 64, .inl (fun _ => bI false))), (a4, .inl (c4, 64, .inl (fun _ => nI 0))), (a5, .inl (c5, 64, .inl (fun _ => nI 0))), (a6, .inl (c6, 64, .inl (fun _ => oI (some 0)))), (a7, .inl (c7, 128, .inl (fun _ => oI (some 0)))), (a10, .inl (c10, 9, .inl (fun _ => zI 0))), (a11, .inl (c11, 64, .inl (fun _ => zI 0))), (a12, .inl (c12, 64, .inl (fun _ => oI (some 0))))] H := hP
  have hD : va_D A [(h0, .inr (0, [.int 0, .int 0, .int 0, .ref a3, .ref a4, .ref a5, .ref a6, .ref a7, .int 0, .int 0, .ref a10, .ref a11, .ref a12, .null])), (a3, .inl (c3, 64, .inl (fun _ => bI false))), (a4, .inl (c4, 64, .inl (fun _ => nI 0))), (a5, .inl (c5, 64, .inl (fun _ => nI 0))), (a6, .inl (c6, 64, .inl (fun _ => oI (some 0)))), (a7, .inl (c7, 128, .inl (fun _ => oI (some 0)))), (a10, .inl (c10, 9, .inl (fun _ => zI 0))), (a11, .inl (c11, 64, .inl (fun _ => zI 0))), (a12, .inl (c12, 64, .inl (fun _ => oI (some 0))))] := hD
  refine lv_aload_n hx hb dX0_init_69 rfl (lv_at hl 0 rfl) ?_
  refine lv_bipush (v := nI 64) hx hb dX0_init_70 (by decide) ?_
  refine va_newa (atype := .int) hx hb (hts _ q71) (ty := .int) rfl hK hP hD hS hA (n := nI 64) (N' := 64) (a0 := (64, .inl (fun _ => nI 0))) (fun cA => by rfl) (by decide) (by decide) (by decide) (Nat.le_of_ble_eq_true rfl) (Nat.le_of_ble_eq_true rfl) dX0_init_72 (fun a13 c13 H hK hP hD hS => ?_)
  have hP : va_P (dC, dI) vwCl [(h0, .inr (0, [.int 0, .int 0, .int 0, .ref a3, .ref a4, .ref a5, .ref a6, .ref a7, .int 0, .int 0, .ref a10, .ref a11, .ref a12, .null])), (a3, .inl (c3, 64, .inl (fun _ => bI false))), (a4, .inl (c4, 64, .inl (fun _ => nI 0))), (a5, .inl (c5, 64, .inl (fun _ => nI 0))), (a6, .inl (c6, 64, .inl (fun _ => oI (some 0)))), (a7, .inl (c7, 128, .inl (fun _ => oI (some 0)))), (a10, .inl (c10, 9, .inl (fun _ => zI 0))), (a11, .inl (c11, 64, .inl (fun _ => zI 0))), (a12, .inl (c12, 64, .inl (fun _ => oI (some 0)))), (a13, .inl (c13, 64, .inl (fun _ => nI 0)))] H := hP
  have hD : va_D A [(h0, .inr (0, [.int 0, .int 0, .int 0, .ref a3, .ref a4, .ref a5, .ref a6, .ref a7, .int 0, .int 0, .ref a10, .ref a11, .ref a12, .null])), (a3, .inl (c3, 64, .inl (fun _ => bI false))), (a4, .inl (c4, 64, .inl (fun _ => nI 0))), (a5, .inl (c5, 64, .inl (fun _ => nI 0))), (a6, .inl (c6, 64, .inl (fun _ => oI (some 0)))), (a7, .inl (c7, 128, .inl (fun _ => oI (some 0)))), (a10, .inl (c10, 9, .inl (fun _ => zI 0))), (a11, .inl (c11, 64, .inl (fun _ => zI 0))), (a12, .inl (c12, 64, .inl (fun _ => oI (some 0)))), (a13, .inl (c13, 64, .inl (fun _ => nI 0)))] := hD
  have hK : va_K (dC, dI) vwCl [(c3, .boolean), (c4, .int), (c5, .int), (c6, .int), (c7, .int), (c10, .int), (c11, .int), (c12, .int), (c13, .int)] s := hK
  refine va_putF (D := (dC, dI)) (ci := 0) (v := .ref a13) (ty := .array .int) (C := RX0) (T := TX0) (N := 14) hx hb hts in_X0 tyX0 tyX0_ok nmX0 hown hK hP hD hS 0 rfl rfl 13 (by decide) (hts _ q40) (fun _ h9 => h9) rfl hin rfl (by decide +kernel) rfl rfl (Nat.le_of_ble_eq_true rfl) dX0_init_74 (fun H locs hP hD hS => ?_)
  have hP : va_P (dC, dI) vwCl [(h0, .inr (0, [.int 0, .int 0, .int 0, .ref a3, .ref a4, .ref a5, .ref a6, .ref a7, .int 0, .int 0, .ref a10, .ref a11, .ref a12, .ref a13])), (a3, .inl (c3, 64, .inl (fun _ => bI false))), (a4, .inl (c4, 64, .inl (fun _ => nI 0))), (a5, .inl (c5, 64, .inl (fun _ => nI 0))), (a6, .inl (c6, 64, .inl (fun _ => oI (some 0)))), (a7, .inl (c7, 128, .inl (fun _ => oI (some 0)))), (a10, .inl (c10, 9, .inl (fun _ => zI 0))), (a11, .inl (c11, 64, .inl (fun _ => zI 0))), (a12, .inl (c12, 64, .inl (fun _ => oI (some 0)))), (a13, .inl (c13, 64, .inl (fun _ => nI 0)))] H := hP
  have hD : va_D A [(h0, .inr (0, [.int 0, .int 0, .int 0, .ref a3, .ref a4, .ref a5, .ref a6, .ref a7, .int 0, .int 0, .ref a10, .ref a11, .ref a12, .ref a13])), (a3, .inl (c3, 64, .inl (fun _ => bI false))), (a4, .inl (c4, 64, .inl (fun _ => nI 0))), (a5, .inl (c5, 64, .inl (fun _ => nI 0))), (a6, .inl (c6, 64, .inl (fun _ => oI (some 0)))), (a7, .inl (c7, 128, .inl (fun _ => oI (some 0)))), (a10, .inl (c10, 9, .inl (fun _ => zI 0))), (a11, .inl (c11, 64, .inl (fun _ => zI 0))), (a12, .inl (c12, 64, .inl (fun _ => oI (some 0)))), (a13, .inl (c13, 64, .inl (fun _ => nI 0)))] := hD
  refine W.widen (k := 9) (n := 585) (by decide) (by decide) ?_
  have r0 : s.vm.findClass _ = some c4 := (hK.2 1 _ rfl).2
  have r1 : s.vm.findClass _ = some c5 := (hK.2 2 _ rfl).2
  have ec : c4 = c5 := Option.some.inj (r0.symm.trans r1)
  subst ec
  have r0 : s.vm.findClass _ = some c4 := (hK.2 1 _ rfl).2
  have r1 : s.vm.findClass _ = some c6 := (hK.2 3 _ rfl).2
  have ec : c4 = c6 := Option.some.inj (r0.symm.trans r1)
  subst ec
  have r0 : s.vm.findClass _ = some c4 := (hK.2 1 _ rfl).2
  have r1 : s.vm.findClass _ = some c7 := (hK.2 4 _ rfl).2
  have ec : c4 = c7 := Option.some.inj (r0.symm.trans r1)
  subst ec
  have r0 : s.vm.findClass _ = some c4 := (hK.2 1 _ rfl).2
  have r1 : s.vm.findClass _ = some c10 := (hK.2 5 _ rfl).2
  have ec : c4 = c10 := Option.some.inj (r0.symm.trans r1)
  subst ec
  have r0 : s.vm.findClass _ = some c4 := (hK.2 1 _ rfl).2
  have r1 : s.vm.findClass _ = some c11 := (hK.2 6 _ rfl).2
  have ec : c4 = c11 := Option.some.inj (r0.symm.trans r1)
  subst ec
  have r0 : s.vm.findClass _ = some c4 := (hK.2 1 _ rfl).2
  have r1 : s.vm.findClass _ = some c12 := (hK.2 7 _ rfl).2
  have ec : c4 = c12 := Option.some.inj (r0.symm.trans r1)
  subst ec
  have r0 : s.vm.findClass _ = some c4 := (hK.2 1 _ rfl).2
  have r1 : s.vm.findClass _ = some c13 := (hK.2 8 _ rfl).2
  have ec : c4 = c13 := Option.some.inj (r0.symm.trans r1)
  subst ec
  obtain ⟨q, e0, e3, e4, e5, e6, e7, e10, e11, e12, e13⟩ : ∃ q : Nat → Nat, q 0 = h0 ∧ q 3 = a3 ∧ q 4 = a4 ∧ q 5 = a5 ∧ q 6 = a6 ∧ q 7 = a7 ∧ q 10 = a10 ∧ q 11 = a11 ∧ q 12 = a12 ∧ q 13 = a13 := ⟨fun k => if k = 0 then h0 else if k = 3 then a3 else if k = 4 then a4 else if k = 5 then a5 else if k = 6 then a6 else if k = 7 then a7 else if k = 10 then a10 else if k = 11 then a11 else if k = 12 then a12 else if k = 13 then a13 else 0, rfl, rfl, rfl, rfl, rfl, rfl, rfl, rfl, rfl, rfl⟩
  subst e0
  subst e3
  subst e4
  subst e5
  subst e6
  subst e7
  subst e10
  subst e11
  subst e12
  subst e13
  have hK : va_K (dC, dI) vwCl [(c4, .int), (c3, .boolean)] s := hK.sub [1, 0] rfl
  have hP : va_P (dC, dI) vwCl (xW c4 c3 q 0 (some 0) (some 0) (some 0) (some 0) (fun _ => false) (fun _ => 0) (fun _ => 0) (fun _ => some 0) (fun _ => some 0) (fun _ => 0) (fun _ => 0) (fun _ => some 0) (fun _ => 0)) H := hP
  have hD : va_D A (xW c4 c3 q 0 (some 0) (some 0) (some 0) (some 0) (fun _ => false) (fun _ => 0) (fun _ => 0) (fun _ => some 0) (fun _ => some 0) (fun _ => 0) (fun _ => 0) (fun _ => some 0) (fun _ => 0)) := hD
  refine lv_iconst (v := nI 0) hx hb dX0_init_77 (by decide) ?_
  refine lv_istore_n (lv' := [(1, .int (nI 0)), (0, .ref (q 0))]) hx hb dX0_init_78 rfl hl (by decide) rfl (fun ls hl => ?_)
  refine r_loopH (σ := Nat × (Nat → Option Nat)) (nL := 2) (fun | (k, ch2) => [(0, .ref (q 0)), (1, .int (nI k))]) (fun | (k, ch2) => xW c4 c3 q 0 (some 0) (some 0) (some 0) (some 0) (fun _ => false) (fun _ => 0) (fun _ => 0) (fun _ => some 0) ch2 (fun _ => 0) (fun _ => 0) (fun _ => some 0) (fun _ => 0)) (fun | (k, ch2) => k ≤ 64 ∧ ∀ n, n < k → ch2 (2 * n) = if n = 63 then none else some (n + 1)) (fun | (k, ch2) => 64 - k) (fun x ls H locs hI hl hP hD hS ih => ?_) (0, (fun _ => some 0)) ⟨by decide, fun n hn => absurd hn (Nat.not_lt_zero n)⟩ (lv_sub hl [1, 0] rfl) hP hD hS
  obtain ⟨k, ch2⟩ := x
  have hl : lv_has ls 2 [(0, .ref (q 0)), (1, .int (nI k))] := hl
  have hP : va_P (dC, dI) vwCl (xW c4 c3 q 0 (some 0) (some 0) (some 0) (some 0) (fun _ => false) (fun _ => 0) (fun _ => 0) (fun _ => some 0) ch2 (fun _ => 0) (fun _ => 0) (fun _ => some 0) (fun _ => 0)) H := hP
  have hD : va_D A (xW c4 c3 q 0 (some 0) (some 0) (some 0) (some 0) (fun _ => false) (fun _ => 0) (fun _ => 0) (fun _ => some 0) ch2 (fun _ => 0) (fun _ => 0) (fun _ => some 0) (fun _ => 0)) := hD
  have hI : k ≤ 64 ∧ ∀ n, n < k → ch2 (2 * n) = if n = 63 then none else some (n + 1) := hI
  obtain ⟨i1, i2⟩ := hI
  refine lv_iload_n hx hb dX0_init_79 rfl (lv_at hl 1 rfl) ?_
  refine lv_bipush (v := nI 64) hx hb dX0_init_80 (by decide) ?_
  refine r_ge (a := k) (b := 64) (tgt := 112) hx hb (by omega) (by omega) dX0_init_82 (by decide) (fun h => ?_) (fun h => ?_)
  · refine lv_aload_n hx hb dX0_init_112 rfl (lv_at hl 0 rfl) ?_
    refine lv_iconst (v := oI none) hx hb dX0_init_113 (by decide) ?_
    refine pX0_root (v := none) hx hb hts hown hK hP hD hS dX0_init_114 (fun H locs hP hD hS => ?_)
    exact W.vret hx hb hr (fun t ht hW => ⟨⟨(c4, c3, q, ch2), rfl, ⟨rfl, fun n hn => i2 n (by omega)⟩, by rw [ht]; exact hP, va_K.moved hW.alike hK, hD⟩, hS.F ht⟩) hS.2.2 dX0_init_117
  · refine lv_aload_n hx hb dX0_init_85 rfl (lv_at hl 0 rfl) ?_
    refine gX0_child hx hb hts hown hK hP dX0_init_86 ?_
    refine lv_iconst (v := nI 2) hx hb dX0_init_89 (by decide) ?_
    refine lv_iload_n hx hb dX0_init_90 rfl (lv_at hl 1 rfl) ?_
    refine r_imul (a := 2) (b := k) hx hb dX0_init_91 ?_
    refine lv_iload_n hx hb dX0_init_92 rfl (lv_at hl 1 rfl) ?_
    refine lv_bipush (v := nI 63) hx hb dX0_init_93 (by decide) ?_
    refine r_join (rest := [.int (nI (2 * k)), .ref (q 7)]) 105 (fun v => v = oI (if k = 63 then none else some (k + 1))) (fun v hv => ?_) (fun J => ?_)
    · subst hv
      refine wX0_child (n := 2 * k) (v := if k = 63 then none else some (k + 1)) hx hb hK hP hD hS rfl (by omega) dX0_init_105 (fun H locs hP hD hS => ?_)
      refine lv_iinc (v := nI (k + 1)) (lv' := [(1, .int (nI (k + 1))), (0, .ref (q 0))]) hx hb dX0_init_106 hl (k := 1) rfl (nI_1 k) (by decide) rfl (fun ls hl => ?_)
      refine lv_goto (tgt := 79) hx hb dX0_init_109 (by decide) ?_
      exact ih (k + 1, va_up ch2 (2 * k) (if k = 63 then none else some (k + 1))) ls H locs ⟨by omega, fun n hn => by
        by_cases z : n = k
        · rw [z, up_s]
        · rw [up_n _ _ (by omega)]; exact i2 n (by omega)⟩ (by show 64 - (k + 1) < 64 - k; omega) (lv_sub hl [1, 0] rfl) hP hD hS
    · refine r_ne (a := k) (b := 63) (tgt := 102) hx hb (by omega) (by omega) dX0_init_95 (by decide) (fun h2 => ?_) (fun h2 => ?_)
      · refine lv_iload_n hx hb dX0_init_102 rfl (lv_at hl 1 rfl) ?_
        refine lv_iconst (v := nI 1) hx hb dX0_init_103 (by decide) ?_
        refine r_iadd (a := k) (b := 1) hx hb dX0_init_104 ?_
        exact J _ (by rw [if_neg h2]; rfl)
      · refine lv_iconst (v := oI none) hx hb dX0_init_98 (by decide) ?_
        refine lv_goto (tgt := 105) hx hb dX0_init_99 (by decide) ?_
        exact J _ (by rw [if_pos h2])
set_option maxHeartbeats 4000000 in
set_option maxRecDepth 100000 in
theorem metX1_init (l : Launch) (dC : Nat → ClassId) (dI : Nat → Nat → Nat) (h0 sz : Nat) : Met l yX1_init (ws_ yX1_init cX1_init 1 none) ({ frames := 1, cells := 3, slots := 96, locals := 12 }) (va_Pc [.ref h0] (fun U => U.heap.size = sz ∧ va_P (dC, dI) vwCl [(h0, .inr (1, [.int 0, .null, .null, .null]))] U.heap ∧ va_K (dC, dI) vwCl [] U ∧ va_D (fun _ => True) [(h0, .inr (1, [.int 0, .null, .null, .null]))])) (va_Qv (fun (u : ClassId × (Nat → Nat)) => u.2 0 = h0) (fun (u : ClassId × (Nat → Nat)) t => va_P (dC, dI) vwCl (mW u.1 u.2 0 (fun _ => 0) (fun _ => 0) (fun _ => 0)) t.heap ∧ va_K (dC, dI) vwCl [(u.1, .int)] t ∧ va_D (va_A [(h0, .inr (1, [.int 0, .null, .null, .null]))] sz) (mW u.1 u.2 0 (fun _ => 0) (fun _ => 0) (fun _ => 0))) (va_A [(h0, .inr (1, [.int 0, .null, .null, .null]))] sz)) 3 96 (va_A [(h0, .inr (1, [.int 0, .null, .null, .null]))] sz) := by
  refine Met.ofW (cc := cX1_init) (maxL := 1) (ret := none) (by decide) rfl ?_
  intro p e s m args below meth c s₁ B hml hv
  obtain ⟨rfl, hsz, hP, hK, hD0⟩ := hv
  have hx := B.exec
  have hb := B.bytes
  have hr := B.returns
  have hts := atoms_spec (ws := (ws_ yX1_init cX1_init 1 none)) B.pre
  have hts : ∀ w ∈ lw_all, w.before _ s = true := fun w h => hts w (List.mem_cons_of_mem _ h)
  have hown : s.vm.findClass RX1 = some m.cls := findClass_of_methodNamed B.named
  have hlocks := B.notSynchronized
  have hin : meth.name = "<init>" := (name_of_methodNamed B.named B.method).1
  subst hsz
  have hD := hD0.self (sz := s.heap.size)
  generalize hAe : va_A [(h0, .inr (1, [.int 0, .null, .null, .null]))] s.heap.size = A at hD ⊢
  have hA : ∀ q : Nat, s.heap.size ≤ q → A q := fun q h => by rw [← hAe]; exact Or.inr h
  have hS : va_S A s.heap s.heap [] := va_S.rf
  have hP : va_P (dC, dI) vwCl [(h0, .inr (1, [.int 0, .null, .null, .null]))] s.heap := hP
  have hl := lv_entry ([.ref h0]) (n := 1) (Nat.le_of_ble_eq_true rfl)
  rw [lg_entry_eq]
  generalize (lg_sl ([.ref h0]) ++ List.replicate (1 - (lg_sl ([.ref h0])).length) Slot.unset).toArray = ls at hl ⊢
  have hl : lv_has ls 1 [(0, .ref h0)] := hl
  refine lv_aload_n hx hb dX1_init_0 rfl (lv_at hl 0 rfl) ?_
  refine W.objInit hx hb hown (hts _ q169) (hts _ q25) (hts _ q26) rfl (by rw [hml]; exact hl.1) rfl dX1_init_1 (Nat.le_of_ble_eq_true rfl) (Nat.le_of_ble_eq_true rfl) ?_
  refine W.eq (g2 := F0 m 4 ls []) rfl ?_
  refine lv_aload_n hx hb dX1_init_4 rfl (lv_at hl 0 rfl) ?_
  refine lv_bipush (v := nI 32) hx hb dX1_init_5 (by decide) ?_
  refine va_newa (atype := .int) hx hb (hts _ q71) (ty := .int) rfl hK hP hD hS hA (n := nI 32) (N' := 32) (a0 := (32, .inl (fun _ => nI 0))) (fun cA => by rfl) (by decide) (by decide) (by decide) (Nat.le_of_ble_eq_true rfl) (Nat.le_of_ble_eq_true rfl) dX1_init_7 (fun a1 c1 H hK hP hD hS => ?_)
  have hP : va_P (dC, dI) vwCl [(h0, .inr (1, [.int 0, .null, .null, .null])), (a1, .inl (c1, 32, .inl (fun _ => nI 0)))] H := hP
  have hD : va_D A [(h0, .inr (1, [.int 0, .null, .null, .null])), (a1, .inl (c1, 32, .inl (fun _ => nI 0)))] := hD
  have hK : va_K (dC, dI) vwCl [(c1, .int)] s := hK
  refine va_putF (D := (dC, dI)) (ci := 1) (v := .ref a1) (ty := .array .int) (C := RX1) (T := TX1) (N := 4) hx hb hts in_X1 tyX1 tyX1_ok nmX1 hown hK hP hD hS 0 rfl rfl 1 (by decide) (hts _ q171) (fun _ h9 => h9) rfl hin rfl (by decide +kernel) rfl rfl (Nat.le_of_ble_eq_true rfl) dX1_init_9 (fun H locs hP hD hS => ?_)
  have hP : va_P (dC, dI) vwCl [(h0, .inr (1, [.int 0, .ref a1, .null, .null])), (a1, .inl (c1, 32, .inl (fun _ => nI 0)))] H := hP
  have hD : va_D A [(h0, .inr (1, [.int 0, .ref a1, .null, .null])), (a1, .inl (c1, 32, .inl (fun _ => nI 0)))] := hD
  refine lv_aload_n hx hb dX1_init_12 rfl (lv_at hl 0 rfl) ?_
  refine lv_bipush (v := nI 32) hx hb dX1_init_13 (by decide) ?_
  refine va_newa (atype := .int) hx hb (hts _ q71) (ty := .int) rfl hK hP hD hS hA (n := nI 32) (N' := 32) (a0 := (32, .inl (fun _ => nI 0))) (fun cA => by rfl) (by decide) (by decide) (by decide) (Nat.le_of_ble_eq_true rfl) (Nat.le_of_ble_eq_true rfl) dX1_init_15 (fun a2 c2 H hK hP hD hS => ?_)
  have hP : va_P (dC, dI) vwCl [(h0, .inr (1, [.int 0, .ref a1, .null, .null])), (a1, .inl (c1, 32, .inl (fun _ => nI 0))), (a2, .inl (c2, 32, .inl (fun _ => nI 0)))] H := hP
  have hD : va_D A [(h0, .inr (1, [.int 0, .ref a1, .null, .null])), (a1, .inl (c1, 32, .inl (fun _ => nI 0))), (a2, .inl (c2, 32, .inl (fun _ => nI 0)))] := hD
  have hK : va_K (dC, dI) vwCl [(c1, .int), (c2, .int)] s := hK
  refine va_putF (D := (dC, dI)) (ci := 1) (v := .ref a2) (ty := .array .int) (C := RX1) (T := TX1) (N := 4) hx hb hts in_X1 tyX1 tyX1_ok nmX1 hown hK hP hD hS 0 rfl rfl 2 (by decide) (hts _ q172) (fun _ h9 => h9) rfl hin rfl (by decide +kernel) rfl rfl (Nat.le_of_ble_eq_true rfl) dX1_init_17 (fun H locs hP hD hS => ?_)
  have hP : va_P (dC, dI) vwCl [(h0, .inr (1, [.int 0, .ref a1, .ref a2, .null])), (a1, .inl (c1, 32, .inl (fun _ => nI 0))), (a2, .inl (c2, 32, .inl (fun _ => nI 0)))] H := hP
  have hD : va_D A [(h0, .inr (1, [.int 0, .ref a1, .ref a2, .null])), (a1, .inl (c1, 32, .inl (fun _ => nI 0))), (a2, .inl (c2, 32, .inl (fun _ => nI 0)))] := hD
  refine lv_aload_n hx hb dX1_init_20 rfl (lv_at hl 0 rfl) ?_
  refine lv_bipush (v := nI 32) hx hb dX1_init_21 (by decide) ?_
  refine va_newa (atype := .int) hx hb (hts _ q71) (ty := .int) rfl hK hP hD hS hA (n := nI 32) (N' := 32) (a0 := (32, .inl (fun _ => nI 0))) (fun cA => by rfl) (by decide) (by decide) (by decide) (Nat.le_of_ble_eq_true rfl) (Nat.le_of_ble_eq_true rfl) dX1_init_23 (fun a3 c3 H hK hP hD hS => ?_)
  have hP : va_P (dC, dI) vwCl [(h0, .inr (1, [.int 0, .ref a1, .ref a2, .null])), (a1, .inl (c1, 32, .inl (fun _ => nI 0))), (a2, .inl (c2, 32, .inl (fun _ => nI 0))), (a3, .inl (c3, 32, .inl (fun _ => nI 0)))] H := hP
  have hD : va_D A [(h0, .inr (1, [.int 0, .ref a1, .ref a2, .null])), (a1, .inl (c1, 32, .inl (fun _ => nI 0))), (a2, .inl (c2, 32, .inl (fun _ => nI 0))), (a3, .inl (c3, 32, .inl (fun _ => nI 0)))] := hD
  have hK : va_K (dC, dI) vwCl [(c1, .int), (c2, .int), (c3, .int)] s := hK
  refine va_putF (D := (dC, dI)) (ci := 1) (v := .ref a3) (ty := .array .int) (C := RX1) (T := TX1) (N := 4) hx hb hts in_X1 tyX1 tyX1_ok nmX1 hown hK hP hD hS 0 rfl rfl 3 (by decide) (hts _ q173) (fun _ h9 => h9) rfl hin rfl (by decide +kernel) rfl rfl (Nat.le_of_ble_eq_true rfl) dX1_init_25 (fun H locs hP hD hS => ?_)
  have hP : va_P (dC, dI) vwCl [(h0, .inr (1, [.int 0, .ref a1, .ref a2, .ref a3])), (a1, .inl (c1, 32, .inl (fun _ => nI 0))), (a2, .inl (c2, 32, .inl (fun _ => nI 0))), (a3, .inl (c3, 32, .inl (fun _ => nI 0)))] H := hP
  have hD : va_D A [(h0, .inr (1, [.int 0, .ref a1, .ref a2, .ref a3])), (a1, .inl (c1, 32, .inl (fun _ => nI 0))), (a2, .inl (c2, 32, .inl (fun _ => nI 0))), (a3, .inl (c3, 32, .inl (fun _ => nI 0)))] := hD
  refine W.widen (k := 3) (n := 96) (by decide) (by decide) ?_
  have r0 : s.vm.findClass _ = some c1 := (hK.2 0 _ rfl).2
  have r1 : s.vm.findClass _ = some c2 := (hK.2 1 _ rfl).2
  have ec : c1 = c2 := Option.some.inj (r0.symm.trans r1)
  subst ec
  have r0 : s.vm.findClass _ = some c1 := (hK.2 0 _ rfl).2
  have r1 : s.vm.findClass _ = some c3 := (hK.2 2 _ rfl).2
  have ec : c1 = c3 := Option.some.inj (r0.symm.trans r1)
  subst ec
  obtain ⟨q, e0, e1, e2, e3⟩ : ∃ q : Nat → Nat, q 0 = h0 ∧ q 1 = a1 ∧ q 2 = a2 ∧ q 3 = a3 := ⟨fun k => if k = 0 then h0 else if k = 1 then a1 else if k = 2 then a2 else if k = 3 then a3 else 0, rfl, rfl, rfl, rfl⟩
  subst e0
  subst e1
  subst e2
  subst e3
  have hK : va_K (dC, dI) vwCl [(c1, .int)] s := hK.sub [0] rfl
  have hP : va_P (dC, dI) vwCl (mW c1 q 0 (fun _ => 0) (fun _ => 0) (fun _ => 0)) H := hP
  have hD : va_D A (mW c1 q 0 (fun _ => 0) (fun _ => 0) (fun _ => 0)) := hD
  exact W.vret hx hb hr (fun t ht hW => ⟨⟨(c1, q), rfl, rfl, by rw [ht]; exact hP, va_K.moved hW.alike hK, hD⟩, hS.F ht⟩) hS.2.2 dX1_init_28
end
section
set_option maxRecDepth 100000
def R_law : String := "PeerRoutesLaw"
set_option maxRecDepth 100000 in
theorem jX0_allow {p : Program} {l : Launch} {e : Env} {R : Room} {s : State} {m : MethodId} {args : Array Value} {below : List Frame} {meth : Method} {c : Code} {H : Heap} {locs : List Loc} {cells slots : Nat} {Q : State → Prop} {cc : ByteArray} {pc nL : Nat} {ls : Array Slot} {rest : List Value} {A : Nat → Prop} {H0 : Heap} {dC : Nat → ClassId} {dI : Nat → Nat → Nat} {cI cZ : ClassId} {qx qm : Nat → Nat} {he : Nat} {ro : Option Nat} {fr : Option Nat} {ab : Option Nat} {fu : Option Nat} {us : Nat → Bool} {bi : Nat → Nat} {le : Nat → Nat} {pe : Nat → Option Nat} {ch : Nat → Option Nat} {su : Nat → Int} {se : Nat → Int} {ha : Nat → Option Nat} {sk : Nat → Nat} {en : Nat} {sr : Nat → Nat} {ln : Nat → Nat} {pr : Nat → Nat} (S : CallFix p m c cc nL s args lw_all R_law) (hls : ls.size = nL) (hR : 3 + 1 ≤ R.frames ∧ 8 + (6 + 11) + 73 ≤ R.locals) (hrest : (rest.map fun v => v.category).sum ≤ 8) (hc : cells ≤ R.cells ∧ slots ≤ R.slots) (hK : va_K (dC, dI) vwCl (xT cI cZ) s) (hP : va_P (dC, dI) vwCl (xW cI cZ qx he ro fr ab fu us bi le pe ch su se ha sk ++ mW cI qm en sr ln pr) H) (hD : va_D A (xW cI cZ qx he ro fr ab fu us bi le pe ch su se ha sk ++ mW cI qm en sr ln pr)) (hS : va_S A H0 H locs) (hA : ∀ q : Nat, H0.size ≤ q → A q) (x1 x2 x3 : Int32) (D : Nat → Nat → Option Nat) (gt : TOK he ro fr us bi le pe ch D) (hd : decode cc pc = .ok (.invokevirtual 13, 3)) (kk : ∀ (r : Int32) (u : Nat × Option Nat × Option Nat × Option Nat × Option Nat × (Nat → Bool) × (Nat → Nat) × (Nat → Nat) × (Nat → Option Nat) × (Nat → Option Nat)) (H : Heap) (locs : List Loc), (∃ D2, TOK u.1 u.2.1 u.2.2.1 u.2.2.2.2.2.1 u.2.2.2.2.2.2.1 u.2.2.2.2.2.2.2.1 u.2.2.2.2.2.2.2.2.1 u.2.2.2.2.2.2.2.2.2 D2 ∧ ALS D x1 x2 x3 he u.1 D2 r) → va_P (dC, dI) vwCl (xW cI cZ qx u.1 u.2.1 u.2.2.1 u.2.2.2.1 u.2.2.2.2.1 u.2.2.2.2.2.1 u.2.2.2.2.2.2.1 u.2.2.2.2.2.2.2.1 u.2.2.2.2.2.2.2.2.1 u.2.2.2.2.2.2.2.2.2 su se ha sk ++ mW cI qm en sr ln pr) H → va_D A (xW cI cZ qx u.1 u.2.1 u.2.2.1 u.2.2.2.1 u.2.2.2.2.1 u.2.2.2.2.2.1 u.2.2.2.2.2.2.1 u.2.2.2.2.2.2.2.1 u.2.2.2.2.2.2.2.2.1 u.2.2.2.2.2.2.2.2.2 su se ha sk ++ mW cI qm en sr ln pr) → va_S A H0 H locs → W p l e R s m args below meth c H locs cells slots Q (F0 m (pc + 3) ls (.int r :: rest))) : W p l e R s m args below meth c H locs cells slots Q (F0 m pc ls (.int x3 :: .int x2 :: .int x1 :: .ref (qx 0) :: rest)) := by
  have hPc := hP.sub (ws' := xW cI cZ qx he ro fr ab fu us bi le pe ch su se ha sk) [0, 1, 2, 3, 4, 5, 6, 7, 8, 9] rfl
  have hDc := hD.sub (ws' := xW cI cZ qx he ro fr ab fu us bi le pe ch su se ha sk) [0, 1, 2, 3, 4, 5, 6, 7, 8, 9] (by decide) rfl
  have hKc : va_K (dC, dI) vwCl (xT cI cZ) s := hK
  have hFc := va_free (wc := xW cI cZ qx he ro fr ab fu us bi le pe ch su se ha sk) hD hS hA [0, 1, 2, 3, 4, 5, 6, 7, 8, 9] rfl
  refine va_calli (va_runV (As := [.int x1, .int x2, .int x3]) (rest := rest) S (metX0_allow l dC dI cI cZ qx H.size he ro fr ab fu us bi le pe ch su se ha sk x1 x2 x3 D gt) (cwV 3 S.2.2.2.2 (lw_V q72 q73 q74 q17 q75) rfl rfl rfl (by decide +kernel) hR) ⟨fun a U g mk q => by obtain ⟨q0, q1, qP, qK, qD⟩ := q; exact ⟨q0, q1, qP, va_K.moved (u := U) (U := U.calling g mk a) (Vm.Alike.refl U.vm) qK, qD⟩, va_recv hKc hPc (ci := 0) (q0 := 0) rfl rfl, fun U hU hW => ⟨rfl, by rw [hU], by rw [hU]; exact hPc, va_K.moved hW.alike hKc, hDc.weaken (fun _ _ _ _ => trivial)⟩⟩ rfl rfl hls rfl (lv_room hrest) hd hc) hS (fun q _ h => hFc q h) hFc (fun r u t H1 locs1 ht hvm hw hB hz1 hk1 hS1 => ?_)
  obtain ⟨hP1, hK1, hD1⟩ := hB
  rw [ht] at hP1
  obtain ⟨hP2, hD2⟩ := va_join (wr := mW cI qm en sr ln pr) (w1 := xW cI cZ qx u.1 u.2.1 u.2.2.1 u.2.2.2.1 u.2.2.2.2.1 u.2.2.2.2.2.1 u.2.2.2.2.2.2.1 u.2.2.2.2.2.2.2.1 u.2.2.2.2.2.2.2.2.1 u.2.2.2.2.2.2.2.2.2 su se ha sk) hP hD [0, 1, 2, 3, 4, 5, 6, 7, 8, 9] [10, 11, 12, 13] rfl rfl (by decide) (by decide) hk1 hFc hP1 hD1
  exact kk r u H1 locs1 hw (hP2.sub (ws' := xW cI cZ qx u.1 u.2.1 u.2.2.1 u.2.2.2.1 u.2.2.2.2.1 u.2.2.2.2.2.1 u.2.2.2.2.2.2.1 u.2.2.2.2.2.2.2.1 u.2.2.2.2.2.2.2.2.1 u.2.2.2.2.2.2.2.2.2 su se ha sk ++ mW cI qm en sr ln pr) [4, 5, 6, 7, 8, 9, 10, 11, 12, 13, 0, 1, 2, 3] rfl) (hD2.sub (ws' := xW cI cZ qx u.1 u.2.1 u.2.2.1 u.2.2.2.1 u.2.2.2.2.1 u.2.2.2.2.2.1 u.2.2.2.2.2.2.1 u.2.2.2.2.2.2.2.1 u.2.2.2.2.2.2.2.2.1 u.2.2.2.2.2.2.2.2.2 su se ha sk ++ mW cI qm en sr ln pr) [4, 5, 6, 7, 8, 9, 10, 11, 12, 13, 0, 1, 2, 3] (by decide) rfl) hS1
set_option maxRecDepth 100000 in
theorem jX0_deny {p : Program} {l : Launch} {e : Env} {R : Room} {s : State} {m : MethodId} {args : Array Value} {below : List Frame} {meth : Method} {c : Code} {H : Heap} {locs : List Loc} {cells slots : Nat} {Q : State → Prop} {cc : ByteArray} {pc nL : Nat} {ls : Array Slot} {rest : List Value} {A : Nat → Prop} {H0 : Heap} {dC : Nat → ClassId} {dI : Nat → Nat → Nat} {cI cZ : ClassId} {qx qm : Nat → Nat} {he : Nat} {ro : Option Nat} {fr : Option Nat} {ab : Option Nat} {fu : Option Nat} {us : Nat → Bool} {bi : Nat → Nat} {le : Nat → Nat} {pe : Nat → Option Nat} {ch : Nat → Option Nat} {su : Nat → Int} {se : Nat → Int} {ha : Nat → Option Nat} {sk : Nat → Nat} {en : Nat} {sr : Nat → Nat} {ln : Nat → Nat} {pr : Nat → Nat} (S : CallFix p m c cc nL s args lw_all R_law) (hls : ls.size = nL) (hR : 3 + 1 ≤ R.frames ∧ 8 + (5 + 11) + 70 ≤ R.locals) (hrest : (rest.map fun v => v.category).sum ≤ 8) (hc : cells ≤ R.cells ∧ slots ≤ R.slots) (hK : va_K (dC, dI) vwCl (xT cI cZ) s) (hP : va_P (dC, dI) vwCl (xW cI cZ qx he ro fr ab fu us bi le pe ch su se ha sk ++ mW cI qm en sr ln pr) H) (hD : va_D A (xW cI cZ qx he ro fr ab fu us bi le pe ch su se ha sk ++ mW cI qm en sr ln pr)) (hS : va_S A H0 H locs) (hA : ∀ q : Nat, H0.size ≤ q → A q) (x1 x2 : Int32) (D : Nat → Nat → Option Nat) (gt : TOK he ro fr us bi le pe ch D) (hd : decode cc pc = .ok (.invokevirtual 18, 3)) (kk : ∀ (r : Int32) (u : Nat × Option Nat × Option Nat × Option Nat × Option Nat × (Nat → Bool) × (Nat → Nat) × (Nat → Nat) × (Nat → Option Nat) × (Nat → Option Nat)) (H : Heap) (locs : List Loc), (∃ D2, TOK u.1 u.2.1 u.2.2.1 u.2.2.2.2.2.1 u.2.2.2.2.2.2.1 u.2.2.2.2.2.2.2.1 u.2.2.2.2.2.2.2.2.1 u.2.2.2.2.2.2.2.2.2 D2 ∧ DNS D x1 x2 u.1 D2 r) → va_P (dC, dI) vwCl (xW cI cZ qx u.1 u.2.1 u.2.2.1 u.2.2.2.1 u.2.2.2.2.1 u.2.2.2.2.2.1 u.2.2.2.2.2.2.1 u.2.2.2.2.2.2.2.1 u.2.2.2.2.2.2.2.2.1 u.2.2.2.2.2.2.2.2.2 su se ha sk ++ mW cI qm en sr ln pr) H → va_D A (xW cI cZ qx u.1 u.2.1 u.2.2.1 u.2.2.2.1 u.2.2.2.2.1 u.2.2.2.2.2.1 u.2.2.2.2.2.2.1 u.2.2.2.2.2.2.2.1 u.2.2.2.2.2.2.2.2.1 u.2.2.2.2.2.2.2.2.2 su se ha sk ++ mW cI qm en sr ln pr) → va_S A H0 H locs → W p l e R s m args below meth c H locs cells slots Q (F0 m (pc + 3) ls (.int r :: rest))) : W p l e R s m args below meth c H locs cells slots Q (F0 m pc ls (.int x2 :: .int x1 :: .ref (qx 0) :: rest)) := by
  have hPc := hP.sub (ws' := xW cI cZ qx he ro fr ab fu us bi le pe ch su se ha sk) [0, 1, 2, 3, 4, 5, 6, 7, 8, 9] rfl
  have hDc := hD.sub (ws' := xW cI cZ qx he ro fr ab fu us bi le pe ch su se ha sk) [0, 1, 2, 3, 4, 5, 6, 7, 8, 9] (by decide) rfl
  have hKc : va_K (dC, dI) vwCl (xT cI cZ) s := hK
  have hFc := va_free (wc := xW cI cZ qx he ro fr ab fu us bi le pe ch su se ha sk) hD hS hA [0, 1, 2, 3, 4, 5, 6, 7, 8, 9] rfl
  refine va_calli (va_runV (As := [.int x1, .int x2]) (rest := rest) S (metX0_deny l dC dI cI cZ qx H.size he ro fr ab fu us bi le pe ch su se ha sk x1 x2 D gt) (cwV 2 S.2.2.2.2 (lw_V q106 q107 q108 q17 q109) rfl rfl rfl (by decide +kernel) hR) ⟨fun a U g mk q => by obtain ⟨q0, q1, qP, qK, qD⟩ := q; exact ⟨q0, q1, qP, va_K.moved (u := U) (U := U.calling g mk a) (Vm.Alike.refl U.vm) qK, qD⟩, va_recv hKc hPc (ci := 0) (q0 := 0) rfl rfl, fun U hU hW => ⟨rfl, by rw [hU], by rw [hU]; exact hPc, va_K.moved hW.alike hKc, hDc.weaken (fun _ _ _ _ => trivial)⟩⟩ rfl rfl hls rfl (lv_room hrest) hd hc) hS (fun q _ h => hFc q h) hFc (fun r u t H1 locs1 ht hvm hw hB hz1 hk1 hS1 => ?_)
  obtain ⟨hP1, hK1, hD1⟩ := hB
  rw [ht] at hP1
  obtain ⟨hP2, hD2⟩ := va_join (wr := mW cI qm en sr ln pr) (w1 := xW cI cZ qx u.1 u.2.1 u.2.2.1 u.2.2.2.1 u.2.2.2.2.1 u.2.2.2.2.2.1 u.2.2.2.2.2.2.1 u.2.2.2.2.2.2.2.1 u.2.2.2.2.2.2.2.2.1 u.2.2.2.2.2.2.2.2.2 su se ha sk) hP hD [0, 1, 2, 3, 4, 5, 6, 7, 8, 9] [10, 11, 12, 13] rfl rfl (by decide) (by decide) hk1 hFc hP1 hD1
  exact kk r u H1 locs1 hw (hP2.sub (ws' := xW cI cZ qx u.1 u.2.1 u.2.2.1 u.2.2.2.1 u.2.2.2.2.1 u.2.2.2.2.2.1 u.2.2.2.2.2.2.1 u.2.2.2.2.2.2.2.1 u.2.2.2.2.2.2.2.2.1 u.2.2.2.2.2.2.2.2.2 su se ha sk ++ mW cI qm en sr ln pr) [4, 5, 6, 7, 8, 9, 10, 11, 12, 13, 0, 1, 2, 3] rfl) (hD2.sub (ws' := xW cI cZ qx u.1 u.2.1 u.2.2.1 u.2.2.2.1 u.2.2.2.2.1 u.2.2.2.2.2.1 u.2.2.2.2.2.2.1 u.2.2.2.2.2.2.2.1 u.2.2.2.2.2.2.2.2.1 u.2.2.2.2.2.2.2.2.2 su se ha sk ++ mW cI qm en sr ln pr) [4, 5, 6, 7, 8, 9, 10, 11, 12, 13, 0, 1, 2, 3] (by decide) rfl) hS1
set_option maxRecDepth 100000 in
theorem jX0_forget {p : Program} {l : Launch} {e : Env} {R : Room} {s : State} {m : MethodId} {args : Array Value} {below : List Frame} {meth : Method} {c : Code} {H : Heap} {locs : List Loc} {cells slots : Nat} {Q : State → Prop} {cc : ByteArray} {pc nL : Nat} {ls : Array Slot} {rest : List Value} {A : Nat → Prop} {H0 : Heap} {dC : Nat → ClassId} {dI : Nat → Nat → Nat} {cI cZ : ClassId} {qx qm : Nat → Nat} {he : Nat} {ro : Option Nat} {fr : Option Nat} {ab : Option Nat} {fu : Option Nat} {us : Nat → Bool} {bi : Nat → Nat} {le : Nat → Nat} {pe : Nat → Option Nat} {ch : Nat → Option Nat} {su : Nat → Int} {se : Nat → Int} {ha : Nat → Option Nat} {sk : Nat → Nat} {en : Nat} {sr : Nat → Nat} {ln : Nat → Nat} {pr : Nat → Nat} (S : CallFix p m c cc nL s args lw_all R_law) (hls : ls.size = nL) (hR : 3 + 1 ≤ R.frames ∧ 8 + (5 + 11) + 70 ≤ R.locals) (hrest : (rest.map fun v => v.category).sum ≤ 8) (hc : cells ≤ R.cells ∧ slots ≤ R.slots) (hK : va_K (dC, dI) vwCl (xT cI cZ) s) (hP : va_P (dC, dI) vwCl (xW cI cZ qx he ro fr ab fu us bi le pe ch su se ha sk ++ mW cI qm en sr ln pr) H) (hD : va_D A (xW cI cZ qx he ro fr ab fu us bi le pe ch su se ha sk ++ mW cI qm en sr ln pr)) (hS : va_S A H0 H locs) (hA : ∀ q : Nat, H0.size ≤ q → A q) (x1 : Int32) (D : Nat → Nat → Option Nat) (gt : TOK he ro fr us bi le pe ch D) (hd : decode cc pc = .ok (.invokevirtual 23, 3)) (kk : ∀ (r : Int32) (u : Nat × Option Nat × Option Nat × Option Nat × Option Nat × (Nat → Bool) × (Nat → Nat) × (Nat → Nat) × (Nat → Option Nat) × (Nat → Option Nat)) (H : Heap) (locs : List Loc), (∃ D2, TOK u.1 u.2.1 u.2.2.1 u.2.2.2.2.2.1 u.2.2.2.2.2.2.1 u.2.2.2.2.2.2.2.1 u.2.2.2.2.2.2.2.2.1 u.2.2.2.2.2.2.2.2.2 D2 ∧ FGS D x1 he u.1 D2 r) → va_P (dC, dI) vwCl (xW cI cZ qx u.1 u.2.1 u.2.2.1 u.2.2.2.1 u.2.2.2.2.1 u.2.2.2.2.2.1 u.2.2.2.2.2.2.1 u.2.2.2.2.2.2.2.1 u.2.2.2.2.2.2.2.2.1 u.2.2.2.2.2.2.2.2.2 su se ha sk ++ mW cI qm en sr ln pr) H → va_D A (xW cI cZ qx u.1 u.2.1 u.2.2.1 u.2.2.2.1 u.2.2.2.2.1 u.2.2.2.2.2.1 u.2.2.2.2.2.2.1 u.2.2.2.2.2.2.2.1 u.2.2.2.2.2.2.2.2.1 u.2.2.2.2.2.2.2.2.2 su se ha sk ++ mW cI qm en sr ln pr) → va_S A H0 H locs → W p l e R s m args below meth c H locs cells slots Q (F0 m (pc + 3) ls (.int r :: rest))) : W p l e R s m args below meth c H locs cells slots Q (F0 m pc ls (.int x1 :: .ref (qx 0) :: rest)) := by
  have hPc := hP.sub (ws' := xW cI cZ qx he ro fr ab fu us bi le pe ch su se ha sk) [0, 1, 2, 3, 4, 5, 6, 7, 8, 9] rfl
  have hDc := hD.sub (ws' := xW cI cZ qx he ro fr ab fu us bi le pe ch su se ha sk) [0, 1, 2, 3, 4, 5, 6, 7, 8, 9] (by decide) rfl
  have hKc : va_K (dC, dI) vwCl (xT cI cZ) s := hK
  have hFc := va_free (wc := xW cI cZ qx he ro fr ab fu us bi le pe ch su se ha sk) hD hS hA [0, 1, 2, 3, 4, 5, 6, 7, 8, 9] rfl
  refine va_calli (va_runV (As := [.int x1]) (rest := rest) S (metX0_forget l dC dI cI cZ qx H.size he ro fr ab fu us bi le pe ch su se ha sk x1 D gt) (cwV 1 S.2.2.2.2 (lw_V q118 q119 q120 q17 q121) rfl rfl rfl (by decide +kernel) hR) ⟨fun a U g mk q => by obtain ⟨q0, q1, qP, qK, qD⟩ := q; exact ⟨q0, q1, qP, va_K.moved (u := U) (U := U.calling g mk a) (Vm.Alike.refl U.vm) qK, qD⟩, va_recv hKc hPc (ci := 0) (q0 := 0) rfl rfl, fun U hU hW => ⟨rfl, by rw [hU], by rw [hU]; exact hPc, va_K.moved hW.alike hKc, hDc.weaken (fun _ _ _ _ => trivial)⟩⟩ rfl rfl hls rfl (lv_room hrest) hd hc) hS (fun q _ h => hFc q h) hFc (fun r u t H1 locs1 ht hvm hw hB hz1 hk1 hS1 => ?_)
  obtain ⟨hP1, hK1, hD1⟩ := hB
  rw [ht] at hP1
  obtain ⟨hP2, hD2⟩ := va_join (wr := mW cI qm en sr ln pr) (w1 := xW cI cZ qx u.1 u.2.1 u.2.2.1 u.2.2.2.1 u.2.2.2.2.1 u.2.2.2.2.2.1 u.2.2.2.2.2.2.1 u.2.2.2.2.2.2.2.1 u.2.2.2.2.2.2.2.2.1 u.2.2.2.2.2.2.2.2.2 su se ha sk) hP hD [0, 1, 2, 3, 4, 5, 6, 7, 8, 9] [10, 11, 12, 13] rfl rfl (by decide) (by decide) hk1 hFc hP1 hD1
  exact kk r u H1 locs1 hw (hP2.sub (ws' := xW cI cZ qx u.1 u.2.1 u.2.2.1 u.2.2.2.1 u.2.2.2.2.1 u.2.2.2.2.2.1 u.2.2.2.2.2.2.1 u.2.2.2.2.2.2.2.1 u.2.2.2.2.2.2.2.2.1 u.2.2.2.2.2.2.2.2.2 su se ha sk ++ mW cI qm en sr ln pr) [4, 5, 6, 7, 8, 9, 10, 11, 12, 13, 0, 1, 2, 3] rfl) (hD2.sub (ws' := xW cI cZ qx u.1 u.2.1 u.2.2.1 u.2.2.2.1 u.2.2.2.2.1 u.2.2.2.2.2.1 u.2.2.2.2.2.2.1 u.2.2.2.2.2.2.2.1 u.2.2.2.2.2.2.2.2.1 u.2.2.2.2.2.2.2.2.2 su se ha sk ++ mW cI qm en sr ln pr) [4, 5, 6, 7, 8, 9, 10, 11, 12, 13, 0, 1, 2, 3] (by decide) rfl) hS1
set_option maxRecDepth 100000 in
theorem jX0_owner {p : Program} {l : Launch} {e : Env} {R : Room} {s : State} {m : MethodId} {args : Array Value} {below : List Frame} {meth : Method} {c : Code} {H : Heap} {locs : List Loc} {cells slots : Nat} {Q : State → Prop} {cc : ByteArray} {pc nL : Nat} {ls : Array Slot} {rest : List Value} {dC : Nat → ClassId} {dI : Nat → Nat → Nat} {cI cZ : ClassId} {qx qm : Nat → Nat} {he : Nat} {ro : Option Nat} {fr : Option Nat} {ab : Option Nat} {fu : Option Nat} {us : Nat → Bool} {bi : Nat → Nat} {le : Nat → Nat} {pe : Nat → Option Nat} {ch : Nat → Option Nat} {su : Nat → Int} {se : Nat → Int} {ha : Nat → Option Nat} {sk : Nat → Nat} {en : Nat} {sr : Nat → Nat} {ln : Nat → Nat} {pr : Nat → Nat} (S : CallFix p m c cc nL s args lw_all R_law) (hls : ls.size = nL) (hR : 3 + 1 ≤ R.frames ∧ 8 + (3 + 11) + 67 ≤ R.locals) (hrest : (rest.map fun v => v.category).sum ≤ 8) (hc : cells ≤ R.cells ∧ slots ≤ R.slots) (hK : va_K (dC, dI) vwCl (xT cI cZ) s) (hP : va_P (dC, dI) vwCl (xW cI cZ qx he ro fr ab fu us bi le pe ch su se ha sk ++ mW cI qm en sr ln pr) H) (x : Int32) (a : Nat) (D : Nat → Nat → Option Nat) (gx : x &&& nI 65535 = nI a) (ga : a < 65536) (gT : TW us bi le ro ch) (gC : CT us bi le pe D) (gB : ∀ n r, ud us n → pe n = some r → r < 8) (hd : decode cc pc = .ok (.invokevirtual 28, 3)) (kk : W p l e R s m args below meth c H locs cells slots Q (F0 m (pc + 3) ls (.int (oI (ownD D a)) :: rest))) : W p l e R s m args below meth c H locs cells slots Q (F0 m pc ls (.int x :: .ref (qx 0) :: rest)) := by
  have hPc := hP.sub (ws' := xW cI cZ qx he ro fr ab fu us bi le pe ch su se ha sk) [0, 1, 2, 3, 4, 5, 6, 7, 8, 9] rfl
  have hKc : va_K (dC, dI) vwCl (xT cI cZ) s := hK
  exact vp_callSi (va_Run.run (va_runV (As := [.int x]) (rest := rest) S (metX0_owner l dC dI cI cZ qx he ro fr ab fu us bi le pe ch su se ha sk x a D gx ga gT gC gB) (cwV 1 S.2.2.2.2 (lw_V q122 q123 q124 q17 q125) rfl rfl rfl (by decide +kernel) hR) ⟨fun a U g mk q => by obtain ⟨q0, qP, qK⟩ := q; exact ⟨q0, qP, va_K.moved (u := U) (U := U.calling g mk a) (Vm.Alike.refl U.vm) qK⟩, va_recv hKc hPc (ci := 0) (q0 := 0) rfl rfl, fun U hU hW => ⟨rfl, by rw [hU]; exact hPc, va_K.moved hW.alike hKc⟩⟩ rfl rfl hls rfl (lv_room hrest) hd hc)) (fun r hr => by rw [hr]; exact kk)
set_option maxRecDepth 100000 in
theorem jX0_length {p : Program} {l : Launch} {e : Env} {R : Room} {s : State} {m : MethodId} {args : Array Value} {below : List Frame} {meth : Method} {c : Code} {H : Heap} {locs : List Loc} {cells slots : Nat} {Q : State → Prop} {cc : ByteArray} {pc nL : Nat} {ls : Array Slot} {rest : List Value} {dC : Nat → ClassId} {dI : Nat → Nat → Nat} {cI cZ : ClassId} {qx qm : Nat → Nat} {he : Nat} {ro : Option Nat} {fr : Option Nat} {ab : Option Nat} {fu : Option Nat} {us : Nat → Bool} {bi : Nat → Nat} {le : Nat → Nat} {pe : Nat → Option Nat} {ch : Nat → Option Nat} {su : Nat → Int} {se : Nat → Int} {ha : Nat → Option Nat} {sk : Nat → Nat} {en : Nat} {sr : Nat → Nat} {ln : Nat → Nat} {pr : Nat → Nat} (S : CallFix p m c cc nL s args lw_all R_law) (hls : ls.size = nL) (hR : 3 + 1 ≤ R.frames ∧ 8 + (3 + 11) + 67 ≤ R.locals) (hrest : (rest.map fun v => v.category).sum ≤ 8) (hc : cells ≤ R.cells ∧ slots ≤ R.slots) (hK : va_K (dC, dI) vwCl (xT cI cZ) s) (hP : va_P (dC, dI) vwCl (xW cI cZ qx he ro fr ab fu us bi le pe ch su se ha sk ++ mW cI qm en sr ln pr) H) (x : Int32) (a : Nat) (D : Nat → Nat → Option Nat) (gx : x &&& nI 65535 = nI a) (ga : a < 65536) (gT : TW us bi le ro ch) (gC : CT us bi le pe D) (gB : ∀ n r, ud us n → pe n = some r → r < 8) (hd : decode cc pc = .ok (.invokevirtual 32, 3)) (kk : W p l e R s m args below meth c H locs cells slots Q (F0 m (pc + 3) ls (.int (oI (look D a 17)) :: rest))) : W p l e R s m args below meth c H locs cells slots Q (F0 m pc ls (.int x :: .ref (qx 0) :: rest)) := by
  have hPc := hP.sub (ws' := xW cI cZ qx he ro fr ab fu us bi le pe ch su se ha sk) [0, 1, 2, 3, 4, 5, 6, 7, 8, 9] rfl
  have hKc : va_K (dC, dI) vwCl (xT cI cZ) s := hK
  exact vp_callSi (va_Run.run (va_runV (As := [.int x]) (rest := rest) S (metX0_length l dC dI cI cZ qx he ro fr ab fu us bi le pe ch su se ha sk x a D gx ga gT gC gB) (cwV 1 S.2.2.2.2 (lw_V q130 q131 q132 q17 q133) rfl rfl rfl (by decide +kernel) hR) ⟨fun a U g mk q => by obtain ⟨q0, qP, qK⟩ := q; exact ⟨q0, qP, va_K.moved (u := U) (U := U.calling g mk a) (Vm.Alike.refl U.vm) qK⟩, va_recv hKc hPc (ci := 0) (q0 := 0) rfl rfl, fun U hU hW => ⟨rfl, by rw [hU]; exact hPc, va_K.moved hW.alike hKc⟩⟩ rfl rfl hls rfl (lv_room hrest) hd hc)) (fun r hr => by rw [hr]; exact kk)
set_option maxRecDepth 100000 in
theorem jX0_owned {p : Program} {l : Launch} {e : Env} {R : Room} {s : State} {m : MethodId} {args : Array Value} {below : List Frame} {meth : Method} {c : Code} {H : Heap} {locs : List Loc} {cells slots : Nat} {Q : State → Prop} {cc : ByteArray} {pc nL : Nat} {ls : Array Slot} {rest : List Value} {A : Nat → Prop} {H0 : Heap} {dC : Nat → ClassId} {dI : Nat → Nat → Nat} {cI cZ : ClassId} {qx qm : Nat → Nat} {he : Nat} {ro : Option Nat} {fr : Option Nat} {ab : Option Nat} {fu : Option Nat} {us : Nat → Bool} {bi : Nat → Nat} {le : Nat → Nat} {pe : Nat → Option Nat} {ch : Nat → Option Nat} {su : Nat → Int} {se : Nat → Int} {ha : Nat → Option Nat} {sk : Nat → Nat} {en : Nat} {sr : Nat → Nat} {ln : Nat → Nat} {pr : Nat → Nat} (S : CallFix p m c cc nL s args lw_all R_law) (hls : ls.size = nL) (hR : 2 + 1 ≤ R.frames ∧ 8 + (2 + 11) + 49 ≤ R.locals) (hrest : (rest.map fun v => v.category).sum ≤ 8) (hc : cells ≤ R.cells ∧ slots ≤ R.slots) (hK : va_K (dC, dI) vwCl (xT cI cZ) s) (hP : va_P (dC, dI) vwCl (xW cI cZ qx he ro fr ab fu us bi le pe ch su se ha sk ++ mW cI qm en sr ln pr) H) (hD : va_D A (xW cI cZ qx he ro fr ab fu us bi le pe ch su se ha sk ++ mW cI qm en sr ln pr)) (hS : va_S A H0 H locs) (hA : ∀ q : Nat, H0.size ≤ q → A q) (x1 : Int32) (D : Nat → Nat → Option Nat) (gT : TW us bi le ro ch) (gC : CT us bi le pe D) (gB : PB us pe) (hd : decode cc pc = .ok (.invokevirtual 36, 3)) (kk : ∀ (r : Int32) (u : (Nat → Int) × (Nat → Int) × (Nat → Option Nat) × (Nat → Nat)) (H : Heap) (locs : List Loc), (OWS D x1 r) → va_P (dC, dI) vwCl (xW cI cZ qx he ro fr ab fu us bi le pe ch u.1 u.2.1 u.2.2.1 u.2.2.2 ++ mW cI qm en sr ln pr) H → va_D A (xW cI cZ qx he ro fr ab fu us bi le pe ch u.1 u.2.1 u.2.2.1 u.2.2.2 ++ mW cI qm en sr ln pr) → va_S A H0 H locs → W p l e R s m args below meth c H locs cells slots Q (F0 m (pc + 3) ls (.int r :: rest))) : W p l e R s m args below meth c H locs cells slots Q (F0 m pc ls (.int x1 :: .ref (qx 0) :: rest)) := by
  have hPc := hP.sub (ws' := xW cI cZ qx he ro fr ab fu us bi le pe ch su se ha sk) [0, 1, 2, 3, 4, 5, 6, 7, 8, 9] rfl
  have hDc := hD.sub (ws' := xW cI cZ qx he ro fr ab fu us bi le pe ch su se ha sk) [0, 1, 2, 3, 4, 5, 6, 7, 8, 9] (by decide) rfl
  have hKc : va_K (dC, dI) vwCl (xT cI cZ) s := hK
  have hFc := va_free (wc := xW cI cZ qx he ro fr ab fu us bi le pe ch su se ha sk) hD hS hA [0, 1, 2, 3, 4, 5, 6, 7, 8, 9] rfl
  refine va_calli (va_runV (As := [.int x1]) (rest := rest) S (metX0_owned l dC dI cI cZ qx H.size he ro fr ab fu us bi le pe ch su se ha sk x1 D gT gC gB) (cwV 1 S.2.2.2.2 (lw_V q134 q135 q136 q17 q137) rfl rfl rfl (by decide +kernel) hR) ⟨fun a U g mk q => by obtain ⟨q0, q1, qP, qK, qD⟩ := q; exact ⟨q0, q1, qP, va_K.moved (u := U) (U := U.calling g mk a) (Vm.Alike.refl U.vm) qK, qD⟩, va_recv hKc hPc (ci := 0) (q0 := 0) rfl rfl, fun U hU hW => ⟨rfl, by rw [hU], by rw [hU]; exact hPc, va_K.moved hW.alike hKc, hDc.weaken (fun _ _ _ _ => trivial)⟩⟩ rfl rfl hls rfl (lv_room hrest) hd hc) hS (fun q _ h => hFc q h) hFc (fun r u t H1 locs1 ht hvm hw hB hz1 hk1 hS1 => ?_)
  obtain ⟨hP1, hK1, hD1⟩ := hB
  rw [ht] at hP1
  obtain ⟨hP2, hD2⟩ := va_join (wr := mW cI qm en sr ln pr) (w1 := xW cI cZ qx he ro fr ab fu us bi le pe ch u.1 u.2.1 u.2.2.1 u.2.2.2) hP hD [0, 1, 2, 3, 4, 5, 6, 7, 8, 9] [10, 11, 12, 13] rfl rfl (by decide) (by decide) hk1 hFc hP1 hD1
  exact kk r u H1 locs1 hw (hP2.sub (ws' := xW cI cZ qx he ro fr ab fu us bi le pe ch u.1 u.2.1 u.2.2.1 u.2.2.2 ++ mW cI qm en sr ln pr) [4, 5, 6, 7, 8, 9, 10, 11, 12, 13, 0, 1, 2, 3] rfl) (hD2.sub (ws' := xW cI cZ qx he ro fr ab fu us bi le pe ch u.1 u.2.1 u.2.2.1 u.2.2.2 ++ mW cI qm en sr ln pr) [4, 5, 6, 7, 8, 9, 10, 11, 12, 13, 0, 1, 2, 3] (by decide) rfl) hS1
set_option maxRecDepth 100000 in
theorem jX0_next {p : Program} {l : Launch} {e : Env} {R : Room} {s : State} {m : MethodId} {args : Array Value} {below : List Frame} {meth : Method} {c : Code} {H : Heap} {locs : List Loc} {cells slots : Nat} {Q : State → Prop} {cc : ByteArray} {pc nL : Nat} {ls : Array Slot} {rest : List Value} {dC : Nat → ClassId} {dI : Nat → Nat → Nat} {cI cZ : ClassId} {qx qm : Nat → Nat} {he : Nat} {ro : Option Nat} {fr : Option Nat} {ab : Option Nat} {fu : Option Nat} {us : Nat → Bool} {bi : Nat → Nat} {le : Nat → Nat} {pe : Nat → Option Nat} {ch : Nat → Option Nat} {su : Nat → Int} {se : Nat → Int} {ha : Nat → Option Nat} {sk : Nat → Nat} {en : Nat} {sr : Nat → Nat} {ln : Nat → Nat} {pr : Nat → Nat} (S : CallFix p m c cc nL s args lw_all R_law) (hls : ls.size = nL) (hR : 4 + 1 ≤ R.frames ∧ 8 + (6 + 11) + 89 ≤ R.locals) (hrest : (rest.map fun v => v.category).sum ≤ 8) (hc : cells ≤ R.cells ∧ slots ≤ R.slots) (hK : va_K (dC, dI) vwCl (xT cI cZ) s) (hP : va_P (dC, dI) vwCl (xW cI cZ qx he ro fr ab fu us bi le pe ch su se ha sk ++ mW cI qm en sr ln pr) H) (x1 x2 : Int32) (D : Nat → Nat → Option Nat) (gT : TW us bi le ro ch) (gC : CT us bi le pe D) (gB : ∀ n r, ud us n → pe n = some r → r < 8) (hd : decode cc pc = .ok (.invokevirtual 40, 3)) (kk : ∀ r : Int32, (NXS D x1 x2 r) → W p l e R s m args below meth c H locs cells slots Q (F0 m (pc + 3) ls (.int r :: rest))) : W p l e R s m args below meth c H locs cells slots Q (F0 m pc ls (.int x2 :: .int x1 :: .ref (qx 0) :: rest)) := by
  have hPc := hP.sub (ws' := xW cI cZ qx he ro fr ab fu us bi le pe ch su se ha sk) [0, 1, 2, 3, 4, 5, 6, 7, 8, 9] rfl
  have hKc : va_K (dC, dI) vwCl (xT cI cZ) s := hK
  exact vp_callSi (va_Run.run (va_runV (As := [.int x1, .int x2]) (rest := rest) S (metX0_next l dC dI cI cZ qx he ro fr ab fu us bi le pe ch su se ha sk x1 x2 D gT gC gB) (cwV 2 S.2.2.2.2 (lw_V q147 q148 q149 q17 q150) rfl rfl rfl (by decide +kernel) hR) ⟨fun a U g mk q => by obtain ⟨q0, qP, qK⟩ := q; exact ⟨q0, qP, va_K.moved (u := U) (U := U.calling g mk a) (Vm.Alike.refl U.vm) qK⟩, va_recv hKc hPc (ci := 0) (q0 := 0) rfl rfl, fun U hU hW => ⟨rfl, by rw [hU]; exact hPc, va_K.moved hW.alike hKc⟩⟩ rfl rfl hls rfl (lv_room hrest) hd hc)) kk
set_option maxRecDepth 100000 in
theorem jX0_useless {p : Program} {l : Launch} {e : Env} {R : Room} {s : State} {m : MethodId} {args : Array Value} {below : List Frame} {meth : Method} {c : Code} {H : Heap} {locs : List Loc} {cells slots : Nat} {Q : State → Prop} {cc : ByteArray} {pc nL : Nat} {ls : Array Slot} {rest : List Value} {A : Nat → Prop} {H0 : Heap} {dC : Nat → ClassId} {dI : Nat → Nat → Nat} {cI cZ : ClassId} {qx qm : Nat → Nat} {he : Nat} {ro : Option Nat} {fr : Option Nat} {ab : Option Nat} {fu : Option Nat} {us : Nat → Bool} {bi : Nat → Nat} {le : Nat → Nat} {pe : Nat → Option Nat} {ch : Nat → Option Nat} {su : Nat → Int} {se : Nat → Int} {ha : Nat → Option Nat} {sk : Nat → Nat} {en : Nat} {sr : Nat → Nat} {ln : Nat → Nat} {pr : Nat → Nat} (S : CallFix p m c cc nL s args lw_all R_law) (hls : ls.size = nL) (hR : 2 + 1 ≤ R.frames ∧ 8 + (4 + 11) + 49 ≤ R.locals) (hrest : (rest.map fun v => v.category).sum ≤ 8) (hc : cells ≤ R.cells ∧ slots ≤ R.slots) (hK : va_K (dC, dI) vwCl (xT cI cZ) s) (hP : va_P (dC, dI) vwCl (xW cI cZ qx he ro fr ab fu us bi le pe ch su se ha sk ++ mW cI qm en sr ln pr) H) (hD : va_D A (xW cI cZ qx he ro fr ab fu us bi le pe ch su se ha sk ++ mW cI qm en sr ln pr)) (hS : va_S A H0 H locs) (hA : ∀ q : Nat, H0.size ≤ q → A q) (D : Nat → Nat → Option Nat) (gT : TW us bi le ro ch) (gC : CT us bi le pe D) (gB : PB us pe) (hd : decode cc pc = .ok (.invokevirtual 44, 3)) (kk : ∀ (r : Int32) (u : (Nat → Int) × (Nat → Int) × (Nat → Option Nat) × (Nat → Nat)) (H : Heap) (locs : List Loc), (r = zI (uslD D)) → va_P (dC, dI) vwCl (xW cI cZ qx he ro fr ab fu us bi le pe ch u.1 u.2.1 u.2.2.1 u.2.2.2 ++ mW cI qm en sr ln pr) H → va_D A (xW cI cZ qx he ro fr ab fu us bi le pe ch u.1 u.2.1 u.2.2.1 u.2.2.2 ++ mW cI qm en sr ln pr) → va_S A H0 H locs → W p l e R s m args below meth c H locs cells slots Q (F0 m (pc + 3) ls (.int r :: rest))) : W p l e R s m args below meth c H locs cells slots Q (F0 m pc ls (.ref (qx 0) :: rest)) := by
  have hPc := hP.sub (ws' := xW cI cZ qx he ro fr ab fu us bi le pe ch su se ha sk) [0, 1, 2, 3, 4, 5, 6, 7, 8, 9] rfl
  have hDc := hD.sub (ws' := xW cI cZ qx he ro fr ab fu us bi le pe ch su se ha sk) [0, 1, 2, 3, 4, 5, 6, 7, 8, 9] (by decide) rfl
  have hKc : va_K (dC, dI) vwCl (xT cI cZ) s := hK
  have hFc := va_free (wc := xW cI cZ qx he ro fr ab fu us bi le pe ch su se ha sk) hD hS hA [0, 1, 2, 3, 4, 5, 6, 7, 8, 9] rfl
  refine va_calli (va_runV (As := []) (rest := rest) S (metX0_useless l dC dI cI cZ qx H.size he ro fr ab fu us bi le pe ch su se ha sk D gT gC gB) (cwV 0 S.2.2.2.2 (lw_V q156 q157 q158 q17 q159) rfl rfl rfl (by decide +kernel) hR) ⟨fun a U g mk q => by obtain ⟨q0, q1, qP, qK, qD⟩ := q; exact ⟨q0, q1, qP, va_K.moved (u := U) (U := U.calling g mk a) (Vm.Alike.refl U.vm) qK, qD⟩, va_recv hKc hPc (ci := 0) (q0 := 0) rfl rfl, fun U hU hW => ⟨rfl, by rw [hU], by rw [hU]; exact hPc, va_K.moved hW.alike hKc, hDc.weaken (fun _ _ _ _ => trivial)⟩⟩ rfl rfl hls rfl (lv_room hrest) hd hc) hS (fun q _ h => hFc q h) hFc (fun r u t H1 locs1 ht hvm hw hB hz1 hk1 hS1 => ?_)
  obtain ⟨hP1, hK1, hD1⟩ := hB
  rw [ht] at hP1
  obtain ⟨hP2, hD2⟩ := va_join (wr := mW cI qm en sr ln pr) (w1 := xW cI cZ qx he ro fr ab fu us bi le pe ch u.1 u.2.1 u.2.2.1 u.2.2.2) hP hD [0, 1, 2, 3, 4, 5, 6, 7, 8, 9] [10, 11, 12, 13] rfl rfl (by decide) (by decide) hk1 hFc hP1 hD1
  exact kk r u H1 locs1 hw (hP2.sub (ws' := xW cI cZ qx he ro fr ab fu us bi le pe ch u.1 u.2.1 u.2.2.1 u.2.2.2 ++ mW cI qm en sr ln pr) [4, 5, 6, 7, 8, 9, 10, 11, 12, 13, 0, 1, 2, 3] rfl) (hD2.sub (ws' := xW cI cZ qx he ro fr ab fu us bi le pe ch u.1 u.2.1 u.2.2.1 u.2.2.2 ++ mW cI qm en sr ln pr) [4, 5, 6, 7, 8, 9, 10, 11, 12, 13, 0, 1, 2, 3] (by decide) rfl) hS1
set_option maxRecDepth 100000 in
theorem jX0_entries {p : Program} {l : Launch} {e : Env} {R : Room} {s : State} {m : MethodId} {args : Array Value} {below : List Frame} {meth : Method} {c : Code} {H : Heap} {locs : List Loc} {cells slots : Nat} {Q : State → Prop} {cc : ByteArray} {pc nL : Nat} {ls : Array Slot} {rest : List Value} {dC : Nat → ClassId} {dI : Nat → Nat → Nat} {cI cZ : ClassId} {qx qm : Nat → Nat} {he : Nat} {ro : Option Nat} {fr : Option Nat} {ab : Option Nat} {fu : Option Nat} {us : Nat → Bool} {bi : Nat → Nat} {le : Nat → Nat} {pe : Nat → Option Nat} {ch : Nat → Option Nat} {su : Nat → Int} {se : Nat → Int} {ha : Nat → Option Nat} {sk : Nat → Nat} {en : Nat} {sr : Nat → Nat} {ln : Nat → Nat} {pr : Nat → Nat} (S : CallFix p m c cc nL s args lw_all R_law) (hls : ls.size = nL) (hR : 0 + 1 ≤ R.frames ∧ 8 + (4 + 11) + 0 ≤ R.locals) (hrest : (rest.map fun v => v.category).sum ≤ 8) (hc : cells ≤ R.cells ∧ slots ≤ R.slots) (hK : va_K (dC, dI) vwCl (xT cI cZ) s) (hP : va_P (dC, dI) vwCl (xW cI cZ qx he ro fr ab fu us bi le pe ch su se ha sk ++ mW cI qm en sr ln pr) H) (x1 : Int32) (D : Nat → Nat → Option Nat) (gT : TW us bi le ro ch) (gC : CT us bi le pe D) (gB : PB us pe) (hd : decode cc pc = .ok (.invokevirtual 49, 3)) (kk : ∀ r : Int32, (ENS D x1 r) → W p l e R s m args below meth c H locs cells slots Q (F0 m (pc + 3) ls (.int r :: rest))) : W p l e R s m args below meth c H locs cells slots Q (F0 m pc ls (.int x1 :: .ref (qx 0) :: rest)) := by
  have hPc := hP.sub (ws' := xW cI cZ qx he ro fr ab fu us bi le pe ch su se ha sk) [0, 1, 2, 3, 4, 5, 6, 7, 8, 9] rfl
  have hKc : va_K (dC, dI) vwCl (xT cI cZ) s := hK
  exact vp_callSi (va_Run.run (va_runV (As := [.int x1]) (rest := rest) S (metX0_entries l dC dI cI cZ qx he ro fr ab fu us bi le pe ch su se ha sk x1 D gT gC gB) (cwV 1 S.2.2.2.2 (lw_V q160 q161 q162 q17 q163) rfl rfl rfl (by decide +kernel) hR) ⟨fun a U g mk q => by obtain ⟨q0, qP, qK⟩ := q; exact ⟨q0, qP, va_K.moved (u := U) (U := U.calling g mk a) (Vm.Alike.refl U.vm) qK⟩, va_recv hKc hPc (ci := 0) (q0 := 0) rfl rfl, fun U hU hW => ⟨rfl, by rw [hU]; exact hPc, va_K.moved hW.alike hKc⟩⟩ rfl rfl hls rfl (lv_room hrest) hd hc)) kk
set_option maxRecDepth 100000 in
theorem jX1_allow {p : Program} {l : Launch} {e : Env} {R : Room} {s : State} {m : MethodId} {args : Array Value} {below : List Frame} {meth : Method} {c : Code} {H : Heap} {locs : List Loc} {cells slots : Nat} {Q : State → Prop} {cc : ByteArray} {pc nL : Nat} {ls : Array Slot} {rest : List Value} {A : Nat → Prop} {H0 : Heap} {dC : Nat → ClassId} {dI : Nat → Nat → Nat} {cI cZ : ClassId} {qx qm : Nat → Nat} {he : Nat} {ro : Option Nat} {fr : Option Nat} {ab : Option Nat} {fu : Option Nat} {us : Nat → Bool} {bi : Nat → Nat} {le : Nat → Nat} {pe : Nat → Option Nat} {ch : Nat → Option Nat} {su : Nat → Int} {se : Nat → Int} {ha : Nat → Option Nat} {sk : Nat → Nat} {en : Nat} {sr : Nat → Nat} {ln : Nat → Nat} {pr : Nat → Nat} (S : CallFix p m c cc nL s args lw_all R_law) (hls : ls.size = nL) (hR : 3 + 1 ≤ R.frames ∧ 8 + (5 + 11) + 67 ≤ R.locals) (hrest : (rest.map fun v => v.category).sum ≤ 8) (hc : cells ≤ R.cells ∧ slots ≤ R.slots) (hK : va_K (dC, dI) vwCl (xT cI cZ) s) (hP : va_P (dC, dI) vwCl (xW cI cZ qx he ro fr ab fu us bi le pe ch su se ha sk ++ mW cI qm en sr ln pr) H) (hD : va_D A (xW cI cZ qx he ro fr ab fu us bi le pe ch su se ha sk ++ mW cI qm en sr ln pr)) (hS : va_S A H0 H locs) (hA : ∀ q : Nat, H0.size ≤ q → A q) (x1 x2 x3 : Int32) (D : Nat → Nat → Option Nat) (gm : MOK en sr ln pr D) (hd : decode cc pc = .ok (.invokevirtual 17, 3)) (kk : ∀ (r : Int32) (u : Nat × (Nat → Nat) × (Nat → Nat) × (Nat → Nat)) (H : Heap) (locs : List Loc), (∃ D2, MOK u.1 u.2.1 u.2.2.1 u.2.2.2 D2 ∧ ALS D x1 x2 x3 en u.1 D2 r) → va_P (dC, dI) vwCl (xW cI cZ qx he ro fr ab fu us bi le pe ch su se ha sk ++ mW cI qm u.1 u.2.1 u.2.2.1 u.2.2.2) H → va_D A (xW cI cZ qx he ro fr ab fu us bi le pe ch su se ha sk ++ mW cI qm u.1 u.2.1 u.2.2.1 u.2.2.2) → va_S A H0 H locs → W p l e R s m args below meth c H locs cells slots Q (F0 m (pc + 3) ls (.int r :: rest))) : W p l e R s m args below meth c H locs cells slots Q (F0 m pc ls (.int x3 :: .int x2 :: .int x1 :: .ref (qm 0) :: rest)) := by
  have hPc := hP.sub (ws' := mW cI qm en sr ln pr) [10, 11, 12, 13] rfl
  have hDc := hD.sub (ws' := mW cI qm en sr ln pr) [10, 11, 12, 13] (by decide) rfl
  have hKc : va_K (dC, dI) vwCl (mT cI) s := (hK.sub (tys' := mT cI) [0] rfl)
  have hFc := va_free (wc := mW cI qm en sr ln pr) hD hS hA [10, 11, 12, 13] rfl
  refine va_calli (va_runV (As := [.int x1, .int x2, .int x3]) (rest := rest) S (metX1_allow l dC dI cI qm H.size en sr ln pr x1 x2 x3 D gm) (cwV 3 S.2.2.2.2 (lw_V q183 q184 q185 q18 q186) rfl rfl rfl (by decide +kernel) hR) ⟨fun a U g mk q => by obtain ⟨q0, q1, qP, qK, qD⟩ := q; exact ⟨q0, q1, qP, va_K.moved (u := U) (U := U.calling g mk a) (Vm.Alike.refl U.vm) qK, qD⟩, va_recv hKc hPc (ci := 1) (q0 := 0) rfl rfl, fun U hU hW => ⟨rfl, by rw [hU], by rw [hU]; exact hPc, va_K.moved hW.alike hKc, hDc.weaken (fun _ _ _ _ => trivial)⟩⟩ rfl rfl hls rfl (lv_room hrest) hd hc) hS (fun q _ h => hFc q h) hFc (fun r u t H1 locs1 ht hvm hw hB hz1 hk1 hS1 => ?_)
  obtain ⟨hP1, hK1, hD1⟩ := hB
  rw [ht] at hP1
  obtain ⟨hP2, hD2⟩ := va_join (wr := xW cI cZ qx he ro fr ab fu us bi le pe ch su se ha sk) (w1 := mW cI qm u.1 u.2.1 u.2.2.1 u.2.2.2) hP hD [10, 11, 12, 13] [0, 1, 2, 3, 4, 5, 6, 7, 8, 9] rfl rfl (by decide) (by decide) hk1 hFc hP1 hD1
  exact kk r u H1 locs1 hw hP2 hD2 hS1
set_option maxRecDepth 100000 in
theorem jX1_deny {p : Program} {l : Launch} {e : Env} {R : Room} {s : State} {m : MethodId} {args : Array Value} {below : List Frame} {meth : Method} {c : Code} {H : Heap} {locs : List Loc} {cells slots : Nat} {Q : State → Prop} {cc : ByteArray} {pc nL : Nat} {ls : Array Slot} {rest : List Value} {A : Nat → Prop} {H0 : Heap} {dC : Nat → ClassId} {dI : Nat → Nat → Nat} {cI cZ : ClassId} {qx qm : Nat → Nat} {he : Nat} {ro : Option Nat} {fr : Option Nat} {ab : Option Nat} {fu : Option Nat} {us : Nat → Bool} {bi : Nat → Nat} {le : Nat → Nat} {pe : Nat → Option Nat} {ch : Nat → Option Nat} {su : Nat → Int} {se : Nat → Int} {ha : Nat → Option Nat} {sk : Nat → Nat} {en : Nat} {sr : Nat → Nat} {ln : Nat → Nat} {pr : Nat → Nat} (S : CallFix p m c cc nL s args lw_all R_law) (hls : ls.size = nL) (hR : 3 + 1 ≤ R.frames ∧ 8 + (4 + 11) + 67 ≤ R.locals) (hrest : (rest.map fun v => v.category).sum ≤ 8) (hc : cells ≤ R.cells ∧ slots ≤ R.slots) (hK : va_K (dC, dI) vwCl (xT cI cZ) s) (hP : va_P (dC, dI) vwCl (xW cI cZ qx he ro fr ab fu us bi le pe ch su se ha sk ++ mW cI qm en sr ln pr) H) (hD : va_D A (xW cI cZ qx he ro fr ab fu us bi le pe ch su se ha sk ++ mW cI qm en sr ln pr)) (hS : va_S A H0 H locs) (hA : ∀ q : Nat, H0.size ≤ q → A q) (x1 x2 : Int32) (D : Nat → Nat → Option Nat) (gm : MOK en sr ln pr D) (hd : decode cc pc = .ok (.invokevirtual 22, 3)) (kk : ∀ (r : Int32) (u : Nat × (Nat → Nat) × (Nat → Nat) × (Nat → Nat)) (H : Heap) (locs : List Loc), (∃ D2, MOK u.1 u.2.1 u.2.2.1 u.2.2.2 D2 ∧ DNS D x1 x2 u.1 D2 r) → va_P (dC, dI) vwCl (xW cI cZ qx he ro fr ab fu us bi le pe ch su se ha sk ++ mW cI qm u.1 u.2.1 u.2.2.1 u.2.2.2) H → va_D A (xW cI cZ qx he ro fr ab fu us bi le pe ch su se ha sk ++ mW cI qm u.1 u.2.1 u.2.2.1 u.2.2.2) → va_S A H0 H locs → W p l e R s m args below meth c H locs cells slots Q (F0 m (pc + 3) ls (.int r :: rest))) : W p l e R s m args below meth c H locs cells slots Q (F0 m pc ls (.int x2 :: .int x1 :: .ref (qm 0) :: rest)) := by
  have hPc := hP.sub (ws' := mW cI qm en sr ln pr) [10, 11, 12, 13] rfl
  have hDc := hD.sub (ws' := mW cI qm en sr ln pr) [10, 11, 12, 13] (by decide) rfl
  have hKc : va_K (dC, dI) vwCl (mT cI) s := (hK.sub (tys' := mT cI) [0] rfl)
  have hFc := va_free (wc := mW cI qm en sr ln pr) hD hS hA [10, 11, 12, 13] rfl
  refine va_calli (va_runV (As := [.int x1, .int x2]) (rest := rest) S (metX1_deny l dC dI cI qm H.size en sr ln pr x1 x2 D gm) (cwV 2 S.2.2.2.2 (lw_V q201 q202 q203 q18 q204) rfl rfl rfl (by decide +kernel) hR) ⟨fun a U g mk q => by obtain ⟨q0, q1, qP, qK, qD⟩ := q; exact ⟨q0, q1, qP, va_K.moved (u := U) (U := U.calling g mk a) (Vm.Alike.refl U.vm) qK, qD⟩, va_recv hKc hPc (ci := 1) (q0 := 0) rfl rfl, fun U hU hW => ⟨rfl, by rw [hU], by rw [hU]; exact hPc, va_K.moved hW.alike hKc, hDc.weaken (fun _ _ _ _ => trivial)⟩⟩ rfl rfl hls rfl (lv_room hrest) hd hc) hS (fun q _ h => hFc q h) hFc (fun r u t H1 locs1 ht hvm hw hB hz1 hk1 hS1 => ?_)
  obtain ⟨hP1, hK1, hD1⟩ := hB
  rw [ht] at hP1
  obtain ⟨hP2, hD2⟩ := va_join (wr := xW cI cZ qx he ro fr ab fu us bi le pe ch su se ha sk) (w1 := mW cI qm u.1 u.2.1 u.2.2.1 u.2.2.2) hP hD [10, 11, 12, 13] [0, 1, 2, 3, 4, 5, 6, 7, 8, 9] rfl rfl (by decide) (by decide) hk1 hFc hP1 hD1
  exact kk r u H1 locs1 hw hP2 hD2 hS1
set_option maxRecDepth 100000 in
theorem jX1_forget {p : Program} {l : Launch} {e : Env} {R : Room} {s : State} {m : MethodId} {args : Array Value} {below : List Frame} {meth : Method} {c : Code} {H : Heap} {locs : List Loc} {cells slots : Nat} {Q : State → Prop} {cc : ByteArray} {pc nL : Nat} {ls : Array Slot} {rest : List Value} {A : Nat → Prop} {H0 : Heap} {dC : Nat → ClassId} {dI : Nat → Nat → Nat} {cI cZ : ClassId} {qx qm : Nat → Nat} {he : Nat} {ro : Option Nat} {fr : Option Nat} {ab : Option Nat} {fu : Option Nat} {us : Nat → Bool} {bi : Nat → Nat} {le : Nat → Nat} {pe : Nat → Option Nat} {ch : Nat → Option Nat} {su : Nat → Int} {se : Nat → Int} {ha : Nat → Option Nat} {sk : Nat → Nat} {en : Nat} {sr : Nat → Nat} {ln : Nat → Nat} {pr : Nat → Nat} (S : CallFix p m c cc nL s args lw_all R_law) (hls : ls.size = nL) (hR : 1 + 1 ≤ R.frames ∧ 8 + (4 + 11) + 21 ≤ R.locals) (hrest : (rest.map fun v => v.category).sum ≤ 8) (hc : cells ≤ R.cells ∧ slots ≤ R.slots) (hK : va_K (dC, dI) vwCl (xT cI cZ) s) (hP : va_P (dC, dI) vwCl (xW cI cZ qx he ro fr ab fu us bi le pe ch su se ha sk ++ mW cI qm en sr ln pr) H) (hD : va_D A (xW cI cZ qx he ro fr ab fu us bi le pe ch su se ha sk ++ mW cI qm en sr ln pr)) (hS : va_S A H0 H locs) (hA : ∀ q : Nat, H0.size ≤ q → A q) (x1 : Int32) (D : Nat → Nat → Option Nat) (gm : MOK en sr ln pr D) (hd : decode cc pc = .ok (.invokevirtual 27, 3)) (kk : ∀ (r : Int32) (u : Nat × (Nat → Nat) × (Nat → Nat) × (Nat → Nat)) (H : Heap) (locs : List Loc), (∃ D2, MOK u.1 u.2.1 u.2.2.1 u.2.2.2 D2 ∧ FGS D x1 en u.1 D2 r) → va_P (dC, dI) vwCl (xW cI cZ qx he ro fr ab fu us bi le pe ch su se ha sk ++ mW cI qm u.1 u.2.1 u.2.2.1 u.2.2.2) H → va_D A (xW cI cZ qx he ro fr ab fu us bi le pe ch su se ha sk ++ mW cI qm u.1 u.2.1 u.2.2.1 u.2.2.2) → va_S A H0 H locs → W p l e R s m args below meth c H locs cells slots Q (F0 m (pc + 3) ls (.int r :: rest))) : W p l e R s m args below meth c H locs cells slots Q (F0 m pc ls (.int x1 :: .ref (qm 0) :: rest)) := by
  have hPc := hP.sub (ws' := mW cI qm en sr ln pr) [10, 11, 12, 13] rfl
  have hDc := hD.sub (ws' := mW cI qm en sr ln pr) [10, 11, 12, 13] (by decide) rfl
  have hKc : va_K (dC, dI) vwCl (mT cI) s := (hK.sub (tys' := mT cI) [0] rfl)
  have hFc := va_free (wc := mW cI qm en sr ln pr) hD hS hA [10, 11, 12, 13] rfl
  refine va_calli (va_runV (As := [.int x1]) (rest := rest) S (metX1_forget l dC dI cI qm H.size en sr ln pr x1 D gm) (cwV 1 S.2.2.2.2 (lw_V q209 q210 q211 q18 q212) rfl rfl rfl (by decide +kernel) hR) ⟨fun a U g mk q => by obtain ⟨q0, q1, qP, qK, qD⟩ := q; exact ⟨q0, q1, qP, va_K.moved (u := U) (U := U.calling g mk a) (Vm.Alike.refl U.vm) qK, qD⟩, va_recv hKc hPc (ci := 1) (q0 := 0) rfl rfl, fun U hU hW => ⟨rfl, by rw [hU], by rw [hU]; exact hPc, va_K.moved hW.alike hKc, hDc.weaken (fun _ _ _ _ => trivial)⟩⟩ rfl rfl hls rfl (lv_room hrest) hd hc) hS (fun q _ h => hFc q h) hFc (fun r u t H1 locs1 ht hvm hw hB hz1 hk1 hS1 => ?_)
  obtain ⟨hP1, hK1, hD1⟩ := hB
  rw [ht] at hP1
  obtain ⟨hP2, hD2⟩ := va_join (wr := xW cI cZ qx he ro fr ab fu us bi le pe ch su se ha sk) (w1 := mW cI qm u.1 u.2.1 u.2.2.1 u.2.2.2) hP hD [10, 11, 12, 13] [0, 1, 2, 3, 4, 5, 6, 7, 8, 9] rfl rfl (by decide) (by decide) hk1 hFc hP1 hD1
  exact kk r u H1 locs1 hw hP2 hD2 hS1
set_option maxRecDepth 100000 in
theorem jX1_owner {p : Program} {l : Launch} {e : Env} {R : Room} {s : State} {m : MethodId} {args : Array Value} {below : List Frame} {meth : Method} {c : Code} {H : Heap} {locs : List Loc} {cells slots : Nat} {Q : State → Prop} {cc : ByteArray} {pc nL : Nat} {ls : Array Slot} {rest : List Value} {dC : Nat → ClassId} {dI : Nat → Nat → Nat} {cI cZ : ClassId} {qx qm : Nat → Nat} {he : Nat} {ro : Option Nat} {fr : Option Nat} {ab : Option Nat} {fu : Option Nat} {us : Nat → Bool} {bi : Nat → Nat} {le : Nat → Nat} {pe : Nat → Option Nat} {ch : Nat → Option Nat} {su : Nat → Int} {se : Nat → Int} {ha : Nat → Option Nat} {sk : Nat → Nat} {en : Nat} {sr : Nat → Nat} {ln : Nat → Nat} {pr : Nat → Nat} (S : CallFix p m c cc nL s args lw_all R_law) (hls : ls.size = nL) (hR : 3 + 1 ≤ R.frames ∧ 8 + (3 + 11) + 68 ≤ R.locals) (hrest : (rest.map fun v => v.category).sum ≤ 8) (hc : cells ≤ R.cells ∧ slots ≤ R.slots) (hK : va_K (dC, dI) vwCl (xT cI cZ) s) (hP : va_P (dC, dI) vwCl (xW cI cZ qx he ro fr ab fu us bi le pe ch su se ha sk ++ mW cI qm en sr ln pr) H) (x : Int32) (a : Nat) (gx : x &&& nI 65535 = nI a) (ga : a < 65536) (D : Nat → Nat → Option Nat) (gm : MOK en sr ln pr D) (hd : decode cc pc = .ok (.invokevirtual 31, 3)) (kk : W p l e R s m args below meth c H locs cells slots Q (F0 m (pc + 3) ls (.int (oI (ownD D a)) :: rest))) : W p l e R s m args below meth c H locs cells slots Q (F0 m pc ls (.int x :: .ref (qm 0) :: rest)) := by
  have hPc := hP.sub (ws' := mW cI qm en sr ln pr) [10, 11, 12, 13] rfl
  have hKc : va_K (dC, dI) vwCl (mT cI) s := (hK.sub (tys' := mT cI) [0] rfl)
  exact vp_callSi (va_Run.run (va_runV (As := [.int x]) (rest := rest) S (metX1_owner l dC dI cI qm en sr ln pr x a gx ga D gm) (cwV 1 S.2.2.2.2 (lw_V q213 q214 q215 q18 q216) rfl rfl rfl (by decide +kernel) hR) ⟨fun a U g mk q => by obtain ⟨q0, qP, qK⟩ := q; exact ⟨q0, qP, va_K.moved (u := U) (U := U.calling g mk a) (Vm.Alike.refl U.vm) qK⟩, va_recv hKc hPc (ci := 1) (q0 := 0) rfl rfl, fun U hU hW => ⟨rfl, by rw [hU]; exact hPc, va_K.moved hW.alike hKc⟩⟩ rfl rfl hls rfl (lv_room hrest) hd hc)) (fun r hr => by rw [hr]; exact kk)
set_option maxRecDepth 100000 in
theorem jX1_length {p : Program} {l : Launch} {e : Env} {R : Room} {s : State} {m : MethodId} {args : Array Value} {below : List Frame} {meth : Method} {c : Code} {H : Heap} {locs : List Loc} {cells slots : Nat} {Q : State → Prop} {cc : ByteArray} {pc nL : Nat} {ls : Array Slot} {rest : List Value} {dC : Nat → ClassId} {dI : Nat → Nat → Nat} {cI cZ : ClassId} {qx qm : Nat → Nat} {he : Nat} {ro : Option Nat} {fr : Option Nat} {ab : Option Nat} {fu : Option Nat} {us : Nat → Bool} {bi : Nat → Nat} {le : Nat → Nat} {pe : Nat → Option Nat} {ch : Nat → Option Nat} {su : Nat → Int} {se : Nat → Int} {ha : Nat → Option Nat} {sk : Nat → Nat} {en : Nat} {sr : Nat → Nat} {ln : Nat → Nat} {pr : Nat → Nat} (S : CallFix p m c cc nL s args lw_all R_law) (hls : ls.size = nL) (hR : 3 + 1 ≤ R.frames ∧ 8 + (3 + 11) + 68 ≤ R.locals) (hrest : (rest.map fun v => v.category).sum ≤ 8) (hc : cells ≤ R.cells ∧ slots ≤ R.slots) (hK : va_K (dC, dI) vwCl (xT cI cZ) s) (hP : va_P (dC, dI) vwCl (xW cI cZ qx he ro fr ab fu us bi le pe ch su se ha sk ++ mW cI qm en sr ln pr) H) (x : Int32) (a : Nat) (gx : x &&& nI 65535 = nI a) (ga : a < 65536) (D : Nat → Nat → Option Nat) (gm : MOK en sr ln pr D) (hd : decode cc pc = .ok (.invokevirtual 35, 3)) (kk : W p l e R s m args below meth c H locs cells slots Q (F0 m (pc + 3) ls (.int (oI (look D a 17)) :: rest))) : W p l e R s m args below meth c H locs cells slots Q (F0 m pc ls (.int x :: .ref (qm 0) :: rest)) := by
  have hPc := hP.sub (ws' := mW cI qm en sr ln pr) [10, 11, 12, 13] rfl
  have hKc : va_K (dC, dI) vwCl (mT cI) s := (hK.sub (tys' := mT cI) [0] rfl)
  exact vp_callSi (va_Run.run (va_runV (As := [.int x]) (rest := rest) S (metX1_length l dC dI cI qm en sr ln pr x a gx ga D gm) (cwV 1 S.2.2.2.2 (lw_V q225 q226 q227 q18 q228) rfl rfl rfl (by decide +kernel) hR) ⟨fun a U g mk q => by obtain ⟨q0, qP, qK⟩ := q; exact ⟨q0, qP, va_K.moved (u := U) (U := U.calling g mk a) (Vm.Alike.refl U.vm) qK⟩, va_recv hKc hPc (ci := 1) (q0 := 0) rfl rfl, fun U hU hW => ⟨rfl, by rw [hU]; exact hPc, va_K.moved hW.alike hKc⟩⟩ rfl rfl hls rfl (lv_room hrest) hd hc)) (fun r hr => by rw [hr]; exact kk)
set_option maxRecDepth 100000 in
theorem jX1_owned {p : Program} {l : Launch} {e : Env} {R : Room} {s : State} {m : MethodId} {args : Array Value} {below : List Frame} {meth : Method} {c : Code} {H : Heap} {locs : List Loc} {cells slots : Nat} {Q : State → Prop} {cc : ByteArray} {pc nL : Nat} {ls : Array Slot} {rest : List Value} {dC : Nat → ClassId} {dI : Nat → Nat → Nat} {cI cZ : ClassId} {qx qm : Nat → Nat} {he : Nat} {ro : Option Nat} {fr : Option Nat} {ab : Option Nat} {fu : Option Nat} {us : Nat → Bool} {bi : Nat → Nat} {le : Nat → Nat} {pe : Nat → Option Nat} {ch : Nat → Option Nat} {su : Nat → Int} {se : Nat → Int} {ha : Nat → Option Nat} {sk : Nat → Nat} {en : Nat} {sr : Nat → Nat} {ln : Nat → Nat} {pr : Nat → Nat} (S : CallFix p m c cc nL s args lw_all R_law) (hls : ls.size = nL) (hR : 4 + 1 ≤ R.frames ∧ 8 + (4 + 11) + 91 ≤ R.locals) (hrest : (rest.map fun v => v.category).sum ≤ 8) (hc : cells ≤ R.cells ∧ slots ≤ R.slots) (hK : va_K (dC, dI) vwCl (xT cI cZ) s) (hP : va_P (dC, dI) vwCl (xW cI cZ qx he ro fr ab fu us bi le pe ch su se ha sk ++ mW cI qm en sr ln pr) H) (x1 : Int32) (D : Nat → Nat → Option Nat) (gm : MOK en sr ln pr D) (hd : decode cc pc = .ok (.invokevirtual 39, 3)) (kk : ∀ r : Int32, (OWS D x1 r) → W p l e R s m args below meth c H locs cells slots Q (F0 m (pc + 3) ls (.int r :: rest))) : W p l e R s m args below meth c H locs cells slots Q (F0 m pc ls (.int x1 :: .ref (qm 0) :: rest)) := by
  have hPc := hP.sub (ws' := mW cI qm en sr ln pr) [10, 11, 12, 13] rfl
  have hKc : va_K (dC, dI) vwCl (mT cI) s := (hK.sub (tys' := mT cI) [0] rfl)
  exact vp_callSi (va_Run.run (va_runV (As := [.int x1]) (rest := rest) S (metX1_owned l dC dI cI qm en sr ln pr x1 D gm) (cwV 1 S.2.2.2.2 (lw_V q229 q230 q231 q18 q232) rfl rfl rfl (by decide +kernel) hR) ⟨fun a U g mk q => by obtain ⟨q0, qP, qK⟩ := q; exact ⟨q0, qP, va_K.moved (u := U) (U := U.calling g mk a) (Vm.Alike.refl U.vm) qK⟩, va_recv hKc hPc (ci := 1) (q0 := 0) rfl rfl, fun U hU hW => ⟨rfl, by rw [hU]; exact hPc, va_K.moved hW.alike hKc⟩⟩ rfl rfl hls rfl (lv_room hrest) hd hc)) kk
set_option maxRecDepth 100000 in
theorem jX1_next {p : Program} {l : Launch} {e : Env} {R : Room} {s : State} {m : MethodId} {args : Array Value} {below : List Frame} {meth : Method} {c : Code} {H : Heap} {locs : List Loc} {cells slots : Nat} {Q : State → Prop} {cc : ByteArray} {pc nL : Nat} {ls : Array Slot} {rest : List Value} {dC : Nat → ClassId} {dI : Nat → Nat → Nat} {cI cZ : ClassId} {qx qm : Nat → Nat} {he : Nat} {ro : Option Nat} {fr : Option Nat} {ab : Option Nat} {fu : Option Nat} {us : Nat → Bool} {bi : Nat → Nat} {le : Nat → Nat} {pe : Nat → Option Nat} {ch : Nat → Option Nat} {su : Nat → Int} {se : Nat → Int} {ha : Nat → Option Nat} {sk : Nat → Nat} {en : Nat} {sr : Nat → Nat} {ln : Nat → Nat} {pr : Nat → Nat} (S : CallFix p m c cc nL s args lw_all R_law) (hls : ls.size = nL) (hR : 4 + 1 ≤ R.frames ∧ 8 + (8 + 11) + 90 ≤ R.locals) (hrest : (rest.map fun v => v.category).sum ≤ 8) (hc : cells ≤ R.cells ∧ slots ≤ R.slots) (hK : va_K (dC, dI) vwCl (xT cI cZ) s) (hP : va_P (dC, dI) vwCl (xW cI cZ qx he ro fr ab fu us bi le pe ch su se ha sk ++ mW cI qm en sr ln pr) H) (x1 x2 : Int32) (D : Nat → Nat → Option Nat) (gm : MOK en sr ln pr D) (hd : decode cc pc = .ok (.invokevirtual 43, 3)) (kk : ∀ r : Int32, (NXS D x1 x2 r) → W p l e R s m args below meth c H locs cells slots Q (F0 m (pc + 3) ls (.int r :: rest))) : W p l e R s m args below meth c H locs cells slots Q (F0 m pc ls (.int x2 :: .int x1 :: .ref (qm 0) :: rest)) := by
  have hPc := hP.sub (ws' := mW cI qm en sr ln pr) [10, 11, 12, 13] rfl
  have hKc : va_K (dC, dI) vwCl (mT cI) s := (hK.sub (tys' := mT cI) [0] rfl)
  exact vp_callSi (va_Run.run (va_runV (As := [.int x1, .int x2]) (rest := rest) S (metX1_next l dC dI cI qm en sr ln pr x1 x2 D gm) (cwV 2 S.2.2.2.2 (lw_V q238 q239 q240 q18 q241) rfl rfl rfl (by decide +kernel) hR) ⟨fun a U g mk q => by obtain ⟨q0, qP, qK⟩ := q; exact ⟨q0, qP, va_K.moved (u := U) (U := U.calling g mk a) (Vm.Alike.refl U.vm) qK⟩, va_recv hKc hPc (ci := 1) (q0 := 0) rfl rfl, fun U hU hW => ⟨rfl, by rw [hU]; exact hPc, va_K.moved hW.alike hKc⟩⟩ rfl rfl hls rfl (lv_room hrest) hd hc)) kk
set_option maxRecDepth 100000 in
theorem jX1_useless {p : Program} {l : Launch} {e : Env} {R : Room} {s : State} {m : MethodId} {args : Array Value} {below : List Frame} {meth : Method} {c : Code} {H : Heap} {locs : List Loc} {cells slots : Nat} {Q : State → Prop} {cc : ByteArray} {pc nL : Nat} {ls : Array Slot} {rest : List Value} {dC : Nat → ClassId} {dI : Nat → Nat → Nat} {cI cZ : ClassId} {qx qm : Nat → Nat} {he : Nat} {ro : Option Nat} {fr : Option Nat} {ab : Option Nat} {fu : Option Nat} {us : Nat → Bool} {bi : Nat → Nat} {le : Nat → Nat} {pe : Nat → Option Nat} {ch : Nat → Option Nat} {su : Nat → Int} {se : Nat → Int} {ha : Nat → Option Nat} {sk : Nat → Nat} {en : Nat} {sr : Nat → Nat} {ln : Nat → Nat} {pr : Nat → Nat} (S : CallFix p m c cc nL s args lw_all R_law) (hls : ls.size = nL) (hR : 4 + 1 ≤ R.frames ∧ 8 + (4 + 11) + 91 ≤ R.locals) (hrest : (rest.map fun v => v.category).sum ≤ 8) (hc : cells ≤ R.cells ∧ slots ≤ R.slots) (hK : va_K (dC, dI) vwCl (xT cI cZ) s) (hP : va_P (dC, dI) vwCl (xW cI cZ qx he ro fr ab fu us bi le pe ch su se ha sk ++ mW cI qm en sr ln pr) H) (D : Nat → Nat → Option Nat) (gm : MOK en sr ln pr D) (hd : decode cc pc = .ok (.invokevirtual 48, 3)) (kk : ∀ r : Int32, (r = zI (uslD D)) → W p l e R s m args below meth c H locs cells slots Q (F0 m (pc + 3) ls (.int r :: rest))) : W p l e R s m args below meth c H locs cells slots Q (F0 m pc ls (.ref (qm 0) :: rest)) := by
  have hPc := hP.sub (ws' := mW cI qm en sr ln pr) [10, 11, 12, 13] rfl
  have hKc : va_K (dC, dI) vwCl (mT cI) s := (hK.sub (tys' := mT cI) [0] rfl)
  exact vp_callSi (va_Run.run (va_runV (As := []) (rest := rest) S (metX1_useless l dC dI cI qm en sr ln pr D gm) (cwV 0 S.2.2.2.2 (lw_V q243 q244 q245 q18 q246) rfl rfl rfl (by decide +kernel) hR) ⟨fun a U g mk q => by obtain ⟨q0, qP, qK⟩ := q; exact ⟨q0, qP, va_K.moved (u := U) (U := U.calling g mk a) (Vm.Alike.refl U.vm) qK⟩, va_recv hKc hPc (ci := 1) (q0 := 0) rfl rfl, fun U hU hW => ⟨rfl, by rw [hU]; exact hPc, va_K.moved hW.alike hKc⟩⟩ rfl rfl hls rfl (lv_room hrest) hd hc)) kk
set_option maxRecDepth 100000 in
theorem jX1_entries {p : Program} {l : Launch} {e : Env} {R : Room} {s : State} {m : MethodId} {args : Array Value} {below : List Frame} {meth : Method} {c : Code} {H : Heap} {locs : List Loc} {cells slots : Nat} {Q : State → Prop} {cc : ByteArray} {pc nL : Nat} {ls : Array Slot} {rest : List Value} {dC : Nat → ClassId} {dI : Nat → Nat → Nat} {cI cZ : ClassId} {qx qm : Nat → Nat} {he : Nat} {ro : Option Nat} {fr : Option Nat} {ab : Option Nat} {fu : Option Nat} {us : Nat → Bool} {bi : Nat → Nat} {le : Nat → Nat} {pe : Nat → Option Nat} {ch : Nat → Option Nat} {su : Nat → Int} {se : Nat → Int} {ha : Nat → Option Nat} {sk : Nat → Nat} {en : Nat} {sr : Nat → Nat} {ln : Nat → Nat} {pr : Nat → Nat} (S : CallFix p m c cc nL s args lw_all R_law) (hls : ls.size = nL) (hR : 0 + 1 ≤ R.frames ∧ 8 + (4 + 11) + 0 ≤ R.locals) (hrest : (rest.map fun v => v.category).sum ≤ 8) (hc : cells ≤ R.cells ∧ slots ≤ R.slots) (hK : va_K (dC, dI) vwCl (xT cI cZ) s) (hP : va_P (dC, dI) vwCl (xW cI cZ qx he ro fr ab fu us bi le pe ch su se ha sk ++ mW cI qm en sr ln pr) H) (x1 : Int32) (D : Nat → Nat → Option Nat) (gm : MOK en sr ln pr D) (hd : decode cc pc = .ok (.invokevirtual 52, 3)) (kk : ∀ r : Int32, (ENS D x1 r) → W p l e R s m args below meth c H locs cells slots Q (F0 m (pc + 3) ls (.int r :: rest))) : W p l e R s m args below meth c H locs cells slots Q (F0 m pc ls (.int x1 :: .ref (qm 0) :: rest)) := by
  have hPc := hP.sub (ws' := mW cI qm en sr ln pr) [10, 11, 12, 13] rfl
  have hKc : va_K (dC, dI) vwCl (mT cI) s := (hK.sub (tys' := mT cI) [0] rfl)
  exact vp_callSi (va_Run.run (va_runV (As := [.int x1]) (rest := rest) S (metX1_entries l dC dI cI qm en sr ln pr x1 D gm) (cwV 1 S.2.2.2.2 (lw_V q247 q248 q249 q18 q250) rfl rfl rfl (by decide +kernel) hR) ⟨fun a U g mk q => by obtain ⟨q0, qP, qK⟩ := q; exact ⟨q0, qP, va_K.moved (u := U) (U := U.calling g mk a) (Vm.Alike.refl U.vm) qK⟩, va_recv hKc hPc (ci := 1) (q0 := 0) rfl rfl, fun U hU hW => ⟨rfl, by rw [hU]; exact hPc, va_K.moved hW.alike hKc⟩⟩ rfl rfl hls rfl (lv_room hrest) hd hc)) kk
end
section
/-! the two answers are one -/
section DET
variable {D D1 D2 : Nat → Nat → Option Nat} {x1 x2 x3 r1 r2 : Int32} {cnt c1 c2 : Nat}
theorem rng16 (x : Int32) {K : Nat} (hK : K < 2 ^ 31) : (x < 0 ∨ nI K < x) ∨ ∃ k, k ≤ K ∧ x = nI k := by
  rcases Classical.em (x < 0) with h | h
  · exact Or.inl (Or.inl h)
  · rcases Classical.em (nI K < x) with g | g
    · exact Or.inl (Or.inr g)
    · obtain ⟨k, h1, h2⟩ := nI_of2 (M := nI K) (n := K) (nI_toInt hK) h (nlt_le g)
      exact Or.inr ⟨k, h1, h2⟩
theorem als_det (h1 : ALS D x1 x2 x3 cnt c1 D1 r1) (h2 : ALS D x1 x2 x3 cnt c2 D2 r2) (hc : D1 = D2 → c1 = c2) : D1 = D2 ∧ r1 = r2 := by
  have bad : (x2 < 0 ∨ nI 16 < x2 ∨ x3 < 0 ∨ nI 7 < x3) → D1 = D2 ∧ r1 = r2 := fun q => by
    obtain ⟨a1, a2⟩ := h1.1 q
    obtain ⟨b1, b2⟩ := h2.1 q
    exact ⟨by rw [a2, b2], by rw [a1, b1]⟩
  rcases rng16 x2 (K := 16) (by decide) with q | ⟨k, k1, k2⟩
  · exact bad (by rcases q with q | q; exact Or.inl q; exact Or.inr (Or.inl q))
  · rcases rng16 x3 (K := 7) (by decide) with q | ⟨y, y1, y2⟩
    · exact bad (Or.inr (Or.inr q))
    · obtain ⟨a, a1, a2⟩ := and16_I x1
      obtain ⟨p1, p2⟩ := h1.2 k y a k2 k1 y2 (by omega) a2 a1
      obtain ⟨q1, q2⟩ := h2.2 k y a k2 k1 y2 (by omega) a2 a1
      rcases Classical.em (D (ct a k) k = none ∧ cnt = 32) with z | z
      · exact ⟨by rw [(p1 z).2, (q1 z).2], by rw [(p1 z).1, (q1 z).1]⟩
      · have e : D1 = D2 := by rw [(p2 z).2, (q2 z).2]
        exact ⟨e, by rw [(p2 z).1, (q2 z).1, hc e]⟩
theorem dns_det (h1 : DNS D x1 x2 c1 D1 r1) (h2 : DNS D x1 x2 c2 D2 r2) (hc : D1 = D2 → c1 = c2) : D1 = D2 ∧ r1 = r2 := by
  rcases rng16 x2 (K := 16) (by decide) with q | ⟨k, k1, k2⟩
  · obtain ⟨a1, a2⟩ := h1.1 q
    obtain ⟨b1, b2⟩ := h2.1 q
    exact ⟨by rw [a2, b2], by rw [a1, b1]⟩
  · obtain ⟨a, a1, a2⟩ := and16_I x1
    obtain ⟨p1, p2⟩ := h1.2 k a k2 k1 a2 a1
    obtain ⟨q1, q2⟩ := h2.2 k a k2 k1 a2 a1
    rcases Classical.em (D (ct a k) k = none) with z | z
    · exact ⟨by rw [(p1 z).2, (q1 z).2], by rw [(p1 z).1, (q1 z).1]⟩
    · have e : D1 = D2 := by rw [(p2 z).2, (q2 z).2]
      exact ⟨e, by rw [(p2 z).1, (q2 z).1, hc e]⟩
theorem fgs_det (h1 : FGS D x1 cnt c1 D1 r1) (h2 : FGS D x1 cnt c2 D2 r2) (hc : D1 = D2 → c1 = c2) : D1 = D2 ∧ r1 = r2 := by
  rcases rng16 x1 (K := 7) (by decide) with q | ⟨y, y1, y2⟩
  · obtain ⟨a1, a2⟩ := h1.1 q
    obtain ⟨b1, b2⟩ := h2.1 q
    exact ⟨by rw [a2, b2], by rw [a1, b1]⟩
  · obtain ⟨p1, -, p3⟩ := h1.2 y y2 (by omega)
    obtain ⟨q1, -, q3⟩ := h2.2 y y2 (by omega)
    have e : D1 = D2 := by rw [p1, q1]
    exact ⟨e, by rw [p3, q3, hc e]⟩
theorem rngN (x : Int32) : (x < oI none ∨ nI 7 < x) ∨ ∃ y, x = oI y ∧ ∀ n, y = some n → n < 8 := by
  rcases Classical.em (x < oI none) with h | h
  · exact Or.inl (Or.inl h)
  · rcases Classical.em (nI 7 < x) with g | g
    · exact Or.inl (Or.inr g)
    · exact Or.inr (rng_o h (nlt_le g))
theorem nxs_det (h1 : NXS D x1 x2 r1) (h2 : NXS D x1 x2 r2) : r1 = r2 := by
  rcases rngN x1 with q | ⟨y, e, hy⟩
  · rw [h1.1 q, h2.1 q]
  · obtain ⟨z1, a1, a2⟩ := h1.2 y e hy
    obtain ⟨z2, b1, b2⟩ := h2.2 y e hy
    rw [a1, b1, nx_one a2 b2]
theorem ows_det (h1 : OWS D x1 r1) (h2 : OWS D x1 r2) : r1 = r2 := by
  rcases rngN x1 with q | ⟨y, e, hy⟩
  · rw [h1.1 q, h2.1 q]
  · cases y with
    | none => rw [h1.2.1 e, h2.2.1 e]
    | some n => rw [h1.2.2 n e (hy n rfl), h2.2.2 n e (hy n rfl)]
theorem ens_det (h1 : ENS D x1 r1) (h2 : ENS D x1 r2) : r1 = r2 := by
  rcases rng16 x1 (K := 7) (by decide) with q | ⟨y, y1, y2⟩
  · rw [h1.1 q, h2.1 q]
  · rw [h1.2 y y2 (by omega), h2.2 y y2 (by omega)]
theorem cnt_eq {he en : Nat} {ro fr : Option Nat} {us : Nat → Bool} {bi le : Nat → Nat} {pe ch : Nat → Option Nat} {sr ln pr : Nat → Nat} (h1 : TOK he ro fr us bi le pe ch D1) (h2 : MOK en sr ln pr D2) (e : D1 = D2) : he = en := by
  subst e
  have := (tok_cnt h1).trans (mok_cnt h2).symm
  omega
/-- the start -/
theorem chn_0 {ch : Nat → Option Nat} (h : ∀ n, n < 64 → ch (2 * n) = if n = 63 then none else some (n + 1)) : ∀ j n, n + j = 64 → chn ch (if n = 64 then none else some n) ((List.range j).map (fun i => n + i))
  | 0, n, e => by
    show (if n = 64 then none else some n) = none
    rw [if_pos (by omega)]
  | j + 1, n, e => by
    rw [List.range_succ_eq_map, List.map_cons]
    refine ⟨?_, ?_⟩
    · rw [if_neg (by omega)]; rfl
    · show chn ch (ch (2 * (n + 0))) _
      have h1 := chn_0 h j (n + 1) (by omega)
      have h2 := h n (by omega)
      rw [Nat.add_zero, h2]
      have e2 : (if n = 63 then none else some (n + 1) : Option Nat) = (if n + 1 = 64 then none else some (n + 1)) := by
        by_cases z : n = 63
        · rw [if_pos z, if_pos (by omega)]
        · rw [if_neg z, if_neg (by omega)]
      rw [e2, List.map_map]
      have e3 : (List.range j).map ((fun i => n + i) ∘ Nat.succ) = (List.range j).map (fun i => n + 1 + i) := by
        refine List.map_congr_left (fun a _ => ?_)
        show n + (a + 1) = n + 1 + a
        omega
      rw [e3]
      exact h1
theorem tok_0 {ch : Nat → Option Nat} (h : ∀ n, n < 64 → ch (2 * n) = if n = 63 then none else some (n + 1)) : TOK 0 none (some 0) (fun _ => false) (fun _ => 0) (fun _ => 0) (fun _ => some 0) ch (fun _ _ => none) := by
  have no : ∀ n, ¬ ud (fun _ => false) n := fun n q => by cases q.2
  refine ⟨⟨fun n q => absurd q (no n), fun n m q => absurd q (no n), fun x hx e m hm => absurd hm (no m), fun x c hx e => ?_⟩, ?_, fun n q => absurd q (no n), fun n r q => absurd q (no n), ?_, by decide, fun pp l r => ?_⟩
  · cases x with
    | none => cases e
    | some i => exact absurd hx (no _)
  · refine ⟨(List.range 64).map (fun i => 0 + i), ?_, ?_, ?_⟩
    · simp
      exact List.nodup_range
    · intro n
      simp
    · exact chn_0 h 64 0 rfl
  · exact (fb_ct_zero.mpr (fun k _ => rfl)).symm
  · constructor
    · intro e; cases e
    · rintro ⟨n, hn, -⟩; exact absurd hn (no n)
theorem mok_0 : MOK 0 (fun _ => 0) (fun _ => 0) (fun _ => 0) (fun _ _ => none) := by
  refine ⟨by decide, fun e he => absurd he (Nat.not_lt_zero e), fun e f he => absurd he (Nat.not_lt_zero e), fun pp l r => ?_⟩
  constructor
  · intro e; cases e
  · rintro ⟨n, hn, -⟩; exact absurd hn (Nat.not_lt_zero n)
/-- the law's loop goes on while four ints are left -/
theorem law_gt {i L : Nat} (hi : i ≤ 256) (hL : L ≤ 256) : nI L - nI 4 < nI i ↔ L < i + 4 := by
  rw [Int32.lt_iff_toInt_lt, pk_sub_toInt (by omega) (by decide), nI_toInt (by omega)]
  omega
end DET
end
section
set_option maxRecDepth 100000
def lw_P (b : Addr) (xs : List Int32) (args : Array Value) (s : State) : Prop := args = #[.ref b] ∧ s.IntsAt b xs ∧ xs.length ≤ 256 ∧ (Jvm.Cond.and given_1 narrow_1).before args s = true
def lw_Q (_ : Array Value) (s : State) (o : Outcome) (t : State) : Prop := o = .returned (some (.int 1)) ∧ Framed s o t [] 600000 7290000
def lw_Z (below : List Frame) (a : Array Value) (s : State) : State → Prop := fun t => ∃ o, t.status = .running ∧ Ended t below o ∧ lw_Q a s o t
/-- the law's own end, with 1 on the stack, nothing written that was there before, its room as the claim has it -/
theorem lw_ret {p : Program} {l : Launch} {e : Env} {s : State} {m : MethodId} {below : List Frame} {meth : Method} {c : Code} {b : Nat} (hx : p.tables.exec = Jvm.exec) (hb : c.code = code) (hr : meth.sig.returnType = ret) (hlocks : meth.locks = false) {pc : Nat} {H : Heap} {ls : Array Slot} (hdg : decode code pc = .ok (.ireturn, 1)) : W p l e room_1 s m #[Value.ref b] below meth c H [] 600000 7290000 (lw_Z below #[Value.ref b] s) (F0 m pc ls [.int 1]) := by
  intro T hT X
  obtain ⟨fs, hret, hrun, hended, hW, hframe⟩ := X.leave (v := some (.int 1)) (hlocks := hlocks) (fun h => by rw [hr] at h; cases h)
  have hmeth' : T.vm.method? m = some meth := X.method'
  refine ⟨T.setFrames fs, ?_, .returned (some (.int 1)), hrun, hended, rfl, ⟨_, rfl⟩, hW, hframe⟩
  jvm_step X.here [X.here.top, hx, hb, hdg, hmeth', hr, ret, narrow_b1]
  (try refine ⟨rfl, ?_⟩); (try refine ⟨rfl, ?_⟩)
  first | (intro acts; rw [hret _ acts rfl rfl rfl]) | rw [hret _ _ rfl rfl rfl]
  exact Steps.refl _
/-- what holds at the law's entry: the machine, the code, the tables' words (any of lw_tbl by 'hts w (by decide +kernel)'), the script of L ints xs at the cell b, what the Statement gives of the start (any of its parts by flat_of_before) -/
def lw_At (p : Program) (s : State) (m : MethodId) (meth : Method) (c : Code) (b L : Nat) (xs : Nat → Int32) : Prop :=
  p.tables.exec = Jvm.exec ∧ c.code = code ∧ meth.sig.returnType = ret ∧ c.maxLocals = 4 ∧ s.vm.findClass R_law = some m.cls ∧ (∀ w ∈ lw_tbl, w.before #[Value.ref b] s = true) ∧ va_X b L xs s s.heap ∧ b < s.heap.size ∧ meth.locks = false ∧ (Jvm.Cond.and given_1 narrow_1).before #[Value.ref b] s = true
end
section
set_option maxRecDepth 100000
section SLD
variable {p : Program} {l : Launch} {e : Env} {R : Room} {s : State} {m : MethodId} {args : Array Value} {below : List Frame} {meth : Method} {c : Code} {H : Heap} {locs : List Loc} {cells slots : Nat} {Q : State → Prop} {cc : ByteArray} {pc : Nat} {ls : Array Slot} {rest : List Value} {A : Nat → Prop} {H0 : Heap}
theorem r_sld (hx : p.tables.exec = Jvm.exec) (hb : c.code = cc) {b L n : Nat} {xs : Nat → Int32} (hX : va_X b L xs s H0) (hbl : b < H0.size) (hbA : ¬ A b) (hS : va_S A H0 H locs) (hn : n < L) (hL : L ≤ 256) (hd : decode cc pc = .ok (.iaload, 1)) (kk : W p l e R s m args below meth c H locs cells slots Q (F0 m (pc + 1) ls (.int (xs n) :: rest))) : W p l e R s m args below meth c H locs cells slots Q (F0 m pc ls (.int (nI n) :: .ref b :: rest)) := va_sld hx hb hX hbl hbA hS (vp_in_nI hn (by omega)) hd (by rw [nI_c (by omega)]; exact kk)
end SLD
set_option maxHeartbeats 4000000 in
theorem whole_start {p : Program} {e : Env} {s : State} {m : MethodId} {below : List Frame} {meth : Method} {c : Code} (l : Launch) {b L : Nat} {xs : Nat → Int32} (hL : L ≤ 256) (C0 : lw_At p s m meth c b L xs) : W p l e room_1 s m #[Value.ref b] below meth c s.heap [] 0 0 (lw_Z below #[Value.ref b] s) (entryFrame m ([Value.ref b] : List Value).toArray 4) := by
  obtain ⟨hx, hb, hr, hml, hown, hts0, hX, hbl, hlocks, hgv⟩ := id C0
  have hts : ∀ w ∈ lw_all, w.before #[Value.ref b] s = true := fun w h => hts0 w (lw_all_tbl h)
  obtain ⟨A, hAe⟩ : ∃ A : Nat → Prop, A = fun q : Nat => s.heap.size ≤ q := ⟨_, rfl⟩
  have hA : ∀ q : Nat, s.heap.size ≤ q → A q := fun q h => by rw [hAe]; exact h
  have hA2 : ∀ q : Nat, A q → s.heap.size ≤ q := fun q h => by rw [hAe] at h; exact h
  have hbA : ¬ A b := fun h => Nat.not_le.mpr hbl (hA2 b h)
  have S : CallFix p m c code 4 s #[Value.ref b] lw_all R_law := ⟨hx, hb, hml, hown, hts⟩
  obtain ⟨c0, iS0, hKn0⟩ := u_known (C := RX0) (T := TX0) (N := 14) (n := 14) hts0 (fun w h => lw_all_tbl (in_X0 w h)) (hts _ q20)
  obtain ⟨c1, iS1, hKn1⟩ := u_known (C := RX1) (T := TX1) (N := 4) (n := 4) hts0 (fun w h => lw_all_tbl (in_X1 w h)) (hts _ q165)
  obtain ⟨dC, dI, hKc⟩ : ∃ (dC : Nat → ClassId) (dI : Nat → Nat → Nat), ∀ (k : Nat) (q : vw_C), vwCl[k]? = some q → u_Kn s q.1 q.2.1 q.2.2 (dC k) (dI k) := by
    refine ⟨fun k => if k = 0 then c0 else c1, fun k => if k = 0 then iS0 else iS1, ?_⟩
    intro k q hq
    match k, hq with
    | 0, hq => cases hq; exact hKn0
    | 1, hq => cases hq; exact hKn1
    | k + 2, hq => simp [vwCl] at hq
  have hS : va_S A s.heap s.heap [] := va_S.rf
  have hK : va_K (dC, dI) vwCl [] s := ⟨hKc, fun k q h => by simp at h⟩
  have hP : va_P (dC, dI) vwCl [] s.heap := fun k q h => by simp at h
  have hD : va_D A [] := ⟨fun i j p q h => by simp at h, fun k q h => by simp at h⟩
  have hl := lv_entry ([.ref b]) (n := 4) (Nat.le_of_ble_eq_true rfl)
  rw [lg_entry_eq]
  generalize (lg_sl ([.ref b]) ++ List.replicate (4 - (lg_sl ([.ref b])).length) Slot.unset).toArray = ls at hl ⊢
  have hl : lv_has ls 4 [(0, .ref b)] := hl
  refine va_new (ci := 0) (fs := [.int 0, .int 0, .int 0, .null, .null, .null, .null, .null, .int 0, .int 0, .null, .null, .null, .null]) (C := RX0) (T := TX0) (N := 14) hx hb hts in_X0 tyX0 tyX0_ok hown (hts _ q19) (hts _ q20) (hts _ q17) hK hP hD hS hA rfl (fun j hj => by rcases (show j = 0 ∨ j = 1 ∨ j = 2 ∨ j = 3 ∨ j = 4 ∨ j = 5 ∨ j = 6 ∨ j = 7 ∨ j = 8 ∨ j = 9 ∨ j = 10 ∨ j = 11 ∨ j = 12 ∨ j = 13 by omega) with rfl | rfl | rfl | rfl | rfl | rfl | rfl | rfl | rfl | rfl | rfl | rfl | rfl | rfl <;> rfl) (Nat.le_of_ble_eq_true rfl) (Nat.le_of_ble_eq_true rfl) dL_law_0 (fun h0 H hP hD hS => ?_)
  have hP : va_P (dC, dI) vwCl [(h0, .inr (0, [.int 0, .int 0, .int 0, .null, .null, .null, .null, .null, .int 0, .int 0, .null, .null, .null, .null]))] H := hP
  have hD : va_D A [(h0, .inr (0, [.int 0, .int 0, .int 0, .null, .null, .null, .null, .null, .int 0, .int 0, .null, .null, .null, .null]))] := hD
  refine W.widen (k := 1) (n := 14) (by omega) (by omega) ?_
  refine lv_dup hx hb dL_law_3 rfl ?_
  have hPc := hP.sub (ws' := [(h0, .inr (0, [.int 0, .int 0, .int 0, .null, .null, .null, .null, .null, .int 0, .int 0, .null, .null, .null, .null]))]) [0] rfl
  have hDc := hD.sub (ws' := [(h0, .inr (0, [.int 0, .int 0, .int 0, .null, .null, .null, .null, .null, .int 0, .int 0, .null, .null, .null, .null]))]) [0] (by decide) rfl
  have hKc2 := hK.sub (tys' := []) [] rfl
  have hFc := va_free (wc := [(h0, .inr (0, [.int 0, .int 0, .int 0, .null, .null, .null, .null, .null, .int 0, .int 0, .null, .null, .null, .null]))]) hD hS hA [0] rfl
  refine va_callv (va_runI (As := []) (rest := [.ref h0]) S (metX0_init l dC dI h0 H.size) (cwI 0 hts (lw_meth q23) rfl rfl rfl (hts _ q17) (hts _ q21) (hts _ q22) rfl (by decide +kernel) ⟨Nat.le_of_ble_eq_true rfl, Nat.le_of_ble_eq_true rfl⟩) ⟨fun a U g mk q => by obtain ⟨q0, q1, qP, qK, qD⟩ := q; exact ⟨q0, q1, qP, va_K.moved (u := U) (U := U.calling g mk a) (Vm.Alike.refl U.vm) qK, qD⟩, fun U hU hW => ⟨rfl, by rw [hU], by rw [hU]; exact hPc, va_K.moved hW.alike hKc2, hDc.weaken (fun _ _ _ _ => trivial)⟩⟩ rfl rfl hl.1 rfl (lv_room (Nat.le_of_ble_eq_true rfl)) dL_law_4 ⟨Nat.le_of_ble_eq_true rfl, Nat.le_of_ble_eq_true rfl⟩) hS (fun q _ h => hFc q h) hFc (fun u t H1 locs ht hvm hw hB hz1 hk1 hS => ?_)
  obtain ⟨cI, cZ, qx, ch0⟩ := u
  obtain ⟨hq0, hch⟩ := hw
  have hq0 : qx 0 = h0 := hq0
  have hch : ∀ n, n < 64 → ch0 (2 * n) = if n = 63 then none else some (n + 1) := hch
  subst hq0
  obtain ⟨hP1, hK1, hD1⟩ := hB
  rw [ht] at hP1
  have hK1 := va_K.moved hvm.symm hK1
  obtain ⟨hP, hD⟩ := va_join (wr := []) (w1 := xW cI cZ qx 0 none (some 0) (some 0) (some 0) (fun _ => false) (fun _ => 0) (fun _ => 0) (fun _ => some 0) ch0 (fun _ => 0) (fun _ => 0) (fun _ => some 0) (fun _ => 0)) hP hD [0] [] rfl rfl (by decide) (by decide) hk1 hFc hP1 hD1
  have hK : va_K (dC, dI) vwCl (xT cI cZ) s := hK1
  clear hk1 hFc hPc hDc hz1
  generalize H1 = H at hP hS ⊢
  have hP : va_P (dC, dI) vwCl (xW cI cZ qx 0 none (some 0) (some 0) (some 0) (fun _ => false) (fun _ => 0) (fun _ => 0) (fun _ => some 0) ch0 (fun _ => 0) (fun _ => 0) (fun _ => some 0) (fun _ => 0)) H := hP
  have hD : va_D A (xW cI cZ qx 0 none (some 0) (some 0) (some 0) (fun _ => false) (fun _ => 0) (fun _ => 0) (fun _ => some 0) ch0 (fun _ => 0) (fun _ => 0) (fun _ => some 0) (fun _ => 0)) := hD
  refine W.widen (k := 10) (n := 599) (by decide) (by decide) ?_
  refine lv_astore_n (lv' := [(1, .ref (qx 0)), (0, .ref b)]) hx hb dL_law_7 rfl hl (by decide) rfl (fun ls hl => ?_)
  refine va_new (ci := 1) (fs := [.int 0, .null, .null, .null]) (C := RX1) (T := TX1) (N := 4) hx hb hts in_X1 tyX1 tyX1_ok hown (hts _ q164) (hts _ q165) (hts _ q18) hK hP hD hS hA rfl (fun j hj => by rcases (show j = 0 ∨ j = 1 ∨ j = 2 ∨ j = 3 by omega) with rfl | rfl | rfl | rfl <;> rfl) (Nat.le_of_ble_eq_true rfl) (Nat.le_of_ble_eq_true rfl) dL_law_8 (fun h1 H hP hD hS => ?_)
  have hP : va_P (dC, dI) vwCl (xW cI cZ qx 0 none (some 0) (some 0) (some 0) (fun _ => false) (fun _ => 0) (fun _ => 0) (fun _ => some 0) ch0 (fun _ => 0) (fun _ => 0) (fun _ => some 0) (fun _ => 0) ++ [(h1, .inr (1, [.int 0, .null, .null, .null]))]) H := hP
  have hD : va_D A (xW cI cZ qx 0 none (some 0) (some 0) (some 0) (fun _ => false) (fun _ => 0) (fun _ => 0) (fun _ => some 0) ch0 (fun _ => 0) (fun _ => 0) (fun _ => some 0) (fun _ => 0) ++ [(h1, .inr (1, [.int 0, .null, .null, .null]))]) := hD
  refine W.widen (k := 11) (n := 603) (by decide) (by decide) ?_
  refine lv_dup hx hb dL_law_11 rfl ?_
  have hPc := hP.sub (ws' := [(h1, .inr (1, [.int 0, .null, .null, .null]))]) [10] rfl
  have hDc := hD.sub (ws' := [(h1, .inr (1, [.int 0, .null, .null, .null]))]) [10] (by decide) rfl
  have hKc2 := hK.sub (tys' := []) [] rfl
  have hFc := va_free (wc := [(h1, .inr (1, [.int 0, .null, .null, .null]))]) hD hS hA [10] rfl
  refine va_callv (va_runI (As := []) (rest := [.ref h1]) S (metX1_init l dC dI h1 H.size) (cwI 0 hts (lw_meth q168) rfl rfl rfl (hts _ q18) (hts _ q166) (hts _ q167) rfl (by decide +kernel) ⟨Nat.le_of_ble_eq_true rfl, Nat.le_of_ble_eq_true rfl⟩) ⟨fun a U g mk q => by obtain ⟨q0, q1, qP, qK, qD⟩ := q; exact ⟨q0, q1, qP, va_K.moved (u := U) (U := U.calling g mk a) (Vm.Alike.refl U.vm) qK, qD⟩, fun U hU hW => ⟨rfl, by rw [hU], by rw [hU]; exact hPc, va_K.moved hW.alike hKc2, hDc.weaken (fun _ _ _ _ => trivial)⟩⟩ rfl rfl hl.1 rfl (lv_room (Nat.le_of_ble_eq_true rfl)) dL_law_12 ⟨Nat.le_of_ble_eq_true rfl, Nat.le_of_ble_eq_true rfl⟩) hS (fun q _ h => hFc q h) hFc (fun u t H1 locs ht hvm hw hB hz1 hk1 hS => ?_)
  obtain ⟨cI2, qm⟩ := u
  have hq0 : qm 0 = h1 := hw
  subst hq0
  obtain ⟨hP1, hK1, hD1⟩ := hB
  rw [ht] at hP1
  have hK1 := va_K.moved hvm.symm hK1
  have r0 : s.vm.findClass _ = some cI := (hK.2 0 _ rfl).2
  have r1 : s.vm.findClass _ = some cI2 := (hK1.2 0 _ rfl).2
  have ec : cI = cI2 := Option.some.inj (r0.symm.trans r1)
  subst ec
  obtain ⟨hP, hD⟩ := va_join (wr := xW cI cZ qx 0 none (some 0) (some 0) (some 0) (fun _ => false) (fun _ => 0) (fun _ => 0) (fun _ => some 0) ch0 (fun _ => 0) (fun _ => 0) (fun _ => some 0) (fun _ => 0)) (w1 := mW cI qm 0 (fun _ => 0) (fun _ => 0) (fun _ => 0)) hP hD [10] [0, 1, 2, 3, 4, 5, 6, 7, 8, 9] rfl rfl (by decide) (by decide) hk1 hFc hP1 hD1
  clear hk1 hFc hPc hDc hz1
  generalize H1 = H at hP hS ⊢
  have hP : va_P (dC, dI) vwCl (xW cI cZ qx 0 none (some 0) (some 0) (some 0) (fun _ => false) (fun _ => 0) (fun _ => 0) (fun _ => some 0) ch0 (fun _ => 0) (fun _ => 0) (fun _ => some 0) (fun _ => 0) ++ mW cI qm 0 (fun _ => 0) (fun _ => 0) (fun _ => 0)) H := hP
  have hD : va_D A (xW cI cZ qx 0 none (some 0) (some 0) (some 0) (fun _ => false) (fun _ => 0) (fun _ => 0) (fun _ => some 0) ch0 (fun _ => 0) (fun _ => 0) (fun _ => some 0) (fun _ => 0) ++ mW cI qm 0 (fun _ => 0) (fun _ => 0) (fun _ => 0)) := hD
  refine W.widen (k := 14) (n := 699) (by decide) (by decide) ?_
  refine lv_astore_n (lv' := [(2, .ref (qm 0)), (1, .ref (qx 0)), (0, .ref b)]) hx hb dL_law_15 rfl hl (by decide) rfl (fun ls hl => ?_)
  refine lv_iconst (v := nI 0) hx hb dL_law_16 (by decide) ?_
  refine lv_istore_n (lv' := [(3, .int (nI 0)), (2, .ref (qm 0)), (1, .ref (qx 0)), (0, .ref b)]) hx hb dL_law_17 rfl hl (by decide) rfl (fun ls hl => ?_)
  refine r_loopH (σ := Nat × (Nat) × (Option Nat) × (Option Nat) × (Option Nat) × (Option Nat) × (Nat → Bool) × (Nat → Nat) × (Nat → Nat) × (Nat → Option Nat) × (Nat → Option Nat) × (Nat → Int) × (Nat → Int) × (Nat → Option Nat) × (Nat → Nat) × (Nat) × (Nat → Nat) × (Nat → Nat) × (Nat → Nat) × (Nat → Nat → Option Nat)) (nL := 4) (fun | (i, he, ro, fr, ab, fu, us, bi, le, pe, ch, su, se, ha, sk, en, sr, ln, pr, D) => [(0, .ref b), (1, .ref (qx 0)), (2, .ref (qm 0)), (3, .int (nI i))]) (fun | (i, he, ro, fr, ab, fu, us, bi, le, pe, ch, su, se, ha, sk, en, sr, ln, pr, D) => xW cI cZ qx he ro fr ab fu us bi le pe ch su se ha sk ++ mW cI qm en sr ln pr) (fun | (i, he, ro, fr, ab, fu, us, bi, le, pe, ch, su, se, ha, sk, en, sr, ln, pr, D) => TOK he ro fr us bi le pe ch D ∧ MOK en sr ln pr D ∧ i ≤ L) (fun | (i, he, ro, fr, ab, fu, us, bi, le, pe, ch, su, se, ha, sk, en, sr, ln, pr, D) => L - i) (fun x ls H locs hI hl hP hD hS ih => ?_) (0, 0, none, some 0, some 0, some 0, (fun _ => false), (fun _ => 0), (fun _ => 0), (fun _ => some 0), ch0, (fun _ => 0), (fun _ => 0), (fun _ => some 0), (fun _ => 0), 0, (fun _ => 0), (fun _ => 0), (fun _ => 0), (fun _ _ => none)) ⟨tok_0 hch, mok_0, Nat.zero_le _⟩ (lv_sub hl [3, 2, 1, 0] rfl) hP hD hS
  obtain ⟨i, he, ro, fr, ab, fu, us, bi, le, pe, ch, su, se, ha, sk, en, sr, ln, pr, D⟩ := x
  have hl : lv_has ls 4 [(0, .ref b), (1, .ref (qx 0)), (2, .ref (qm 0)), (3, .int (nI i))] := hl
  have hP : va_P (dC, dI) vwCl (xW cI cZ qx he ro fr ab fu us bi le pe ch su se ha sk ++ mW cI qm en sr ln pr) H := hP
  have hD : va_D A (xW cI cZ qx he ro fr ab fu us bi le pe ch su se ha sk ++ mW cI qm en sr ln pr) := hD
  have hI : TOK he ro fr us bi le pe ch D ∧ MOK en sr ln pr D ∧ i ≤ L := hI
  obtain ⟨t1, m1, hi⟩ := hI
  have hce : he = en := cnt_eq t1 m1 rfl
  subst hce
  have gT := t1.1
  have gC := t1.2.2.2.2.2.2
  have gB := t1.2.2.2.1
  refine lv_iload_n hx hb dL_law_18 rfl (lv_at hl 3 rfl) ?_
  refine lv_aload_n hx hb dL_law_19 rfl (lv_at hl 0 rfl) ?_
  refine va_slen hx hb hX hbl hbA hS dL_law_20 ?_
  refine r_top (y := nI L) rfl ?_
  refine lv_iconst (v := nI 4) hx hb dL_law_21 (by decide) ?_
  refine lv_isub hx hb dL_law_22 ?_
  refine lv_icmp_gt (tgt := 327) hx hb dL_law_23 (by decide) (fun hg => ?_) (fun hg => ?_)
  · refine lv_iconst (v := 1) hx hb dL_law_327 (by decide) ?_
    refine va_forget (fun q hq => hA2 _ (hS.2.2 q hq)) ?_
    refine W.widen (k := 600000) (n := 7290000) (by decide) (by decide) ?_
    exact lw_ret hx hb hr hlocks dL_law_328
  · have hi4 : i + 4 ≤ L := by
      rcases Nat.lt_or_ge L (i + 4) with z | z
      · exact absurd ((law_gt (by omega) hL).mpr z) hg
      · exact z
    refine lv_aload_n hx hb dL_law_26 rfl (lv_at hl 0 rfl) ?_
    refine lv_iload_n hx hb dL_law_27 rfl (lv_at hl 3 rfl) ?_
    refine r_sld (n := i) hx hb hX hbl hbA hS (by omega) hL dL_law_28 ?_
    refine lv_bipush (v := nI 15) hx hb dL_law_29 (by decide) ?_
    refine lv_iand hx hb dL_law_31 ?_
    obtain ⟨j, hj, ej⟩ := pk_andE (xs i) (m := nI 15) 4 (by decide)
    refine r_top ej ?_
    rcases (show j = 0 ∨ j = 1 ∨ j = 2 ∨ j = 3 ∨ j = 4 ∨ j = 5 ∨ j = 6 ∨ j = 7 ∨ j = 8 ∨ 9 ≤ j by omega) with rfl | rfl | rfl | rfl | rfl | rfl | rfl | rfl | rfl | h9
    · refine lv_tableIn (off := 52) (tgt := 84) hx hb dL_law_32 (by decide) (by decide) rfl (by decide) ?_
      refine lv_aload_n hx hb dL_law_84 rfl (lv_at hl 1 rfl) ?_
      refine lv_aload_n hx hb dL_law_85 rfl (lv_at hl 0 rfl) ?_
      refine lv_iload_n hx hb dL_law_86 rfl (lv_at hl 3 rfl) ?_
      refine lv_iconst (v := nI 1) hx hb dL_law_87 (by decide) ?_
      refine r_iadd (a := i) (b := 1) hx hb dL_law_88 ?_
      refine r_sld (n := i + 1) hx hb hX hbl hbA hS (by omega) hL dL_law_89 ?_
      refine lv_aload_n hx hb dL_law_90 rfl (lv_at hl 0 rfl) ?_
      refine lv_iload_n hx hb dL_law_91 rfl (lv_at hl 3 rfl) ?_
      refine lv_iconst (v := nI 2) hx hb dL_law_92 (by decide) ?_
      refine r_iadd (a := i) (b := 2) hx hb dL_law_93 ?_
      refine r_sld (n := i + 2) hx hb hX hbl hbA hS (by omega) hL dL_law_94 ?_
      refine lv_aload_n hx hb dL_law_95 rfl (lv_at hl 0 rfl) ?_
      refine lv_iload_n hx hb dL_law_96 rfl (lv_at hl 3 rfl) ?_
      refine lv_iconst (v := nI 3) hx hb dL_law_97 (by decide) ?_
      refine r_iadd (a := i) (b := 3) hx hb dL_law_98 ?_
      refine r_sld (n := i + 3) hx hb hX hbl hbA hS (by omega) hL dL_law_99 ?_
      refine jX0_allow S hl.1 ⟨Nat.le_of_ble_eq_true rfl, Nat.le_of_ble_eq_true rfl⟩ (Nat.le_of_ble_eq_true rfl) ⟨Nat.le_of_ble_eq_true rfl, Nat.le_of_ble_eq_true rfl⟩ hK hP hD hS hA (xs (i + 1)) (xs (i + 2)) (xs (i + 3)) D t1 dL_law_100 (fun r1 u1 H locs hw1 hP hD hS => ?_)
      obtain ⟨he1, ro1, fr1, ab1, fu1, us1, bi1, le1, pe1, ch1⟩ := u1
      obtain ⟨D1, t2, a1⟩ := hw1
      have t2 : TOK he1 ro1 fr1 us1 bi1 le1 pe1 ch1 D1 := t2
      have hP : va_P (dC, dI) vwCl (xW cI cZ qx he1 ro1 fr1 ab1 fu1 us1 bi1 le1 pe1 ch1 su se ha sk ++ mW cI qm he sr ln pr) H := hP
      have hD : va_D A (xW cI cZ qx he1 ro1 fr1 ab1 fu1 us1 bi1 le1 pe1 ch1 su se ha sk ++ mW cI qm he sr ln pr) := hD
      refine lv_aload_n hx hb dL_law_103 rfl (lv_at hl 2 rfl) ?_
      refine lv_aload_n hx hb dL_law_104 rfl (lv_at hl 0 rfl) ?_
      refine lv_iload_n hx hb dL_law_105 rfl (lv_at hl 3 rfl) ?_
      refine lv_iconst (v := nI 1) hx hb dL_law_106 (by decide) ?_
      refine r_iadd (a := i) (b := 1) hx hb dL_law_107 ?_
      refine r_sld (n := i + 1) hx hb hX hbl hbA hS (by omega) hL dL_law_108 ?_
      refine lv_aload_n hx hb dL_law_109 rfl (lv_at hl 0 rfl) ?_
      refine lv_iload_n hx hb dL_law_110 rfl (lv_at hl 3 rfl) ?_
      refine lv_iconst (v := nI 2) hx hb dL_law_111 (by decide) ?_
      refine r_iadd (a := i) (b := 2) hx hb dL_law_112 ?_
      refine r_sld (n := i + 2) hx hb hX hbl hbA hS (by omega) hL dL_law_113 ?_
      refine lv_aload_n hx hb dL_law_114 rfl (lv_at hl 0 rfl) ?_
      refine lv_iload_n hx hb dL_law_115 rfl (lv_at hl 3 rfl) ?_
      refine lv_iconst (v := nI 3) hx hb dL_law_116 (by decide) ?_
      refine r_iadd (a := i) (b := 3) hx hb dL_law_117 ?_
      refine r_sld (n := i + 3) hx hb hX hbl hbA hS (by omega) hL dL_law_118 ?_
      refine jX1_allow S hl.1 ⟨Nat.le_of_ble_eq_true rfl, Nat.le_of_ble_eq_true rfl⟩ (Nat.le_of_ble_eq_true rfl) ⟨Nat.le_of_ble_eq_true rfl, Nat.le_of_ble_eq_true rfl⟩ hK hP hD hS hA (xs (i + 1)) (xs (i + 2)) (xs (i + 3)) D m1 dL_law_119 (fun r2 u2 H locs hw2 hP hD hS => ?_)
      obtain ⟨en2, sr2, ln2, pr2⟩ := u2
      obtain ⟨D2, m2, a2⟩ := hw2
      have m2 : MOK en2 sr2 ln2 pr2 D2 := m2
      have hP : va_P (dC, dI) vwCl (xW cI cZ qx he1 ro1 fr1 ab1 fu1 us1 bi1 le1 pe1 ch1 su se ha sk ++ mW cI qm en2 sr2 ln2 pr2) H := hP
      have hD : va_D A (xW cI cZ qx he1 ro1 fr1 ab1 fu1 us1 bi1 le1 pe1 ch1 su se ha sk ++ mW cI qm en2 sr2 ln2 pr2) := hD
      obtain ⟨eD, er⟩ := als_det a1 a2 (fun z => cnt_eq t2 m2 z)
      subst eD
      refine lv_icmp_eq (tgt := 321) hx hb dL_law_122 (by decide) (fun _ => ?_) (fun z => absurd er z)
      refine lv_iinc (v := nI (i + 4)) (lv' := [(3, .int (nI (i + 4))), (0, .ref b), (1, .ref (qx 0)), (2, .ref (qm 0))]) hx hb dL_law_321 hl (k := 3) rfl (nI_add i 4) (by decide) rfl (fun ls hl => ?_)
      refine lv_goto (tgt := 18) hx hb dL_law_324 (by decide) ?_
      exact ih (i + 4, he1, ro1, fr1, ab1, fu1, us1, bi1, le1, pe1, ch1, su, se, ha, sk, en2, sr2, ln2, pr2, D1) ls _ _ ⟨t2, m2, hi4⟩ (by show L - (i + 4) < L - i; omega) (lv_sub hl [1, 2, 3, 0] rfl) hP hD hS
    · refine lv_tableIn (off := 95) (tgt := 127) hx hb dL_law_32 (by decide) (by decide) rfl (by decide) ?_
      refine lv_aload_n hx hb dL_law_127 rfl (lv_at hl 1 rfl) ?_
      refine lv_aload_n hx hb dL_law_128 rfl (lv_at hl 0 rfl) ?_
      refine lv_iload_n hx hb dL_law_129 rfl (lv_at hl 3 rfl) ?_
      refine lv_iconst (v := nI 1) hx hb dL_law_130 (by decide) ?_
      refine r_iadd (a := i) (b := 1) hx hb dL_law_131 ?_
      refine r_sld (n := i + 1) hx hb hX hbl hbA hS (by omega) hL dL_law_132 ?_
      refine lv_aload_n hx hb dL_law_133 rfl (lv_at hl 0 rfl) ?_
      refine lv_iload_n hx hb dL_law_134 rfl (lv_at hl 3 rfl) ?_
      refine lv_iconst (v := nI 2) hx hb dL_law_135 (by decide) ?_
      refine r_iadd (a := i) (b := 2) hx hb dL_law_136 ?_
      refine r_sld (n := i + 2) hx hb hX hbl hbA hS (by omega) hL dL_law_137 ?_
      refine jX0_deny S hl.1 ⟨Nat.le_of_ble_eq_true rfl, Nat.le_of_ble_eq_true rfl⟩ (Nat.le_of_ble_eq_true rfl) ⟨Nat.le_of_ble_eq_true rfl, Nat.le_of_ble_eq_true rfl⟩ hK hP hD hS hA (xs (i + 1)) (xs (i + 2)) D t1 dL_law_138 (fun r1 u1 H locs hw1 hP hD hS => ?_)
      obtain ⟨he1, ro1, fr1, ab1, fu1, us1, bi1, le1, pe1, ch1⟩ := u1
      obtain ⟨D1, t2, a1⟩ := hw1
      have t2 : TOK he1 ro1 fr1 us1 bi1 le1 pe1 ch1 D1 := t2
      have hP : va_P (dC, dI) vwCl (xW cI cZ qx he1 ro1 fr1 ab1 fu1 us1 bi1 le1 pe1 ch1 su se ha sk ++ mW cI qm he sr ln pr) H := hP
      have hD : va_D A (xW cI cZ qx he1 ro1 fr1 ab1 fu1 us1 bi1 le1 pe1 ch1 su se ha sk ++ mW cI qm he sr ln pr) := hD
      refine lv_aload_n hx hb dL_law_141 rfl (lv_at hl 2 rfl) ?_
      refine lv_aload_n hx hb dL_law_142 rfl (lv_at hl 0 rfl) ?_
      refine lv_iload_n hx hb dL_law_143 rfl (lv_at hl 3 rfl) ?_
      refine lv_iconst (v := nI 1) hx hb dL_law_144 (by decide) ?_
      refine r_iadd (a := i) (b := 1) hx hb dL_law_145 ?_
      refine r_sld (n := i + 1) hx hb hX hbl hbA hS (by omega) hL dL_law_146 ?_
      refine lv_aload_n hx hb dL_law_147 rfl (lv_at hl 0 rfl) ?_
      refine lv_iload_n hx hb dL_law_148 rfl (lv_at hl 3 rfl) ?_
      refine lv_iconst (v := nI 2) hx hb dL_law_149 (by decide) ?_
      refine r_iadd (a := i) (b := 2) hx hb dL_law_150 ?_
      refine r_sld (n := i + 2) hx hb hX hbl hbA hS (by omega) hL dL_law_151 ?_
      refine jX1_deny S hl.1 ⟨Nat.le_of_ble_eq_true rfl, Nat.le_of_ble_eq_true rfl⟩ (Nat.le_of_ble_eq_true rfl) ⟨Nat.le_of_ble_eq_true rfl, Nat.le_of_ble_eq_true rfl⟩ hK hP hD hS hA (xs (i + 1)) (xs (i + 2)) D m1 dL_law_152 (fun r2 u2 H locs hw2 hP hD hS => ?_)
      obtain ⟨en2, sr2, ln2, pr2⟩ := u2
      obtain ⟨D2, m2, a2⟩ := hw2
      have m2 : MOK en2 sr2 ln2 pr2 D2 := m2
      have hP : va_P (dC, dI) vwCl (xW cI cZ qx he1 ro1 fr1 ab1 fu1 us1 bi1 le1 pe1 ch1 su se ha sk ++ mW cI qm en2 sr2 ln2 pr2) H := hP
      have hD : va_D A (xW cI cZ qx he1 ro1 fr1 ab1 fu1 us1 bi1 le1 pe1 ch1 su se ha sk ++ mW cI qm en2 sr2 ln2 pr2) := hD
      obtain ⟨eD, er⟩ := dns_det a1 a2 (fun z => cnt_eq t2 m2 z)
      subst eD
      refine lv_icmp_eq (tgt := 321) hx hb dL_law_155 (by decide) (fun _ => ?_) (fun z => absurd er z)
      refine lv_iinc (v := nI (i + 4)) (lv' := [(3, .int (nI (i + 4))), (0, .ref b), (1, .ref (qx 0)), (2, .ref (qm 0))]) hx hb dL_law_321 hl (k := 3) rfl (nI_add i 4) (by decide) rfl (fun ls hl => ?_)
      refine lv_goto (tgt := 18) hx hb dL_law_324 (by decide) ?_
      exact ih (i + 4, he1, ro1, fr1, ab1, fu1, us1, bi1, le1, pe1, ch1, su, se, ha, sk, en2, sr2, ln2, pr2, D1) ls _ _ ⟨t2, m2, hi4⟩ (by show L - (i + 4) < L - i; omega) (lv_sub hl [1, 2, 3, 0] rfl) hP hD hS
    · refine lv_tableIn (off := 128) (tgt := 160) hx hb dL_law_32 (by decide) (by decide) rfl (by decide) ?_
      refine lv_aload_n hx hb dL_law_160 rfl (lv_at hl 1 rfl) ?_
      refine lv_aload_n hx hb dL_law_161 rfl (lv_at hl 0 rfl) ?_
      refine lv_iload_n hx hb dL_law_162 rfl (lv_at hl 3 rfl) ?_
      refine lv_iconst (v := nI 1) hx hb dL_law_163 (by decide) ?_
      refine r_iadd (a := i) (b := 1) hx hb dL_law_164 ?_
      refine r_sld (n := i + 1) hx hb hX hbl hbA hS (by omega) hL dL_law_165 ?_
      refine jX0_forget S hl.1 ⟨Nat.le_of_ble_eq_true rfl, Nat.le_of_ble_eq_true rfl⟩ (Nat.le_of_ble_eq_true rfl) ⟨Nat.le_of_ble_eq_true rfl, Nat.le_of_ble_eq_true rfl⟩ hK hP hD hS hA (xs (i + 1)) D t1 dL_law_166 (fun r1 u1 H locs hw1 hP hD hS => ?_)
      obtain ⟨he1, ro1, fr1, ab1, fu1, us1, bi1, le1, pe1, ch1⟩ := u1
      obtain ⟨D1, t2, a1⟩ := hw1
      have t2 : TOK he1 ro1 fr1 us1 bi1 le1 pe1 ch1 D1 := t2
      have hP : va_P (dC, dI) vwCl (xW cI cZ qx he1 ro1 fr1 ab1 fu1 us1 bi1 le1 pe1 ch1 su se ha sk ++ mW cI qm he sr ln pr) H := hP
      have hD : va_D A (xW cI cZ qx he1 ro1 fr1 ab1 fu1 us1 bi1 le1 pe1 ch1 su se ha sk ++ mW cI qm he sr ln pr) := hD
      refine lv_aload_n hx hb dL_law_169 rfl (lv_at hl 2 rfl) ?_
      refine lv_aload_n hx hb dL_law_170 rfl (lv_at hl 0 rfl) ?_
      refine lv_iload_n hx hb dL_law_171 rfl (lv_at hl 3 rfl) ?_
      refine lv_iconst (v := nI 1) hx hb dL_law_172 (by decide) ?_
      refine r_iadd (a := i) (b := 1) hx hb dL_law_173 ?_
      refine r_sld (n := i + 1) hx hb hX hbl hbA hS (by omega) hL dL_law_174 ?_
      refine jX1_forget S hl.1 ⟨Nat.le_of_ble_eq_true rfl, Nat.le_of_ble_eq_true rfl⟩ (Nat.le_of_ble_eq_true rfl) ⟨Nat.le_of_ble_eq_true rfl, Nat.le_of_ble_eq_true rfl⟩ hK hP hD hS hA (xs (i + 1)) D m1 dL_law_175 (fun r2 u2 H locs hw2 hP hD hS => ?_)
      obtain ⟨en2, sr2, ln2, pr2⟩ := u2
      obtain ⟨D2, m2, a2⟩ := hw2
      have m2 : MOK en2 sr2 ln2 pr2 D2 := m2
      have hP : va_P (dC, dI) vwCl (xW cI cZ qx he1 ro1 fr1 ab1 fu1 us1 bi1 le1 pe1 ch1 su se ha sk ++ mW cI qm en2 sr2 ln2 pr2) H := hP
      have hD : va_D A (xW cI cZ qx he1 ro1 fr1 ab1 fu1 us1 bi1 le1 pe1 ch1 su se ha sk ++ mW cI qm en2 sr2 ln2 pr2) := hD
      obtain ⟨eD, er⟩ := fgs_det a1 a2 (fun z => cnt_eq t2 m2 z)
      subst eD
      refine lv_icmp_eq (tgt := 321) hx hb dL_law_178 (by decide) (fun _ => ?_) (fun z => absurd er z)
      refine lv_iinc (v := nI (i + 4)) (lv' := [(3, .int (nI (i + 4))), (0, .ref b), (1, .ref (qx 0)), (2, .ref (qm 0))]) hx hb dL_law_321 hl (k := 3) rfl (nI_add i 4) (by decide) rfl (fun ls hl => ?_)
      refine lv_goto (tgt := 18) hx hb dL_law_324 (by decide) ?_
      exact ih (i + 4, he1, ro1, fr1, ab1, fu1, us1, bi1, le1, pe1, ch1, su, se, ha, sk, en2, sr2, ln2, pr2, D1) ls _ _ ⟨t2, m2, hi4⟩ (by show L - (i + 4) < L - i; omega) (lv_sub hl [1, 2, 3, 0] rfl) hP hD hS
    · refine lv_tableIn (off := 151) (tgt := 183) hx hb dL_law_32 (by decide) (by decide) rfl (by decide) ?_
      refine lv_aload_n hx hb dL_law_183 rfl (lv_at hl 1 rfl) ?_
      refine lv_aload_n hx hb dL_law_184 rfl (lv_at hl 0 rfl) ?_
      refine lv_iload_n hx hb dL_law_185 rfl (lv_at hl 3 rfl) ?_
      refine lv_iconst (v := nI 1) hx hb dL_law_186 (by decide) ?_
      refine r_iadd (a := i) (b := 1) hx hb dL_law_187 ?_
      refine r_sld (n := i + 1) hx hb hX hbl hbA hS (by omega) hL dL_law_188 ?_
      obtain ⟨a, ha1, ea⟩ := and16_I (xs (i + 1))
      refine jX0_owner S hl.1 ⟨Nat.le_of_ble_eq_true rfl, Nat.le_of_ble_eq_true rfl⟩ (Nat.le_of_ble_eq_true rfl) ⟨Nat.le_of_ble_eq_true rfl, Nat.le_of_ble_eq_true rfl⟩ hK hP (xs (i + 1)) a D ea ha1 gT gC gB dL_law_189 ?_
      refine lv_aload_n hx hb dL_law_192 rfl (lv_at hl 2 rfl) ?_
      refine lv_aload_n hx hb dL_law_193 rfl (lv_at hl 0 rfl) ?_
      refine lv_iload_n hx hb dL_law_194 rfl (lv_at hl 3 rfl) ?_
      refine lv_iconst (v := nI 1) hx hb dL_law_195 (by decide) ?_
      refine r_iadd (a := i) (b := 1) hx hb dL_law_196 ?_
      refine r_sld (n := i + 1) hx hb hX hbl hbA hS (by omega) hL dL_law_197 ?_
      refine jX1_owner S hl.1 ⟨Nat.le_of_ble_eq_true rfl, Nat.le_of_ble_eq_true rfl⟩ (Nat.le_of_ble_eq_true rfl) ⟨Nat.le_of_ble_eq_true rfl, Nat.le_of_ble_eq_true rfl⟩ hK hP (xs (i + 1)) a ea ha1 D m1 dL_law_198 ?_
      refine lv_icmp_eq (tgt := 321) hx hb dL_law_201 (by decide) (fun _ => ?_) (fun z => absurd rfl z)
      refine lv_iinc (v := nI (i + 4)) (lv' := [(3, .int (nI (i + 4))), (0, .ref b), (1, .ref (qx 0)), (2, .ref (qm 0))]) hx hb dL_law_321 hl (k := 3) rfl (nI_add i 4) (by decide) rfl (fun ls hl => ?_)
      refine lv_goto (tgt := 18) hx hb dL_law_324 (by decide) ?_
      exact ih (i + 4, he, ro, fr, ab, fu, us, bi, le, pe, ch, su, se, ha, sk, he, sr, ln, pr, D) ls _ _ ⟨t1, m1, hi4⟩ (by show L - (i + 4) < L - i; omega) (lv_sub hl [1, 2, 3, 0] rfl) hP hD hS
    · refine lv_tableIn (off := 174) (tgt := 206) hx hb dL_law_32 (by decide) (by decide) rfl (by decide) ?_
      refine lv_aload_n hx hb dL_law_206 rfl (lv_at hl 1 rfl) ?_
      refine lv_aload_n hx hb dL_law_207 rfl (lv_at hl 0 rfl) ?_
      refine lv_iload_n hx hb dL_law_208 rfl (lv_at hl 3 rfl) ?_
      refine lv_iconst (v := nI 1) hx hb dL_law_209 (by decide) ?_
      refine r_iadd (a := i) (b := 1) hx hb dL_law_210 ?_
      refine r_sld (n := i + 1) hx hb hX hbl hbA hS (by omega) hL dL_law_211 ?_
      obtain ⟨a, ha1, ea⟩ := and16_I (xs (i + 1))
      refine jX0_length S hl.1 ⟨Nat.le_of_ble_eq_true rfl, Nat.le_of_ble_eq_true rfl⟩ (Nat.le_of_ble_eq_true rfl) ⟨Nat.le_of_ble_eq_true rfl, Nat.le_of_ble_eq_true rfl⟩ hK hP (xs (i + 1)) a D ea ha1 gT gC gB dL_law_212 ?_
      refine lv_aload_n hx hb dL_law_215 rfl (lv_at hl 2 rfl) ?_
      refine lv_aload_n hx hb dL_law_216 rfl (lv_at hl 0 rfl) ?_
      refine lv_iload_n hx hb dL_law_217 rfl (lv_at hl 3 rfl) ?_
      refine lv_iconst (v := nI 1) hx hb dL_law_218 (by decide) ?_
      refine r_iadd (a := i) (b := 1) hx hb dL_law_219 ?_
      refine r_sld (n := i + 1) hx hb hX hbl hbA hS (by omega) hL dL_law_220 ?_
      refine jX1_length S hl.1 ⟨Nat.le_of_ble_eq_true rfl, Nat.le_of_ble_eq_true rfl⟩ (Nat.le_of_ble_eq_true rfl) ⟨Nat.le_of_ble_eq_true rfl, Nat.le_of_ble_eq_true rfl⟩ hK hP (xs (i + 1)) a ea ha1 D m1 dL_law_221 ?_
      refine lv_icmp_eq (tgt := 321) hx hb dL_law_224 (by decide) (fun _ => ?_) (fun z => absurd rfl z)
      refine lv_iinc (v := nI (i + 4)) (lv' := [(3, .int (nI (i + 4))), (0, .ref b), (1, .ref (qx 0)), (2, .ref (qm 0))]) hx hb dL_law_321 hl (k := 3) rfl (nI_add i 4) (by decide) rfl (fun ls hl => ?_)
      refine lv_goto (tgt := 18) hx hb dL_law_324 (by decide) ?_
      exact ih (i + 4, he, ro, fr, ab, fu, us, bi, le, pe, ch, su, se, ha, sk, he, sr, ln, pr, D) ls _ _ ⟨t1, m1, hi4⟩ (by show L - (i + 4) < L - i; omega) (lv_sub hl [1, 2, 3, 0] rfl) hP hD hS
    · refine lv_tableIn (off := 197) (tgt := 229) hx hb dL_law_32 (by decide) (by decide) rfl (by decide) ?_
      refine lv_aload_n hx hb dL_law_229 rfl (lv_at hl 1 rfl) ?_
      refine lv_aload_n hx hb dL_law_230 rfl (lv_at hl 0 rfl) ?_
      refine lv_iload_n hx hb dL_law_231 rfl (lv_at hl 3 rfl) ?_
      refine lv_iconst (v := nI 1) hx hb dL_law_232 (by decide) ?_
      refine r_iadd (a := i) (b := 1) hx hb dL_law_233 ?_
      refine r_sld (n := i + 1) hx hb hX hbl hbA hS (by omega) hL dL_law_234 ?_
      refine jX0_owned S hl.1 ⟨Nat.le_of_ble_eq_true rfl, Nat.le_of_ble_eq_true rfl⟩ (Nat.le_of_ble_eq_true rfl) ⟨Nat.le_of_ble_eq_true rfl, Nat.le_of_ble_eq_true rfl⟩ hK hP hD hS hA (xs (i + 1)) D gT gC gB dL_law_235 (fun r1 u1 H locs a1 hP hD hS => ?_)
      obtain ⟨su1, se1, ha1, sk1⟩ := u1
      have hP : va_P (dC, dI) vwCl (xW cI cZ qx he ro fr ab fu us bi le pe ch su1 se1 ha1 sk1 ++ mW cI qm he sr ln pr) H := hP
      have hD : va_D A (xW cI cZ qx he ro fr ab fu us bi le pe ch su1 se1 ha1 sk1 ++ mW cI qm he sr ln pr) := hD
      refine lv_aload_n hx hb dL_law_238 rfl (lv_at hl 2 rfl) ?_
      refine lv_aload_n hx hb dL_law_239 rfl (lv_at hl 0 rfl) ?_
      refine lv_iload_n hx hb dL_law_240 rfl (lv_at hl 3 rfl) ?_
      refine lv_iconst (v := nI 1) hx hb dL_law_241 (by decide) ?_
      refine r_iadd (a := i) (b := 1) hx hb dL_law_242 ?_
      refine r_sld (n := i + 1) hx hb hX hbl hbA hS (by omega) hL dL_law_243 ?_
      refine jX1_owned S hl.1 ⟨Nat.le_of_ble_eq_true rfl, Nat.le_of_ble_eq_true rfl⟩ (Nat.le_of_ble_eq_true rfl) ⟨Nat.le_of_ble_eq_true rfl, Nat.le_of_ble_eq_true rfl⟩ hK hP (xs (i + 1)) D m1 dL_law_244 (fun r2 a2 => ?_)
      refine lv_icmp_eq (tgt := 321) hx hb dL_law_247 (by decide) (fun _ => ?_) (fun z => absurd (ows_det a1 a2) z)
      refine lv_iinc (v := nI (i + 4)) (lv' := [(3, .int (nI (i + 4))), (0, .ref b), (1, .ref (qx 0)), (2, .ref (qm 0))]) hx hb dL_law_321 hl (k := 3) rfl (nI_add i 4) (by decide) rfl (fun ls hl => ?_)
      refine lv_goto (tgt := 18) hx hb dL_law_324 (by decide) ?_
      exact ih (i + 4, he, ro, fr, ab, fu, us, bi, le, pe, ch, su1, se1, ha1, sk1, he, sr, ln, pr, D) ls _ _ ⟨t1, m1, hi4⟩ (by show L - (i + 4) < L - i; omega) (lv_sub hl [1, 2, 3, 0] rfl) hP hD hS
    · refine lv_tableIn (off := 220) (tgt := 252) hx hb dL_law_32 (by decide) (by decide) rfl (by decide) ?_
      refine lv_aload_n hx hb dL_law_252 rfl (lv_at hl 1 rfl) ?_
      refine lv_aload_n hx hb dL_law_253 rfl (lv_at hl 0 rfl) ?_
      refine lv_iload_n hx hb dL_law_254 rfl (lv_at hl 3 rfl) ?_
      refine lv_iconst (v := nI 1) hx hb dL_law_255 (by decide) ?_
      refine r_iadd (a := i) (b := 1) hx hb dL_law_256 ?_
      refine r_sld (n := i + 1) hx hb hX hbl hbA hS (by omega) hL dL_law_257 ?_
      refine lv_aload_n hx hb dL_law_258 rfl (lv_at hl 0 rfl) ?_
      refine lv_iload_n hx hb dL_law_259 rfl (lv_at hl 3 rfl) ?_
      refine lv_iconst (v := nI 2) hx hb dL_law_260 (by decide) ?_
      refine r_iadd (a := i) (b := 2) hx hb dL_law_261 ?_
      refine r_sld (n := i + 2) hx hb hX hbl hbA hS (by omega) hL dL_law_262 ?_
      refine jX0_next S hl.1 ⟨Nat.le_of_ble_eq_true rfl, Nat.le_of_ble_eq_true rfl⟩ (Nat.le_of_ble_eq_true rfl) ⟨Nat.le_of_ble_eq_true rfl, Nat.le_of_ble_eq_true rfl⟩ hK hP (xs (i + 1)) (xs (i + 2)) D gT gC gB dL_law_263 (fun r1 a1 => ?_)
      refine lv_aload_n hx hb dL_law_266 rfl (lv_at hl 2 rfl) ?_
      refine lv_aload_n hx hb dL_law_267 rfl (lv_at hl 0 rfl) ?_
      refine lv_iload_n hx hb dL_law_268 rfl (lv_at hl 3 rfl) ?_
      refine lv_iconst (v := nI 1) hx hb dL_law_269 (by decide) ?_
      refine r_iadd (a := i) (b := 1) hx hb dL_law_270 ?_
      refine r_sld (n := i + 1) hx hb hX hbl hbA hS (by omega) hL dL_law_271 ?_
      refine lv_aload_n hx hb dL_law_272 rfl (lv_at hl 0 rfl) ?_
      refine lv_iload_n hx hb dL_law_273 rfl (lv_at hl 3 rfl) ?_
      refine lv_iconst (v := nI 2) hx hb dL_law_274 (by decide) ?_
      refine r_iadd (a := i) (b := 2) hx hb dL_law_275 ?_
      refine r_sld (n := i + 2) hx hb hX hbl hbA hS (by omega) hL dL_law_276 ?_
      refine jX1_next S hl.1 ⟨Nat.le_of_ble_eq_true rfl, Nat.le_of_ble_eq_true rfl⟩ (Nat.le_of_ble_eq_true rfl) ⟨Nat.le_of_ble_eq_true rfl, Nat.le_of_ble_eq_true rfl⟩ hK hP (xs (i + 1)) (xs (i + 2)) D m1 dL_law_277 (fun r2 a2 => ?_)
      refine lv_icmp_eq (tgt := 321) hx hb dL_law_280 (by decide) (fun _ => ?_) (fun z => absurd (nxs_det a1 a2) z)
      refine lv_iinc (v := nI (i + 4)) (lv' := [(3, .int (nI (i + 4))), (0, .ref b), (1, .ref (qx 0)), (2, .ref (qm 0))]) hx hb dL_law_321 hl (k := 3) rfl (nI_add i 4) (by decide) rfl (fun ls hl => ?_)
      refine lv_goto (tgt := 18) hx hb dL_law_324 (by decide) ?_
      exact ih (i + 4, he, ro, fr, ab, fu, us, bi, le, pe, ch, su, se, ha, sk, he, sr, ln, pr, D) ls _ _ ⟨t1, m1, hi4⟩ (by show L - (i + 4) < L - i; omega) (lv_sub hl [1, 2, 3, 0] rfl) hP hD hS
    · refine lv_tableIn (off := 253) (tgt := 285) hx hb dL_law_32 (by decide) (by decide) rfl (by decide) ?_
      refine lv_aload_n hx hb dL_law_285 rfl (lv_at hl 1 rfl) ?_
      refine jX0_useless S hl.1 ⟨Nat.le_of_ble_eq_true rfl, Nat.le_of_ble_eq_true rfl⟩ (Nat.le_of_ble_eq_true rfl) ⟨Nat.le_of_ble_eq_true rfl, Nat.le_of_ble_eq_true rfl⟩ hK hP hD hS hA D gT gC gB dL_law_286 (fun r1 u1 H locs a1 hP hD hS => ?_)
      obtain ⟨su1, se1, ha1, sk1⟩ := u1
      have hP : va_P (dC, dI) vwCl (xW cI cZ qx he ro fr ab fu us bi le pe ch su1 se1 ha1 sk1 ++ mW cI qm he sr ln pr) H := hP
      have hD : va_D A (xW cI cZ qx he ro fr ab fu us bi le pe ch su1 se1 ha1 sk1 ++ mW cI qm he sr ln pr) := hD
      refine lv_aload_n hx hb dL_law_289 rfl (lv_at hl 2 rfl) ?_
      refine jX1_useless S hl.1 ⟨Nat.le_of_ble_eq_true rfl, Nat.le_of_ble_eq_true rfl⟩ (Nat.le_of_ble_eq_true rfl) ⟨Nat.le_of_ble_eq_true rfl, Nat.le_of_ble_eq_true rfl⟩ hK hP D m1 dL_law_290 (fun r2 a2 => ?_)
      refine lv_icmp_eq (tgt := 321) hx hb dL_law_293 (by decide) (fun _ => ?_) (fun z => absurd (a1.trans a2.symm) z)
      refine lv_iinc (v := nI (i + 4)) (lv' := [(3, .int (nI (i + 4))), (0, .ref b), (1, .ref (qx 0)), (2, .ref (qm 0))]) hx hb dL_law_321 hl (k := 3) rfl (nI_add i 4) (by decide) rfl (fun ls hl => ?_)
      refine lv_goto (tgt := 18) hx hb dL_law_324 (by decide) ?_
      exact ih (i + 4, he, ro, fr, ab, fu, us, bi, le, pe, ch, su1, se1, ha1, sk1, he, sr, ln, pr, D) ls _ _ ⟨t1, m1, hi4⟩ (by show L - (i + 4) < L - i; omega) (lv_sub hl [1, 2, 3, 0] rfl) hP hD hS
    · refine lv_tableIn (off := 266) (tgt := 298) hx hb dL_law_32 (by decide) (by decide) rfl (by decide) ?_
      refine lv_aload_n hx hb dL_law_298 rfl (lv_at hl 1 rfl) ?_
      refine lv_aload_n hx hb dL_law_299 rfl (lv_at hl 0 rfl) ?_
      refine lv_iload_n hx hb dL_law_300 rfl (lv_at hl 3 rfl) ?_
      refine lv_iconst (v := nI 1) hx hb dL_law_301 (by decide) ?_
      refine r_iadd (a := i) (b := 1) hx hb dL_law_302 ?_
      refine r_sld (n := i + 1) hx hb hX hbl hbA hS (by omega) hL dL_law_303 ?_
      refine jX0_entries S hl.1 ⟨Nat.le_of_ble_eq_true rfl, Nat.le_of_ble_eq_true rfl⟩ (Nat.le_of_ble_eq_true rfl) ⟨Nat.le_of_ble_eq_true rfl, Nat.le_of_ble_eq_true rfl⟩ hK hP (xs (i + 1)) D gT gC gB dL_law_304 (fun r1 a1 => ?_)
      refine lv_aload_n hx hb dL_law_307 rfl (lv_at hl 2 rfl) ?_
      refine lv_aload_n hx hb dL_law_308 rfl (lv_at hl 0 rfl) ?_
      refine lv_iload_n hx hb dL_law_309 rfl (lv_at hl 3 rfl) ?_
      refine lv_iconst (v := nI 1) hx hb dL_law_310 (by decide) ?_
      refine r_iadd (a := i) (b := 1) hx hb dL_law_311 ?_
      refine r_sld (n := i + 1) hx hb hX hbl hbA hS (by omega) hL dL_law_312 ?_
      refine jX1_entries S hl.1 ⟨Nat.le_of_ble_eq_true rfl, Nat.le_of_ble_eq_true rfl⟩ (Nat.le_of_ble_eq_true rfl) ⟨Nat.le_of_ble_eq_true rfl, Nat.le_of_ble_eq_true rfl⟩ hK hP (xs (i + 1)) D m1 dL_law_313 (fun r2 a2 => ?_)
      refine lv_icmp_eq (tgt := 321) hx hb dL_law_316 (by decide) (fun _ => ?_) (fun z => absurd (ens_det a1 a2) z)
      refine lv_iinc (v := nI (i + 4)) (lv' := [(3, .int (nI (i + 4))), (0, .ref b), (1, .ref (qx 0)), (2, .ref (qm 0))]) hx hb dL_law_321 hl (k := 3) rfl (nI_add i 4) (by decide) rfl (fun ls hl => ?_)
      refine lv_goto (tgt := 18) hx hb dL_law_324 (by decide) ?_
      exact ih (i + 4, he, ro, fr, ab, fu, us, bi, le, pe, ch, su, se, ha, sk, he, sr, ln, pr, D) ls _ _ ⟨t1, m1, hi4⟩ (by show L - (i + 4) < L - i; omega) (lv_sub hl [1, 2, 3, 0] rfl) hP hD hS
    · refine lv_tableOut (tgt := 321) hx hb dL_law_32 (Or.inr (by rw [nI_toInt (by omega)]; omega)) (by decide) ?_
      refine lv_iinc (v := nI (i + 4)) (lv' := [(3, .int (nI (i + 4))), (0, .ref b), (1, .ref (qx 0)), (2, .ref (qm 0))]) hx hb dL_law_321 hl (k := 3) rfl (nI_add i 4) (by decide) rfl (fun ls hl => ?_)
      refine lv_goto (tgt := 18) hx hb dL_law_324 (by decide) ?_
      exact ih (i + 4, he, ro, fr, ab, fu, us, bi, le, pe, ch, su, se, ha, sk, he, sr, ln, pr, D) ls _ _ ⟨t1, m1, hi4⟩ (by show L - (i + 4) < L - i; omega) (lv_sub hl [1, 2, 3, 0] rfl) hP hD hS
end
section
set_option maxRecDepth 100000
-- ===== YOUR PART ENDS =====
set_option maxHeartbeats 4000000 in
theorem lw_walk (l : Launch) (b : Addr) (xs : List Int32) : MetFree l x (headSpec (Jvm.Cond.code x code maxLocals ret :: tables_1) room_1) (lw_P b xs) (fun _ _ _ _ _ => True) lw_Q := by
  refine MetFree.of_bodyS (code := code) (maxLocals := maxLocals) (ret := ret) (by decide) ?_ ?_
  · intro args s m h hn
    obtain ⟨meth, c, h1, h2, h3, h4, h5, h6, -, -⟩ := Cond.code_spec hn (atoms_spec (ws := Jvm.Cond.code x code maxLocals ret :: tables_1) h _ List.mem_cons_self)
    exact ⟨meth, c, h1, h2, h3, h4, h5, h6⟩
  · intro p e s m args below meth c s₁ B hml0 hP _
    obtain ⟨rfl, hx, hbd, hgv⟩ := hP
    obtain ⟨scr, harrAt, hlist, hof, hsmall⟩ := hx
    obtain ⟨hcb, hkn, -, -⟩ := State.arrayAt?_spec harrAt
    have hown : s.vm.findClass R_law = some m.cls := findClass_of_methodNamed B.named
    have hts0 : ∀ c ∈ (Jvm.Cond.code x code maxLocals ret :: tables_1), c.before #[Value.ref b] s = true := atoms_spec (ws := Jvm.Cond.code x code maxLocals ret :: tables_1) B.pre
    have hts : ∀ w ∈ lw_tbl, w.before #[Value.ref b] s = true := k2_hts_sels lw_privs (fun w hw => hts0 w (List.mem_cons_of_mem _ hw)) lw_privs_ok
    have hml : c.maxLocals = 4 := B.maxLocals_eq (hts0 _ List.mem_cons_self)
    have X₀ : Stand p l e room_1 s m #[Value.ref b] below meth c s₁ [] 0 0 := Stand.of_body B
    have hh0 : s₁.heap = s.heap := by rw [B.state]; rfl
    have hsz : scr.slots.size = xs.length := by rw [← Array.length_toList, hlist, List.length_map]
    have hval : ∀ j : Nat, j < xs.length → scr.slots[j]? = some (.int (xs.getD j 0)) := fun j hj => by
      rw [← Array.getElem?_toList, hlist]
      simp [hj]
    have hbl : b < s.heap.size := (Array.getElem?_eq_some_iff.mp hcb).1
    have hX : va_X b xs.length (fun j => xs.getD j 0) s s.heap := ⟨scr, hcb, hof, hkn, hsz, hval⟩
    have K : W p l e room_1 s m #[Value.ref b] below meth c s₁.heap [] 0 0 (lw_Z below #[Value.ref b] s) (entryFrame m ([Value.ref b] : List Value).toArray 4) := by
      rw [hh0]
      exact whole_start l hbd ⟨B.exec, B.bytes, B.returns, hml, hown, hts, hX, hbl, B.notSynchronized, hgv⟩
    obtain ⟨t, a1, o, b1, b2, b3⟩ := K s₁ rfl X₀
    exact ⟨t, o, a1, b1, b2, b3⟩
theorem lw_pre_spec {args : Array Value} {s : State} (h : (Jvm.Cond.and given_1 narrow_1).before args s = true) (hr : rest_1_c.before args s = true) : ∃ (b : Addr) (xs : List Int32), lw_P b xs args s := by
  have hs := flat_of_before _ h
  have hq := flat_of_before _ hr
  have hc : (Cond.count 1).before args s = true := hs _ (by decide +kernel)
  have harr : (Cond.arrayOf (.arg 0) .int).before args s = true := hs _ (by decide +kernel)
  have hle : (Cond.le (.length (.arg 0)) (.int 256)).before args s = true := hs _ (by decide +kernel)
  have hlen : (Cond.isInt (.length (.arg 0))).before args s = true := hq _ (by decide +kernel)
  have hall : (Cond.all (.arg 0) (.isInt (.elem (.arg 0) (.index 0)))).before args s = true := hq _ (by decide +kernel)
  obtain ⟨b, xs, hb, hx⟩ := State.ints_of_pre rfl harr hlen hall
  have hsm : xs.length < 2 ^ 31 := hx.choose_spec.2.2.2
  have hev : (Term.length (.arg 0)).eval args s none [] s = some (.int xs.length.toInt32) := hx.length_eval hb
  have hv := Cond.le_ints hev (show (Term.int 256).eval args s none [] s = some (.int 256) from rfl)
  have hd : xs.length.toInt32 ≤ 256 := by
    simpa [Cond.before, Cond.holds, hv] using hle
  have hN : xs.length ≤ 256 := (Int32.ofNat_le_ofNat hsm (by decide)).mp (show Int32.ofNat xs.length ≤ Int32.ofNat 256 from hd)
  exact ⟨b, xs, Cond.one_arg hc (show args[0]? = some (.ref b) from hb), hx, hN, h⟩
theorem lw_comes (l : Launch) : Comes l x (Jvm.Cond.code x code maxLocals ret :: tables_1) room_1 (fun tb e args s => Calls_1 tb e args s ∧ rest_1 tb e args s ∧ Pre_1 tb e args s)
    (fun _ _ args s o t => lw_Q args s o t) := by
  intro p e ha hc hk s m args below hf hfit hheap happ hpre
  obtain ⟨b, xs, hP⟩ := lw_pre_spec hpre.2.2 hpre.2.1
  obtain ⟨k, o, h1, h2, h3, hQ⟩ := lw_walk l b xs p e ha hc hk s m args below hf ((Spec.applies_iff_loose hf).mp happ).1 hP trivial
  exact ⟨k, o, h1, h2, h3, hQ⟩
theorem lw_frame {s t : State} {o : Outcome} {args : Array Value} (h : Framed s o t [] 600000 7290000) :
    Framed s o t (fieldLocs frame_1_writes args s ++ arrayLocs frame_1_arrays args s ++ staticLocs frame_1_statics s) 600000 7290000 := h
theorem lw_limb (L : Cond) (hL : ∀ (args : Array Value) (s t : State), L.after args s (.returned (some (.int 1))) t = true) :
    ArmFor flags0 classFile x code maxLocals ret World_1 tables_1 room_1 Calls_1 rest_1 Pre_1
      (fun tb e a s o t => postC L tb e a s o t ∧ Framed s o t (fieldLocs frame_1_writes a s ++ arrayLocs frame_1_arrays a s ++ staticLocs frame_1_statics s) 600000 7290000) := by
  intro l _ _ _ p e ha hc hk s m args below hf hfit hheap happ hpre
  obtain ⟨k, o, h1, h2, h3, rfl, hF⟩ := lw_comes l p e ha hc hk s m args below hf hfit hheap happ hpre
  exact ⟨k, _, h1, h2, h3, hL args s _, lw_frame hF⟩
theorem i_vc : Claimed_1_1 ∧ Claimed_1_2 := ⟨lw_limb limb_1_1 (fun args s t => by simp [limb_1_1, Cond.after, Cond.holds, Cond.value]), lw_limb limb_1_2 (fun args s t => Cond.after_iff.mpr (by
  first | (rw [show limb_1_2 = Cond.eq .result (.int 1) from rfl, Cond.eq_ints (x := 1) (y := 1) rfl rfl]; simp; done) | (simp [limb_1_2, Cond.value, Term.eval]; done)))⟩
end
