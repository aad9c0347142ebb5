section
-- ===== PART A: goes FIRST, ahead of the names: the tables' words, and 'selects' of the private methods out of them =====
/-- a private method of a class that the tables say can be made, by its rows of tables_1 -/
def lw_okq (q : MethodName × Nat) : Prop := (q.1.cls ≠ "java/lang/invoke/MethodHandle" ∧ q.1.cls ≠ "java/lang/invoke/VarHandle") ∧ Cond.instantiable q.1.cls q.2 ∈ tables_1 ∧ Cond.privateMethod q.1 ∈ tables_1 ∧ Cond.instanceMethod q.1 ∈ tables_1
set_option maxRecDepth 100000
theorem lw_p0 : lw_okq (⟨"TermSecrets", "isTerm", "(I)Z"⟩, 9) := ⟨⟨by decide +kernel, by decide +kernel⟩, List.mem_of_getElem? (i := 4) rfl, List.mem_of_getElem? (i := 45) rfl, List.mem_of_getElem? (i := 46) rfl⟩
theorem lw_p1 : lw_okq (⟨"TermSecrets", "termOf", "(III)I"⟩, 9) := ⟨⟨by decide +kernel, by decide +kernel⟩, List.mem_of_getElem? (i := 4) rfl, List.mem_of_getElem? (i := 49) rfl, List.mem_of_getElem? (i := 50) rfl⟩
theorem lw_p2 : lw_okq (⟨"TermSecrets", "isKnown", "(I)Z"⟩, 9) := ⟨⟨by decide +kernel, by decide +kernel⟩, List.mem_of_getElem? (i := 4) rfl, List.mem_of_getElem? (i := 53) rfl, List.mem_of_getElem? (i := 54) rfl⟩
theorem lw_p3 : lw_okq (⟨"TermSecrets", "learn", "(I)V"⟩, 9) := ⟨⟨by decide +kernel, by decide +kernel⟩, List.mem_of_getElem? (i := 4) rfl, List.mem_of_getElem? (i := 57) rfl, List.mem_of_getElem? (i := 58) rfl⟩
theorem lw_p4 : lw_okq (⟨"TermSecrets", "spread", "()V"⟩, 9) := ⟨⟨by decide +kernel, by decide +kernel⟩, List.mem_of_getElem? (i := 4) rfl, List.mem_of_getElem? (i := 61) rfl, List.mem_of_getElem? (i := 62) rfl⟩
theorem lw_p5 : lw_okq (⟨"TermSecrets", "open", "(I)V"⟩, 9) := ⟨⟨by decide +kernel, by decide +kernel⟩, List.mem_of_getElem? (i := 4) rfl, List.mem_of_getElem? (i := 65) rfl, List.mem_of_getElem? (i := 66) rfl⟩
theorem lw_p6 : lw_okq (⟨"TermSecrets", "lookAt", "(I)V"⟩, 9) := ⟨⟨by decide +kernel, by decide +kernel⟩, List.mem_of_getElem? (i := 4) rfl, List.mem_of_getElem? (i := 69) rfl, List.mem_of_getElem? (i := 70) rfl⟩
theorem lw_p7 : lw_okq (⟨"TermSecrets", "closureOf", "(I)I"⟩, 9) := ⟨⟨by decide +kernel, by decide +kernel⟩, List.mem_of_getElem? (i := 4) rfl, List.mem_of_getElem? (i := 88) rfl, List.mem_of_getElem? (i := 89) rfl⟩
theorem lw_p8 : lw_okq (⟨"TermSecrets", "learnAll", "(I)V"⟩, 9) := ⟨⟨by decide +kernel, by decide +kernel⟩, List.mem_of_getElem? (i := 4) rfl, List.mem_of_getElem? (i := 92) rfl, List.mem_of_getElem? (i := 93) rfl⟩
theorem lw_p9 : lw_okq (⟨"TermSecrets", "reveals", "(II)Z"⟩, 9) := ⟨⟨by decide +kernel, by decide +kernel⟩, List.mem_of_getElem? (i := 4) rfl, List.mem_of_getElem? (i := 108) rfl, List.mem_of_getElem? (i := 109) rfl⟩
theorem lw_p10 : lw_okq (⟨"TermSecretsModel", "make", "(III)I"⟩, 7) := ⟨⟨by decide +kernel, by decide +kernel⟩, List.mem_of_getElem? (i := 124) rfl, List.mem_of_getElem? (i := 157) rfl, List.mem_of_getElem? (i := 158) rfl⟩
theorem lw_p11 : lw_okq (⟨"TermSecretsModel", "bad", "(I)Z"⟩, 7) := ⟨⟨by decide +kernel, by decide +kernel⟩, List.mem_of_getElem? (i := 124) rfl, List.mem_of_getElem? (i := 161) rfl, List.mem_of_getElem? (i := 162) rfl⟩
theorem lw_p12 : lw_okq (⟨"TermSecretsModel", "work", "(III)V"⟩, 7) := ⟨⟨by decide +kernel, by decide +kernel⟩, List.mem_of_getElem? (i := 124) rfl, List.mem_of_getElem? (i := 177) rfl, List.mem_of_getElem? (i := 178) rfl⟩
theorem lw_p13 : lw_okq (⟨"TermSecretsModel", "apply", "(I)V"⟩, 7) := ⟨⟨by decide +kernel, by decide +kernel⟩, List.mem_of_getElem? (i := 124) rfl, List.mem_of_getElem? (i := 181) rfl, List.mem_of_getElem? (i := 182) rfl⟩
theorem lw_p14 : lw_okq (⟨"TermSecretsModel", "learn", "(I)V"⟩, 7) := ⟨⟨by decide +kernel, by decide +kernel⟩, List.mem_of_getElem? (i := 124) rfl, List.mem_of_getElem? (i := 185) rfl, List.mem_of_getElem? (i := 186) rfl⟩
theorem lw_p15 : lw_okq (⟨"TermSecretsModel", "count", "()I"⟩, 7) := ⟨⟨by decide +kernel, by decide +kernel⟩, List.mem_of_getElem? (i := 124) rfl, List.mem_of_getElem? (i := 189) rfl, List.mem_of_getElem? (i := 190) rfl⟩
def lw_privs_1 : List (MethodName × Nat) := [(⟨"TermSecrets", "isTerm", "(I)Z"⟩, 9), (⟨"TermSecrets", "termOf", "(III)I"⟩, 9), (⟨"TermSecrets", "isKnown", "(I)Z"⟩, 9), (⟨"TermSecrets", "learn", "(I)V"⟩, 9), (⟨"TermSecrets", "spread", "()V"⟩, 9), (⟨"TermSecrets", "open", "(I)V"⟩, 9), (⟨"TermSecrets", "lookAt", "(I)V"⟩, 9), (⟨"TermSecrets", "closureOf", "(I)I"⟩, 9), (⟨"TermSecrets", "learnAll", "(I)V"⟩, 9), (⟨"TermSecrets", "reveals", "(II)Z"⟩, 9), (⟨"TermSecretsModel", "make", "(III)I"⟩, 7), (⟨"TermSecretsModel", "bad", "(I)Z"⟩, 7), (⟨"TermSecretsModel", "work", "(III)V"⟩, 7), (⟨"TermSecretsModel", "apply", "(I)V"⟩, 7), (⟨"TermSecretsModel", "learn", "(I)V"⟩, 7), (⟨"TermSecretsModel", "count", "()I"⟩, 7)]
theorem lw_r1 : ∀ q ∈ lw_privs_1, lw_okq q := List.forall_mem_cons.mpr ⟨lw_p0, List.forall_mem_cons.mpr ⟨lw_p1, List.forall_mem_cons.mpr ⟨lw_p2, List.forall_mem_cons.mpr ⟨lw_p3, List.forall_mem_cons.mpr ⟨lw_p4, List.forall_mem_cons.mpr ⟨lw_p5, List.forall_mem_cons.mpr ⟨lw_p6, List.forall_mem_cons.mpr ⟨lw_p7, List.forall_mem_cons.mpr ⟨lw_p8, List.forall_mem_cons.mpr ⟨lw_p9, List.forall_mem_cons.mpr ⟨lw_p10, List.forall_mem_cons.mpr ⟨lw_p11, List.forall_mem_cons.mpr ⟨lw_p12, List.forall_mem_cons.mpr ⟨lw_p13, List.forall_mem_cons.mpr ⟨lw_p14, List.forall_mem_cons.mpr ⟨lw_p15, fun _ h => absurd h List.not_mem_nil⟩⟩⟩⟩⟩⟩⟩⟩⟩⟩⟩⟩⟩⟩⟩⟩
def lw_privs : List (MethodName × Nat) := lw_privs_1
def lw_tbl : List Cond := k2_sels lw_privs ++ tables_1
theorem lw_privs_ok : ∀ q ∈ lw_privs, lw_okq q := lw_r1
-- ===== ONE list of words for every method: the tables' words that hold all through a run =====
def lw_all : List Cond := lw_tbl.filter goodWord
/-- a word of the tables by its place: claim/WORDS.tsv -/
theorem lw_w {w : Cond} (i : Nat) (h : lw_tbl[i]? = some w) (g : goodWord w = true) : w ∈ lw_all := List.mem_filter.mpr ⟨List.mem_of_getElem? h, g⟩
theorem lw_all_tbl {w : Cond} (h : w ∈ lw_all) : w ∈ lw_tbl := (List.mem_filter.mp h).1
theorem lw_self : GoodIn lw_all lw_all := fun w h => ⟨h, good_of_word (List.mem_filter.mp h).2⟩
/-- a class's field words, by their places -/
theorem lw_in (ws : List Cond) (ps : List Nat) (hp : ws = ps.filterMap (fun i => lw_tbl[i]?)) (hg : ws.all goodWord = true) : ∀ w ∈ ws, w ∈ lw_all := by
  intro w h
  have h1 := List.all_eq_true.mp hg w h
  rw [hp] at h
  obtain ⟨i, -, hi⟩ := List.mem_filterMap.mp h
  exact lw_w i hi h1
/-- the words of a contract for the method y with code b, L locals, answer r -/
abbrev ws_ (y : MethodName) (b : ByteArray) (L : Nat) (r : Option FieldType) : List Cond := Cond.code y b L r :: lw_all
theorem lw_meth {y : MethodName} {b : ByteArray} {L : Nat} {r : Option FieldType} (h : Cond.code y b L r ∈ lw_all) : GoodIn lw_all (ws_ y b L r) := by
  intro w hw
  rcases List.mem_cons.mp hw with e | e
  · rw [e]
    exact lw_self _ h
  · exact lw_self _ e
theorem lw_app {a c : List Cond} (ha : ∀ w ∈ a, w ∈ lw_all) (hc : GoodIn lw_all c) : GoodIn lw_all (a ++ c) := by
  intro w hw
  rcases List.mem_append.mp hw with e | e
  · exact lw_self w (ha w e)
  · exact hc w e
/-- what a call through an object asks: cwV n hts (lw_V ..) -/
theorem lw_V {own : String} {idx : Nat} {C : String} {y : MethodName} {b : ByteArray} {L : Nat} {r : Option FieldType} (h1 : Cond.methodLink own idx y ∈ lw_all) (h2 : Cond.instanceMethod y ∈ lw_all) (h3 : Cond.selects C y y ∈ lw_all) (h4 : Cond.initialized C ∈ lw_all) (h5 : Cond.code y b L r ∈ lw_all) : GoodIn lw_all (wsV own idx C y (ws_ y b L r)) := by
  refine lw_app ?_ (lw_meth h5)
  intro w hw
  simp only [List.mem_cons, List.not_mem_nil, or_false] at hw
  rcases hw with e | e | e | e
  · rw [e]; exact h1
  · rw [e]; exact h2
  · rw [e]; exact h3
  · rw [e]; exact h4
/-- what a static call asks: va_cwS n hts (lw_S ..) -/
theorem lw_S {own : String} {idx : Nat} {y : MethodName} {b : ByteArray} {L : Nat} {r : Option FieldType} (h1 : Cond.methodLink own idx y ∈ lw_all) (h2 : Cond.static y ∈ lw_all) (h3 : Cond.initialized y.cls ∈ lw_all) (h4 : Cond.code y b L r ∈ lw_all) : GoodIn lw_all (va_wsS own idx y (ws_ y b L r)) := by
  refine lw_app ?_ (lw_meth h4)
  intro w hw
  simp only [List.mem_cons, List.not_mem_nil, or_false] at hw
  rcases hw with e | e | e
  · rw [e]; exact h1
  · rw [e]; exact h2
  · rw [e]; exact h3
/-- the words of a contract for a method WITH HANDLERS (hh: its table) -/
abbrev wsW_ (y : MethodName) (b : ByteArray) (L : Nat) (r : Option FieldType) (hh : List (Nat × Nat × Nat × Nat)) : List Cond := Cond.codeWith y b L r hh :: lw_all
theorem lw_methW {y : MethodName} {b : ByteArray} {L : Nat} {r : Option FieldType} {hh : List (Nat × Nat × Nat × Nat)} (h : Cond.codeWith y b L r hh ∈ lw_all) : GoodIn lw_all (wsW_ y b L r hh) := by
  intro w hw
  rcases List.mem_cons.mp hw with e | e
  · rw [e]
    exact lw_self _ h
  · exact lw_self _ e
/-- any list of words by their places (lw_in), good -/
theorem lw_good {ws : List Cond} (h : ∀ w ∈ ws, w ∈ lw_all) : GoodIn lw_all ws := fun w hw => lw_self w (h w hw)
/-- what a call of a method with handlers asks: vx_cwVW n hts (lw_VW ..), vx_cwSW n hts (lw_SW ..) -/
theorem lw_VW {own : String} {idx : Nat} {C : String} {y : MethodName} {b : ByteArray} {L : Nat} {r : Option FieldType} {hh : List (Nat × Nat × Nat × Nat)} (h1 : Cond.methodLink own idx y ∈ lw_all) (h2 : Cond.instanceMethod y ∈ lw_all) (h3 : Cond.selects C y y ∈ lw_all) (h4 : Cond.initialized C ∈ lw_all) (h5 : Cond.codeWith y b L r hh ∈ lw_all) : GoodIn lw_all (wsV own idx C y (wsW_ y b L r hh)) := by
  refine lw_app ?_ (lw_methW h5)
  intro w hw
  simp only [List.mem_cons, List.not_mem_nil, or_false] at hw
  rcases hw with e | e | e | e
  · rw [e]; exact h1
  · rw [e]; exact h2
  · rw [e]; exact h3
  · rw [e]; exact h4
theorem lw_SW {own : String} {idx : Nat} {y : MethodName} {b : ByteArray} {L : Nat} {r : Option FieldType} {hh : List (Nat × Nat × Nat × Nat)} (h1 : Cond.methodLink own idx y ∈ lw_all) (h2 : Cond.static y ∈ lw_all) (h3 : Cond.initialized y.cls ∈ lw_all) (h4 : Cond.codeWith y b L r hh ∈ lw_all) : GoodIn lw_all (va_wsS own idx y (wsW_ y b L r hh)) := by
  refine lw_app ?_ (lw_methW h4)
  intro w hw
  simp only [List.mem_cons, List.not_mem_nil, or_false] at hw
  rcases hw with e | e | e
  · rw [e]; exact h1
  · rw [e]; exact h2
  · rw [e]; exact h3
/-- a word by its place in its run of the tables -/
theorem lw_at {r : List Cond} (hr : ∀ w ∈ r, w ∈ lw_tbl) {w : Cond} (i : Nat) (h : r[i]? = some w) : w ∈ lw_tbl := hr w (List.mem_of_getElem? h)
theorem lw_g {w : Cond} (h : w ∈ lw_tbl) (g : goodWord w = true) : w ∈ lw_all := List.mem_filter.mpr ⟨h, g⟩
theorem lw_ms : ∀ w ∈ k2_sels lw_privs, w ∈ lw_tbl := fun w h => show w ∈ k2_sels lw_privs ++ tables_1 from List.mem_append_left _ h
theorem lw_m0 : ∀ w ∈ tables_1, w ∈ lw_tbl := fun w h => show w ∈ k2_sels lw_privs ++ tables_1 from List.mem_append_right (k2_sels lw_privs) h
theorem qs0 : (Cond.selects "TermSecrets" ⟨"TermSecrets", "isTerm", "(I)Z"⟩ ⟨"TermSecrets", "isTerm", "(I)Z"⟩) ∈ lw_all := lw_g (lw_at lw_ms 0 rfl) rfl
theorem qs1 : (Cond.selects "TermSecrets" ⟨"TermSecrets", "termOf", "(III)I"⟩ ⟨"TermSecrets", "termOf", "(III)I"⟩) ∈ lw_all := lw_g (lw_at lw_ms 1 rfl) rfl
theorem qs2 : (Cond.selects "TermSecrets" ⟨"TermSecrets", "isKnown", "(I)Z"⟩ ⟨"TermSecrets", "isKnown", "(I)Z"⟩) ∈ lw_all := lw_g (lw_at lw_ms 2 rfl) rfl
theorem qs3 : (Cond.selects "TermSecrets" ⟨"TermSecrets", "learn", "(I)V"⟩ ⟨"TermSecrets", "learn", "(I)V"⟩) ∈ lw_all := lw_g (lw_at lw_ms 3 rfl) rfl
theorem qs4 : (Cond.selects "TermSecrets" ⟨"TermSecrets", "spread", "()V"⟩ ⟨"TermSecrets", "spread", "()V"⟩) ∈ lw_all := lw_g (lw_at lw_ms 4 rfl) rfl
theorem qs5 : (Cond.selects "TermSecrets" ⟨"TermSecrets", "open", "(I)V"⟩ ⟨"TermSecrets", "open", "(I)V"⟩) ∈ lw_all := lw_g (lw_at lw_ms 5 rfl) rfl
theorem qs6 : (Cond.selects "TermSecrets" ⟨"TermSecrets", "lookAt", "(I)V"⟩ ⟨"TermSecrets", "lookAt", "(I)V"⟩) ∈ lw_all := lw_g (lw_at lw_ms 6 rfl) rfl
theorem qs7 : (Cond.selects "TermSecrets" ⟨"TermSecrets", "closureOf", "(I)I"⟩ ⟨"TermSecrets", "closureOf", "(I)I"⟩) ∈ lw_all := lw_g (lw_at lw_ms 7 rfl) rfl
theorem qs8 : (Cond.selects "TermSecrets" ⟨"TermSecrets", "learnAll", "(I)V"⟩ ⟨"TermSecrets", "learnAll", "(I)V"⟩) ∈ lw_all := lw_g (lw_at lw_ms 8 rfl) rfl
theorem qs9 : (Cond.selects "TermSecrets" ⟨"TermSecrets", "reveals", "(II)Z"⟩ ⟨"TermSecrets", "reveals", "(II)Z"⟩) ∈ lw_all := lw_g (lw_at lw_ms 9 rfl) rfl
theorem qs10 : (Cond.selects "TermSecretsModel" ⟨"TermSecretsModel", "make", "(III)I"⟩ ⟨"TermSecretsModel", "make", "(III)I"⟩) ∈ lw_all := lw_g (lw_at lw_ms 10 rfl) rfl
theorem qs11 : (Cond.selects "TermSecretsModel" ⟨"TermSecretsModel", "bad", "(I)Z"⟩ ⟨"TermSecretsModel", "bad", "(I)Z"⟩) ∈ lw_all := lw_g (lw_at lw_ms 11 rfl) rfl
theorem qs12 : (Cond.selects "TermSecretsModel" ⟨"TermSecretsModel", "work", "(III)V"⟩ ⟨"TermSecretsModel", "work", "(III)V"⟩) ∈ lw_all := lw_g (lw_at lw_ms 12 rfl) rfl
theorem qs13 : (Cond.selects "TermSecretsModel" ⟨"TermSecretsModel", "apply", "(I)V"⟩ ⟨"TermSecretsModel", "apply", "(I)V"⟩) ∈ lw_all := lw_g (lw_at lw_ms 13 rfl) rfl
theorem qs14 : (Cond.selects "TermSecretsModel" ⟨"TermSecretsModel", "learn", "(I)V"⟩ ⟨"TermSecretsModel", "learn", "(I)V"⟩) ∈ lw_all := lw_g (lw_at lw_ms 14 rfl) rfl
theorem qs15 : (Cond.selects "TermSecretsModel" ⟨"TermSecretsModel", "count", "()I"⟩ ⟨"TermSecretsModel", "count", "()I"⟩) ∈ lw_all := lw_g (lw_at lw_ms 15 rfl) rfl
end
section
/-! TermSecrets -/
set_option maxRecDepth 100000
def RX0 : String := "TermSecrets"
def TX0 : u_T := fun k => match k with
  | 0 => ("TermSecrets", "terms", "I", false)
  | 1 => ("TermSecrets", "sort", "[I", true)
  | 2 => ("TermSecrets", "left", "[I", true)
  | 3 => ("TermSecrets", "right", "[I", true)
  | 4 => ("TermSecrets", "usedIn", "[I", true)
  | 5 => ("TermSecrets", "heard", "I", false)
  | 6 => ("TermSecrets", "knownSet", "I", false)
  | 7 => ("TermSecrets", "waiting", "I", false)
  | _ => ("TermSecrets", "stack", "[I", true)
def tyX0 : Nat → FieldType := fun k => match k with
  | 0 => .int
  | 1 => .array .int
  | 2 => .array .int
  | 3 => .array .int
  | 4 => .array .int
  | 5 => .int
  | 6 => .int
  | 7 => .int
  | _ => .array .int
abbrev wsX00 : List Cond := u_ws RX0 TX0 9
theorem nmX0 : ∀ a, a < 9 → ∀ b, b < 9 → a ≠ b → (TX0 a).2.1 ≠ (TX0 b).2.1 := by decide +kernel
theorem tyX0_ok : ∀ k, k < 9 → parseFieldDescriptor (TX0 k).2.2.1 = some (tyX0 k) := by decide +kernel
abbrev cX0_init : ByteArray := prog_1_method_1_code
def yX0_init : MethodName := ⟨RX0, "<init>", "()V"⟩
theorem dX0_init_0 : decode cX0_init 0 = .ok (.aload_n 0, 1) := by decide +kernel
theorem dX0_init_1 : decode cX0_init 1 = .ok (.invokespecial 1, 3) := by decide +kernel
theorem dX0_init_4 : decode cX0_init 4 = .ok (.aload_n 0, 1) := by decide +kernel
theorem dX0_init_5 : decode cX0_init 5 = .ok (.bipush 28, 2) := by decide +kernel
theorem dX0_init_7 : decode cX0_init 7 = .ok (.newarray .int, 2) := by decide +kernel
theorem dX0_init_9 : decode cX0_init 9 = .ok (.putfield 7, 3) := by decide +kernel
theorem dX0_init_12 : decode cX0_init 12 = .ok (.aload_n 0, 1) := by decide +kernel
theorem dX0_init_13 : decode cX0_init 13 = .ok (.bipush 28, 2) := by decide +kernel
theorem dX0_init_15 : decode cX0_init 15 = .ok (.newarray .int, 2) := by decide +kernel
theorem dX0_init_17 : decode cX0_init 17 = .ok (.putfield 13, 3) := by decide +kernel
theorem dX0_init_20 : decode cX0_init 20 = .ok (.aload_n 0, 1) := by decide +kernel
theorem dX0_init_21 : decode cX0_init 21 = .ok (.bipush 28, 2) := by decide +kernel
theorem dX0_init_23 : decode cX0_init 23 = .ok (.newarray .int, 2) := by decide +kernel
theorem dX0_init_25 : decode cX0_init 25 = .ok (.putfield 16, 3) := by decide +kernel
theorem dX0_init_28 : decode cX0_init 28 = .ok (.aload_n 0, 1) := by decide +kernel
theorem dX0_init_29 : decode cX0_init 29 = .ok (.bipush 28, 2) := by decide +kernel
theorem dX0_init_31 : decode cX0_init 31 = .ok (.newarray .int, 2) := by decide +kernel
theorem dX0_init_33 : decode cX0_init 33 = .ok (.putfield 19, 3) := by decide +kernel
theorem dX0_init_36 : decode cX0_init 36 = .ok (.aload_n 0, 1) := by decide +kernel
theorem dX0_init_37 : decode cX0_init 37 = .ok (.bipush 28, 2) := by decide +kernel
theorem dX0_init_39 : decode cX0_init 39 = .ok (.newarray .int, 2) := by decide +kernel
theorem dX0_init_41 : decode cX0_init 41 = .ok (.putfield 22, 3) := by decide +kernel
theorem dX0_init_44 : decode cX0_init 44 = .ok (.aload_n 0, 1) := by decide +kernel
theorem dX0_init_45 : decode cX0_init 45 = .ok (.bipush 8, 2) := by decide +kernel
theorem dX0_init_47 : decode cX0_init 47 = .ok (.putfield 25, 3) := by decide +kernel
theorem dX0_init_50 : decode cX0_init 50 = .ok (.return_, 1) := by decide +kernel
abbrev cX0_pair : ByteArray := prog_1_method_2_code
def yX0_pair : MethodName := ⟨RX0, "pair", "(II)I"⟩
theorem dX0_pair_0 : decode cX0_pair 0 = .ok (.aload_n 0, 1) := by decide +kernel
theorem dX0_pair_1 : decode cX0_pair 1 = .ok (.iload_n 1, 1) := by decide +kernel
theorem dX0_pair_2 : decode cX0_pair 2 = .ok (.invokevirtual 29, 3) := by decide +kernel
theorem dX0_pair_5 : decode cX0_pair 5 = .ok (.ifCond .eq 21, 3) := by decide +kernel
theorem dX0_pair_8 : decode cX0_pair 8 = .ok (.aload_n 0, 1) := by decide +kernel
theorem dX0_pair_9 : decode cX0_pair 9 = .ok (.iload_n 2, 1) := by decide +kernel
theorem dX0_pair_10 : decode cX0_pair 10 = .ok (.invokevirtual 29, 3) := by decide +kernel
theorem dX0_pair_13 : decode cX0_pair 13 = .ok (.ifCond .eq 13, 3) := by decide +kernel
theorem dX0_pair_16 : decode cX0_pair 16 = .ok (.aload_n 0, 1) := by decide +kernel
theorem dX0_pair_17 : decode cX0_pair 17 = .ok (.iconst 1, 1) := by decide +kernel
theorem dX0_pair_18 : decode cX0_pair 18 = .ok (.iload_n 1, 1) := by decide +kernel
theorem dX0_pair_19 : decode cX0_pair 19 = .ok (.iload_n 2, 1) := by decide +kernel
theorem dX0_pair_20 : decode cX0_pair 20 = .ok (.invokevirtual 33, 3) := by decide +kernel
theorem dX0_pair_23 : decode cX0_pair 23 = .ok (.goto 4, 3) := by decide +kernel
theorem dX0_pair_26 : decode cX0_pair 26 = .ok (.iconst (-1), 1) := by decide +kernel
theorem dX0_pair_27 : decode cX0_pair 27 = .ok (.ireturn, 1) := by decide +kernel
abbrev cX0_isTerm : ByteArray := prog_1_method_13_code
def yX0_isTerm : MethodName := ⟨RX0, "isTerm", "(I)Z"⟩
theorem dX0_isTerm_0 : decode cX0_isTerm 0 = .ok (.iload_n 1, 1) := by decide +kernel
theorem dX0_isTerm_1 : decode cX0_isTerm 1 = .ok (.ifCond .lt 15, 3) := by decide +kernel
theorem dX0_isTerm_4 : decode cX0_isTerm 4 = .ok (.iload_n 1, 1) := by decide +kernel
theorem dX0_isTerm_5 : decode cX0_isTerm 5 = .ok (.aload_n 0, 1) := by decide +kernel
theorem dX0_isTerm_6 : decode cX0_isTerm 6 = .ok (.getfield 25, 3) := by decide +kernel
theorem dX0_isTerm_9 : decode cX0_isTerm 9 = .ok (.if_icmp .ge 7, 3) := by decide +kernel
theorem dX0_isTerm_12 : decode cX0_isTerm 12 = .ok (.iconst 1, 1) := by decide +kernel
theorem dX0_isTerm_13 : decode cX0_isTerm 13 = .ok (.goto 4, 3) := by decide +kernel
theorem dX0_isTerm_16 : decode cX0_isTerm 16 = .ok (.iconst 0, 1) := by decide +kernel
theorem dX0_isTerm_17 : decode cX0_isTerm 17 = .ok (.ireturn, 1) := by decide +kernel
abbrev cX0_termOf : ByteArray := prog_1_method_4_code
def yX0_termOf : MethodName := ⟨RX0, "termOf", "(III)I"⟩
theorem dX0_termOf_0 : decode cX0_termOf 0 = .ok (.aload_n 0, 1) := by decide +kernel
theorem dX0_termOf_1 : decode cX0_termOf 1 = .ok (.getfield 19, 3) := by decide +kernel
theorem dX0_termOf_4 : decode cX0_termOf 4 = .ok (.iload_n 2, 1) := by decide +kernel
theorem dX0_termOf_5 : decode cX0_termOf 5 = .ok (.iaload, 1) := by decide +kernel
theorem dX0_termOf_6 : decode cX0_termOf 6 = .ok (.aload_n 0, 1) := by decide +kernel
theorem dX0_termOf_7 : decode cX0_termOf 7 = .ok (.getfield 19, 3) := by decide +kernel
theorem dX0_termOf_10 : decode cX0_termOf 10 = .ok (.iload_n 3, 1) := by decide +kernel
theorem dX0_termOf_11 : decode cX0_termOf 11 = .ok (.iaload, 1) := by decide +kernel
theorem dX0_termOf_12 : decode cX0_termOf 12 = .ok (.iand, 1) := by decide +kernel
theorem dX0_termOf_13 : decode cX0_termOf 13 = .ok (.istore 4, 2) := by decide +kernel
theorem dX0_termOf_15 : decode cX0_termOf 15 = .ok (.bipush 8, 2) := by decide +kernel
theorem dX0_termOf_17 : decode cX0_termOf 17 = .ok (.istore 5, 2) := by decide +kernel
theorem dX0_termOf_19 : decode cX0_termOf 19 = .ok (.iload 5, 2) := by decide +kernel
theorem dX0_termOf_21 : decode cX0_termOf 21 = .ok (.aload_n 0, 1) := by decide +kernel
theorem dX0_termOf_22 : decode cX0_termOf 22 = .ok (.getfield 25, 3) := by decide +kernel
theorem dX0_termOf_25 : decode cX0_termOf 25 = .ok (.if_icmp .ge 55, 3) := by decide +kernel
theorem dX0_termOf_28 : decode cX0_termOf 28 = .ok (.iload 4, 2) := by decide +kernel
theorem dX0_termOf_30 : decode cX0_termOf 30 = .ok (.iload 5, 2) := by decide +kernel
theorem dX0_termOf_32 : decode cX0_termOf 32 = .ok (.iushr, 1) := by decide +kernel
theorem dX0_termOf_33 : decode cX0_termOf 33 = .ok (.iconst 1, 1) := by decide +kernel
theorem dX0_termOf_34 : decode cX0_termOf 34 = .ok (.iand, 1) := by decide +kernel
theorem dX0_termOf_35 : decode cX0_termOf 35 = .ok (.ifCond .eq 39, 3) := by decide +kernel
theorem dX0_termOf_38 : decode cX0_termOf 38 = .ok (.aload_n 0, 1) := by decide +kernel
theorem dX0_termOf_39 : decode cX0_termOf 39 = .ok (.getfield 7, 3) := by decide +kernel
theorem dX0_termOf_42 : decode cX0_termOf 42 = .ok (.iload 5, 2) := by decide +kernel
theorem dX0_termOf_44 : decode cX0_termOf 44 = .ok (.iaload, 1) := by decide +kernel
theorem dX0_termOf_45 : decode cX0_termOf 45 = .ok (.iload_n 1, 1) := by decide +kernel
theorem dX0_termOf_46 : decode cX0_termOf 46 = .ok (.if_icmp .ne 28, 3) := by decide +kernel
theorem dX0_termOf_49 : decode cX0_termOf 49 = .ok (.aload_n 0, 1) := by decide +kernel
theorem dX0_termOf_50 : decode cX0_termOf 50 = .ok (.getfield 13, 3) := by decide +kernel
theorem dX0_termOf_53 : decode cX0_termOf 53 = .ok (.iload 5, 2) := by decide +kernel
theorem dX0_termOf_55 : decode cX0_termOf 55 = .ok (.iaload, 1) := by decide +kernel
theorem dX0_termOf_56 : decode cX0_termOf 56 = .ok (.iload_n 2, 1) := by decide +kernel
theorem dX0_termOf_57 : decode cX0_termOf 57 = .ok (.if_icmp .ne 17, 3) := by decide +kernel
theorem dX0_termOf_60 : decode cX0_termOf 60 = .ok (.aload_n 0, 1) := by decide +kernel
theorem dX0_termOf_61 : decode cX0_termOf 61 = .ok (.getfield 16, 3) := by decide +kernel
theorem dX0_termOf_64 : decode cX0_termOf 64 = .ok (.iload 5, 2) := by decide +kernel
theorem dX0_termOf_66 : decode cX0_termOf 66 = .ok (.iaload, 1) := by decide +kernel
theorem dX0_termOf_67 : decode cX0_termOf 67 = .ok (.iload_n 3, 1) := by decide +kernel
theorem dX0_termOf_68 : decode cX0_termOf 68 = .ok (.if_icmp .ne 6, 3) := by decide +kernel
theorem dX0_termOf_71 : decode cX0_termOf 71 = .ok (.iload 5, 2) := by decide +kernel
theorem dX0_termOf_73 : decode cX0_termOf 73 = .ok (.ireturn, 1) := by decide +kernel
theorem dX0_termOf_74 : decode cX0_termOf 74 = .ok (.iinc 5 1, 3) := by decide +kernel
theorem dX0_termOf_77 : decode cX0_termOf 77 = .ok (.goto (-58), 3) := by decide +kernel
theorem dX0_termOf_80 : decode cX0_termOf 80 = .ok (.aload_n 0, 1) := by decide +kernel
theorem dX0_termOf_81 : decode cX0_termOf 81 = .ok (.getfield 25, 3) := by decide +kernel
theorem dX0_termOf_84 : decode cX0_termOf 84 = .ok (.bipush 28, 2) := by decide +kernel
theorem dX0_termOf_86 : decode cX0_termOf 86 = .ok (.if_icmp .lt 5, 3) := by decide +kernel
theorem dX0_termOf_89 : decode cX0_termOf 89 = .ok (.iconst (-1), 1) := by decide +kernel
theorem dX0_termOf_90 : decode cX0_termOf 90 = .ok (.ireturn, 1) := by decide +kernel
theorem dX0_termOf_91 : decode cX0_termOf 91 = .ok (.aload_n 0, 1) := by decide +kernel
theorem dX0_termOf_92 : decode cX0_termOf 92 = .ok (.getfield 25, 3) := by decide +kernel
theorem dX0_termOf_95 : decode cX0_termOf 95 = .ok (.istore 5, 2) := by decide +kernel
theorem dX0_termOf_97 : decode cX0_termOf 97 = .ok (.aload_n 0, 1) := by decide +kernel
theorem dX0_termOf_98 : decode cX0_termOf 98 = .ok (.dup, 1) := by decide +kernel
theorem dX0_termOf_99 : decode cX0_termOf 99 = .ok (.getfield 25, 3) := by decide +kernel
theorem dX0_termOf_102 : decode cX0_termOf 102 = .ok (.iconst 1, 1) := by decide +kernel
theorem dX0_termOf_103 : decode cX0_termOf 103 = .ok (.iadd, 1) := by decide +kernel
theorem dX0_termOf_104 : decode cX0_termOf 104 = .ok (.putfield 25, 3) := by decide +kernel
theorem dX0_termOf_107 : decode cX0_termOf 107 = .ok (.aload_n 0, 1) := by decide +kernel
theorem dX0_termOf_108 : decode cX0_termOf 108 = .ok (.getfield 7, 3) := by decide +kernel
theorem dX0_termOf_111 : decode cX0_termOf 111 = .ok (.iload 5, 2) := by decide +kernel
theorem dX0_termOf_113 : decode cX0_termOf 113 = .ok (.iload_n 1, 1) := by decide +kernel
theorem dX0_termOf_114 : decode cX0_termOf 114 = .ok (.iastore, 1) := by decide +kernel
theorem dX0_termOf_115 : decode cX0_termOf 115 = .ok (.aload_n 0, 1) := by decide +kernel
theorem dX0_termOf_116 : decode cX0_termOf 116 = .ok (.getfield 13, 3) := by decide +kernel
theorem dX0_termOf_119 : decode cX0_termOf 119 = .ok (.iload 5, 2) := by decide +kernel
theorem dX0_termOf_121 : decode cX0_termOf 121 = .ok (.iload_n 2, 1) := by decide +kernel
theorem dX0_termOf_122 : decode cX0_termOf 122 = .ok (.iastore, 1) := by decide +kernel
theorem dX0_termOf_123 : decode cX0_termOf 123 = .ok (.aload_n 0, 1) := by decide +kernel
theorem dX0_termOf_124 : decode cX0_termOf 124 = .ok (.getfield 16, 3) := by decide +kernel
theorem dX0_termOf_127 : decode cX0_termOf 127 = .ok (.iload 5, 2) := by decide +kernel
theorem dX0_termOf_129 : decode cX0_termOf 129 = .ok (.iload_n 3, 1) := by decide +kernel
theorem dX0_termOf_130 : decode cX0_termOf 130 = .ok (.iastore, 1) := by decide +kernel
theorem dX0_termOf_131 : decode cX0_termOf 131 = .ok (.aload_n 0, 1) := by decide +kernel
theorem dX0_termOf_132 : decode cX0_termOf 132 = .ok (.getfield 19, 3) := by decide +kernel
theorem dX0_termOf_135 : decode cX0_termOf 135 = .ok (.iload_n 2, 1) := by decide +kernel
theorem dX0_termOf_136 : decode cX0_termOf 136 = .ok (.dup2, 1) := by decide +kernel
theorem dX0_termOf_137 : decode cX0_termOf 137 = .ok (.iaload, 1) := by decide +kernel
theorem dX0_termOf_138 : decode cX0_termOf 138 = .ok (.iconst 1, 1) := by decide +kernel
theorem dX0_termOf_139 : decode cX0_termOf 139 = .ok (.iload 5, 2) := by decide +kernel
theorem dX0_termOf_141 : decode cX0_termOf 141 = .ok (.ishl, 1) := by decide +kernel
theorem dX0_termOf_142 : decode cX0_termOf 142 = .ok (.ior, 1) := by decide +kernel
theorem dX0_termOf_143 : decode cX0_termOf 143 = .ok (.iastore, 1) := by decide +kernel
theorem dX0_termOf_144 : decode cX0_termOf 144 = .ok (.aload_n 0, 1) := by decide +kernel
theorem dX0_termOf_145 : decode cX0_termOf 145 = .ok (.getfield 19, 3) := by decide +kernel
theorem dX0_termOf_148 : decode cX0_termOf 148 = .ok (.iload_n 3, 1) := by decide +kernel
theorem dX0_termOf_149 : decode cX0_termOf 149 = .ok (.dup2, 1) := by decide +kernel
theorem dX0_termOf_150 : decode cX0_termOf 150 = .ok (.iaload, 1) := by decide +kernel
theorem dX0_termOf_151 : decode cX0_termOf 151 = .ok (.iconst 1, 1) := by decide +kernel
theorem dX0_termOf_152 : decode cX0_termOf 152 = .ok (.iload 5, 2) := by decide +kernel
theorem dX0_termOf_154 : decode cX0_termOf 154 = .ok (.ishl, 1) := by decide +kernel
theorem dX0_termOf_155 : decode cX0_termOf 155 = .ok (.ior, 1) := by decide +kernel
theorem dX0_termOf_156 : decode cX0_termOf 156 = .ok (.iastore, 1) := by decide +kernel
theorem dX0_termOf_157 : decode cX0_termOf 157 = .ok (.aload_n 0, 1) := by decide +kernel
theorem dX0_termOf_158 : decode cX0_termOf 158 = .ok (.iload_n 2, 1) := by decide +kernel
theorem dX0_termOf_159 : decode cX0_termOf 159 = .ok (.invokevirtual 37, 3) := by decide +kernel
theorem dX0_termOf_162 : decode cX0_termOf 162 = .ok (.ifCond .eq 21, 3) := by decide +kernel
theorem dX0_termOf_165 : decode cX0_termOf 165 = .ok (.aload_n 0, 1) := by decide +kernel
theorem dX0_termOf_166 : decode cX0_termOf 166 = .ok (.iload_n 3, 1) := by decide +kernel
theorem dX0_termOf_167 : decode cX0_termOf 167 = .ok (.invokevirtual 37, 3) := by decide +kernel
theorem dX0_termOf_170 : decode cX0_termOf 170 = .ok (.ifCond .eq 13, 3) := by decide +kernel
theorem dX0_termOf_173 : decode cX0_termOf 173 = .ok (.aload_n 0, 1) := by decide +kernel
theorem dX0_termOf_174 : decode cX0_termOf 174 = .ok (.iload 5, 2) := by decide +kernel
theorem dX0_termOf_176 : decode cX0_termOf 176 = .ok (.invokevirtual 40, 3) := by decide +kernel
theorem dX0_termOf_179 : decode cX0_termOf 179 = .ok (.aload_n 0, 1) := by decide +kernel
theorem dX0_termOf_180 : decode cX0_termOf 180 = .ok (.invokevirtual 44, 3) := by decide +kernel
theorem dX0_termOf_183 : decode cX0_termOf 183 = .ok (.iload 5, 2) := by decide +kernel
theorem dX0_termOf_185 : decode cX0_termOf 185 = .ok (.ireturn, 1) := by decide +kernel
abbrev cX0_isKnown : ByteArray := prog_1_method_14_code
def yX0_isKnown : MethodName := ⟨RX0, "isKnown", "(I)Z"⟩
theorem dX0_isKnown_0 : decode cX0_isKnown 0 = .ok (.aload_n 0, 1) := by decide +kernel
theorem dX0_isKnown_1 : decode cX0_isKnown 1 = .ok (.getfield 50, 3) := by decide +kernel
theorem dX0_isKnown_4 : decode cX0_isKnown 4 = .ok (.iload_n 1, 1) := by decide +kernel
theorem dX0_isKnown_5 : decode cX0_isKnown 5 = .ok (.iushr, 1) := by decide +kernel
theorem dX0_isKnown_6 : decode cX0_isKnown 6 = .ok (.iconst 1, 1) := by decide +kernel
theorem dX0_isKnown_7 : decode cX0_isKnown 7 = .ok (.iand, 1) := by decide +kernel
theorem dX0_isKnown_8 : decode cX0_isKnown 8 = .ok (.ifCond .eq 7, 3) := by decide +kernel
theorem dX0_isKnown_11 : decode cX0_isKnown 11 = .ok (.iconst 1, 1) := by decide +kernel
theorem dX0_isKnown_12 : decode cX0_isKnown 12 = .ok (.goto 4, 3) := by decide +kernel
theorem dX0_isKnown_15 : decode cX0_isKnown 15 = .ok (.iconst 0, 1) := by decide +kernel
theorem dX0_isKnown_16 : decode cX0_isKnown 16 = .ok (.ireturn, 1) := by decide +kernel
abbrev cX0_learn : ByteArray := prog_1_method_19_code
def yX0_learn : MethodName := ⟨RX0, "learn", "(I)V"⟩
theorem dX0_learn_0 : decode cX0_learn 0 = .ok (.aload_n 0, 1) := by decide +kernel
theorem dX0_learn_1 : decode cX0_learn 1 = .ok (.iload_n 1, 1) := by decide +kernel
theorem dX0_learn_2 : decode cX0_learn 2 = .ok (.invokevirtual 37, 3) := by decide +kernel
theorem dX0_learn_5 : decode cX0_learn 5 = .ok (.ifCond .ne 35, 3) := by decide +kernel
theorem dX0_learn_8 : decode cX0_learn 8 = .ok (.aload_n 0, 1) := by decide +kernel
theorem dX0_learn_9 : decode cX0_learn 9 = .ok (.dup, 1) := by decide +kernel
theorem dX0_learn_10 : decode cX0_learn 10 = .ok (.getfield 50, 3) := by decide +kernel
theorem dX0_learn_13 : decode cX0_learn 13 = .ok (.iconst 1, 1) := by decide +kernel
theorem dX0_learn_14 : decode cX0_learn 14 = .ok (.iload_n 1, 1) := by decide +kernel
theorem dX0_learn_15 : decode cX0_learn 15 = .ok (.ishl, 1) := by decide +kernel
theorem dX0_learn_16 : decode cX0_learn 16 = .ok (.ior, 1) := by decide +kernel
theorem dX0_learn_17 : decode cX0_learn 17 = .ok (.putfield 50, 3) := by decide +kernel
theorem dX0_learn_20 : decode cX0_learn 20 = .ok (.aload_n 0, 1) := by decide +kernel
theorem dX0_learn_21 : decode cX0_learn 21 = .ok (.getfield 22, 3) := by decide +kernel
theorem dX0_learn_24 : decode cX0_learn 24 = .ok (.aload_n 0, 1) := by decide +kernel
theorem dX0_learn_25 : decode cX0_learn 25 = .ok (.getfield 67, 3) := by decide +kernel
theorem dX0_learn_28 : decode cX0_learn 28 = .ok (.iload_n 1, 1) := by decide +kernel
theorem dX0_learn_29 : decode cX0_learn 29 = .ok (.iastore, 1) := by decide +kernel
theorem dX0_learn_30 : decode cX0_learn 30 = .ok (.aload_n 0, 1) := by decide +kernel
theorem dX0_learn_31 : decode cX0_learn 31 = .ok (.dup, 1) := by decide +kernel
theorem dX0_learn_32 : decode cX0_learn 32 = .ok (.getfield 67, 3) := by decide +kernel
theorem dX0_learn_35 : decode cX0_learn 35 = .ok (.iconst 1, 1) := by decide +kernel
theorem dX0_learn_36 : decode cX0_learn 36 = .ok (.iadd, 1) := by decide +kernel
theorem dX0_learn_37 : decode cX0_learn 37 = .ok (.putfield 67, 3) := by decide +kernel
theorem dX0_learn_40 : decode cX0_learn 40 = .ok (.return_, 1) := by decide +kernel
abbrev cX0_spread : ByteArray := prog_1_method_20_code
def yX0_spread : MethodName := ⟨RX0, "spread", "()V"⟩
theorem dX0_spread_0 : decode cX0_spread 0 = .ok (.iconst 0, 1) := by decide +kernel
theorem dX0_spread_1 : decode cX0_spread 1 = .ok (.istore_n 1, 1) := by decide +kernel
theorem dX0_spread_2 : decode cX0_spread 2 = .ok (.iload_n 1, 1) := by decide +kernel
theorem dX0_spread_3 : decode cX0_spread 3 = .ok (.bipush 28, 2) := by decide +kernel
theorem dX0_spread_5 : decode cX0_spread 5 = .ok (.if_icmp .ge 39, 3) := by decide +kernel
theorem dX0_spread_8 : decode cX0_spread 8 = .ok (.aload_n 0, 1) := by decide +kernel
theorem dX0_spread_9 : decode cX0_spread 9 = .ok (.getfield 67, 3) := by decide +kernel
theorem dX0_spread_12 : decode cX0_spread 12 = .ok (.ifCond .le 32, 3) := by decide +kernel
theorem dX0_spread_15 : decode cX0_spread 15 = .ok (.aload_n 0, 1) := by decide +kernel
theorem dX0_spread_16 : decode cX0_spread 16 = .ok (.dup, 1) := by decide +kernel
theorem dX0_spread_17 : decode cX0_spread 17 = .ok (.getfield 67, 3) := by decide +kernel
theorem dX0_spread_20 : decode cX0_spread 20 = .ok (.iconst 1, 1) := by decide +kernel
theorem dX0_spread_21 : decode cX0_spread 21 = .ok (.isub, 1) := by decide +kernel
theorem dX0_spread_22 : decode cX0_spread 22 = .ok (.putfield 67, 3) := by decide +kernel
theorem dX0_spread_25 : decode cX0_spread 25 = .ok (.aload_n 0, 1) := by decide +kernel
theorem dX0_spread_26 : decode cX0_spread 26 = .ok (.aload_n 0, 1) := by decide +kernel
theorem dX0_spread_27 : decode cX0_spread 27 = .ok (.getfield 22, 3) := by decide +kernel
theorem dX0_spread_30 : decode cX0_spread 30 = .ok (.aload_n 0, 1) := by decide +kernel
theorem dX0_spread_31 : decode cX0_spread 31 = .ok (.getfield 67, 3) := by decide +kernel
theorem dX0_spread_34 : decode cX0_spread 34 = .ok (.iaload, 1) := by decide +kernel
theorem dX0_spread_35 : decode cX0_spread 35 = .ok (.invokevirtual 70, 3) := by decide +kernel
theorem dX0_spread_38 : decode cX0_spread 38 = .ok (.iinc 1 1, 3) := by decide +kernel
theorem dX0_spread_41 : decode cX0_spread 41 = .ok (.goto (-39), 3) := by decide +kernel
theorem dX0_spread_44 : decode cX0_spread 44 = .ok (.return_, 1) := by decide +kernel
abbrev cX0_open : ByteArray := prog_1_method_21_code
def yX0_open : MethodName := ⟨RX0, "open", "(I)V"⟩
theorem dX0_open_0 : decode cX0_open 0 = .ok (.aload_n 0, 1) := by decide +kernel
theorem dX0_open_1 : decode cX0_open 1 = .ok (.getfield 7, 3) := by decide +kernel
theorem dX0_open_4 : decode cX0_open 4 = .ok (.iload_n 1, 1) := by decide +kernel
theorem dX0_open_5 : decode cX0_open 5 = .ok (.iaload, 1) := by decide +kernel
theorem dX0_open_6 : decode cX0_open 6 = .ok (.iconst 1, 1) := by decide +kernel
theorem dX0_open_7 : decode cX0_open 7 = .ok (.if_icmp .ne 26, 3) := by decide +kernel
theorem dX0_open_10 : decode cX0_open 10 = .ok (.aload_n 0, 1) := by decide +kernel
theorem dX0_open_11 : decode cX0_open 11 = .ok (.aload_n 0, 1) := by decide +kernel
theorem dX0_open_12 : decode cX0_open 12 = .ok (.getfield 13, 3) := by decide +kernel
theorem dX0_open_15 : decode cX0_open 15 = .ok (.iload_n 1, 1) := by decide +kernel
theorem dX0_open_16 : decode cX0_open 16 = .ok (.iaload, 1) := by decide +kernel
theorem dX0_open_17 : decode cX0_open 17 = .ok (.invokevirtual 40, 3) := by decide +kernel
theorem dX0_open_20 : decode cX0_open 20 = .ok (.aload_n 0, 1) := by decide +kernel
theorem dX0_open_21 : decode cX0_open 21 = .ok (.aload_n 0, 1) := by decide +kernel
theorem dX0_open_22 : decode cX0_open 22 = .ok (.getfield 16, 3) := by decide +kernel
theorem dX0_open_25 : decode cX0_open 25 = .ok (.iload_n 1, 1) := by decide +kernel
theorem dX0_open_26 : decode cX0_open 26 = .ok (.iaload, 1) := by decide +kernel
theorem dX0_open_27 : decode cX0_open 27 = .ok (.invokevirtual 40, 3) := by decide +kernel
theorem dX0_open_30 : decode cX0_open 30 = .ok (.goto 35, 3) := by decide +kernel
theorem dX0_open_33 : decode cX0_open 33 = .ok (.aload_n 0, 1) := by decide +kernel
theorem dX0_open_34 : decode cX0_open 34 = .ok (.getfield 7, 3) := by decide +kernel
theorem dX0_open_37 : decode cX0_open 37 = .ok (.iload_n 1, 1) := by decide +kernel
theorem dX0_open_38 : decode cX0_open 38 = .ok (.iaload, 1) := by decide +kernel
theorem dX0_open_39 : decode cX0_open 39 = .ok (.ifCond .eq 26, 3) := by decide +kernel
theorem dX0_open_42 : decode cX0_open 42 = .ok (.aload_n 0, 1) := by decide +kernel
theorem dX0_open_43 : decode cX0_open 43 = .ok (.aload_n 0, 1) := by decide +kernel
theorem dX0_open_44 : decode cX0_open 44 = .ok (.getfield 13, 3) := by decide +kernel
theorem dX0_open_47 : decode cX0_open 47 = .ok (.iload_n 1, 1) := by decide +kernel
theorem dX0_open_48 : decode cX0_open 48 = .ok (.iaload, 1) := by decide +kernel
theorem dX0_open_49 : decode cX0_open 49 = .ok (.invokevirtual 37, 3) := by decide +kernel
theorem dX0_open_52 : decode cX0_open 52 = .ok (.ifCond .eq 13, 3) := by decide +kernel
theorem dX0_open_55 : decode cX0_open 55 = .ok (.aload_n 0, 1) := by decide +kernel
theorem dX0_open_56 : decode cX0_open 56 = .ok (.aload_n 0, 1) := by decide +kernel
theorem dX0_open_57 : decode cX0_open 57 = .ok (.getfield 16, 3) := by decide +kernel
theorem dX0_open_60 : decode cX0_open 60 = .ok (.iload_n 1, 1) := by decide +kernel
theorem dX0_open_61 : decode cX0_open 61 = .ok (.iaload, 1) := by decide +kernel
theorem dX0_open_62 : decode cX0_open 62 = .ok (.invokevirtual 40, 3) := by decide +kernel
theorem dX0_open_65 : decode cX0_open 65 = .ok (.bipush 8, 2) := by decide +kernel
theorem dX0_open_67 : decode cX0_open 67 = .ok (.istore_n 2, 1) := by decide +kernel
theorem dX0_open_68 : decode cX0_open 68 = .ok (.iload_n 2, 1) := by decide +kernel
theorem dX0_open_69 : decode cX0_open 69 = .ok (.aload_n 0, 1) := by decide +kernel
theorem dX0_open_70 : decode cX0_open 70 = .ok (.getfield 25, 3) := by decide +kernel
theorem dX0_open_73 : decode cX0_open 73 = .ok (.if_icmp .ge 27, 3) := by decide +kernel
theorem dX0_open_76 : decode cX0_open 76 = .ok (.aload_n 0, 1) := by decide +kernel
theorem dX0_open_77 : decode cX0_open 77 = .ok (.getfield 19, 3) := by decide +kernel
theorem dX0_open_80 : decode cX0_open 80 = .ok (.iload_n 1, 1) := by decide +kernel
theorem dX0_open_81 : decode cX0_open 81 = .ok (.iaload, 1) := by decide +kernel
theorem dX0_open_82 : decode cX0_open 82 = .ok (.iload_n 2, 1) := by decide +kernel
theorem dX0_open_83 : decode cX0_open 83 = .ok (.iushr, 1) := by decide +kernel
theorem dX0_open_84 : decode cX0_open 84 = .ok (.iconst 1, 1) := by decide +kernel
theorem dX0_open_85 : decode cX0_open 85 = .ok (.iand, 1) := by decide +kernel
theorem dX0_open_86 : decode cX0_open 86 = .ok (.ifCond .eq 8, 3) := by decide +kernel
theorem dX0_open_89 : decode cX0_open 89 = .ok (.aload_n 0, 1) := by decide +kernel
theorem dX0_open_90 : decode cX0_open 90 = .ok (.iload_n 2, 1) := by decide +kernel
theorem dX0_open_91 : decode cX0_open 91 = .ok (.invokevirtual 73, 3) := by decide +kernel
theorem dX0_open_94 : decode cX0_open 94 = .ok (.iinc 2 1, 3) := by decide +kernel
theorem dX0_open_97 : decode cX0_open 97 = .ok (.goto (-29), 3) := by decide +kernel
theorem dX0_open_100 : decode cX0_open 100 = .ok (.return_, 1) := by decide +kernel
abbrev cX0_lookAt : ByteArray := prog_1_method_22_code
def yX0_lookAt : MethodName := ⟨RX0, "lookAt", "(I)V"⟩
theorem dX0_lookAt_0 : decode cX0_lookAt 0 = .ok (.aload_n 0, 1) := by decide +kernel
theorem dX0_lookAt_1 : decode cX0_lookAt 1 = .ok (.aload_n 0, 1) := by decide +kernel
theorem dX0_lookAt_2 : decode cX0_lookAt 2 = .ok (.getfield 13, 3) := by decide +kernel
theorem dX0_lookAt_5 : decode cX0_lookAt 5 = .ok (.iload_n 1, 1) := by decide +kernel
theorem dX0_lookAt_6 : decode cX0_lookAt 6 = .ok (.iaload, 1) := by decide +kernel
theorem dX0_lookAt_7 : decode cX0_lookAt 7 = .ok (.invokevirtual 37, 3) := by decide +kernel
theorem dX0_lookAt_10 : decode cX0_lookAt 10 = .ok (.ifCond .eq 24, 3) := by decide +kernel
theorem dX0_lookAt_13 : decode cX0_lookAt 13 = .ok (.aload_n 0, 1) := by decide +kernel
theorem dX0_lookAt_14 : decode cX0_lookAt 14 = .ok (.aload_n 0, 1) := by decide +kernel
theorem dX0_lookAt_15 : decode cX0_lookAt 15 = .ok (.getfield 16, 3) := by decide +kernel
theorem dX0_lookAt_18 : decode cX0_lookAt 18 = .ok (.iload_n 1, 1) := by decide +kernel
theorem dX0_lookAt_19 : decode cX0_lookAt 19 = .ok (.iaload, 1) := by decide +kernel
theorem dX0_lookAt_20 : decode cX0_lookAt 20 = .ok (.invokevirtual 37, 3) := by decide +kernel
theorem dX0_lookAt_23 : decode cX0_lookAt 23 = .ok (.ifCond .eq 11, 3) := by decide +kernel
theorem dX0_lookAt_26 : decode cX0_lookAt 26 = .ok (.aload_n 0, 1) := by decide +kernel
theorem dX0_lookAt_27 : decode cX0_lookAt 27 = .ok (.iload_n 1, 1) := by decide +kernel
theorem dX0_lookAt_28 : decode cX0_lookAt 28 = .ok (.invokevirtual 40, 3) := by decide +kernel
theorem dX0_lookAt_31 : decode cX0_lookAt 31 = .ok (.goto 44, 3) := by decide +kernel
theorem dX0_lookAt_34 : decode cX0_lookAt 34 = .ok (.aload_n 0, 1) := by decide +kernel
theorem dX0_lookAt_35 : decode cX0_lookAt 35 = .ok (.getfield 7, 3) := by decide +kernel
theorem dX0_lookAt_38 : decode cX0_lookAt 38 = .ok (.iload_n 1, 1) := by decide +kernel
theorem dX0_lookAt_39 : decode cX0_lookAt 39 = .ok (.iaload, 1) := by decide +kernel
theorem dX0_lookAt_40 : decode cX0_lookAt 40 = .ok (.iconst 1, 1) := by decide +kernel
theorem dX0_lookAt_41 : decode cX0_lookAt 41 = .ok (.if_icmp .eq 34, 3) := by decide +kernel
theorem dX0_lookAt_44 : decode cX0_lookAt 44 = .ok (.aload_n 0, 1) := by decide +kernel
theorem dX0_lookAt_45 : decode cX0_lookAt 45 = .ok (.iload_n 1, 1) := by decide +kernel
theorem dX0_lookAt_46 : decode cX0_lookAt 46 = .ok (.invokevirtual 37, 3) := by decide +kernel
theorem dX0_lookAt_49 : decode cX0_lookAt 49 = .ok (.ifCond .eq 26, 3) := by decide +kernel
theorem dX0_lookAt_52 : decode cX0_lookAt 52 = .ok (.aload_n 0, 1) := by decide +kernel
theorem dX0_lookAt_53 : decode cX0_lookAt 53 = .ok (.aload_n 0, 1) := by decide +kernel
theorem dX0_lookAt_54 : decode cX0_lookAt 54 = .ok (.getfield 13, 3) := by decide +kernel
theorem dX0_lookAt_57 : decode cX0_lookAt 57 = .ok (.iload_n 1, 1) := by decide +kernel
theorem dX0_lookAt_58 : decode cX0_lookAt 58 = .ok (.iaload, 1) := by decide +kernel
theorem dX0_lookAt_59 : decode cX0_lookAt 59 = .ok (.invokevirtual 37, 3) := by decide +kernel
theorem dX0_lookAt_62 : decode cX0_lookAt 62 = .ok (.ifCond .eq 13, 3) := by decide +kernel
theorem dX0_lookAt_65 : decode cX0_lookAt 65 = .ok (.aload_n 0, 1) := by decide +kernel
theorem dX0_lookAt_66 : decode cX0_lookAt 66 = .ok (.aload_n 0, 1) := by decide +kernel
theorem dX0_lookAt_67 : decode cX0_lookAt 67 = .ok (.getfield 16, 3) := by decide +kernel
theorem dX0_lookAt_70 : decode cX0_lookAt 70 = .ok (.iload_n 1, 1) := by decide +kernel
theorem dX0_lookAt_71 : decode cX0_lookAt 71 = .ok (.iaload, 1) := by decide +kernel
theorem dX0_lookAt_72 : decode cX0_lookAt 72 = .ok (.invokevirtual 40, 3) := by decide +kernel
theorem dX0_lookAt_75 : decode cX0_lookAt 75 = .ok (.return_, 1) := by decide +kernel
abbrev cX0_lock : ByteArray := prog_1_method_3_code
def yX0_lock : MethodName := ⟨RX0, "lock", "(II)I"⟩
theorem dX0_lock_0 : decode cX0_lock 0 = .ok (.aload_n 0, 1) := by decide +kernel
theorem dX0_lock_1 : decode cX0_lock 1 = .ok (.iload_n 1, 1) := by decide +kernel
theorem dX0_lock_2 : decode cX0_lock 2 = .ok (.invokevirtual 29, 3) := by decide +kernel
theorem dX0_lock_5 : decode cX0_lock 5 = .ok (.ifCond .eq 21, 3) := by decide +kernel
theorem dX0_lock_8 : decode cX0_lock 8 = .ok (.aload_n 0, 1) := by decide +kernel
theorem dX0_lock_9 : decode cX0_lock 9 = .ok (.iload_n 2, 1) := by decide +kernel
theorem dX0_lock_10 : decode cX0_lock 10 = .ok (.invokevirtual 29, 3) := by decide +kernel
theorem dX0_lock_13 : decode cX0_lock 13 = .ok (.ifCond .eq 13, 3) := by decide +kernel
theorem dX0_lock_16 : decode cX0_lock 16 = .ok (.aload_n 0, 1) := by decide +kernel
theorem dX0_lock_17 : decode cX0_lock 17 = .ok (.iconst 2, 1) := by decide +kernel
theorem dX0_lock_18 : decode cX0_lock 18 = .ok (.iload_n 1, 1) := by decide +kernel
theorem dX0_lock_19 : decode cX0_lock 19 = .ok (.iload_n 2, 1) := by decide +kernel
theorem dX0_lock_20 : decode cX0_lock 20 = .ok (.invokevirtual 33, 3) := by decide +kernel
theorem dX0_lock_23 : decode cX0_lock 23 = .ok (.goto 4, 3) := by decide +kernel
theorem dX0_lock_26 : decode cX0_lock 26 = .ok (.iconst (-1), 1) := by decide +kernel
theorem dX0_lock_27 : decode cX0_lock 27 = .ok (.ireturn, 1) := by decide +kernel
end
section
set_option maxRecDepth 100000
abbrev cX0_hear : ByteArray := prog_1_method_5_code
def yX0_hear : MethodName := ⟨RX0, "hear", "(I)I"⟩
theorem dX0_hear_0 : decode cX0_hear 0 = .ok (.aload_n 0, 1) := by decide +kernel
theorem dX0_hear_1 : decode cX0_hear 1 = .ok (.iload_n 1, 1) := by decide +kernel
theorem dX0_hear_2 : decode cX0_hear 2 = .ok (.invokevirtual 29, 3) := by decide +kernel
theorem dX0_hear_5 : decode cX0_hear 5 = .ok (.ifCond .ne 5, 3) := by decide +kernel
theorem dX0_hear_8 : decode cX0_hear 8 = .ok (.iconst (-1), 1) := by decide +kernel
theorem dX0_hear_9 : decode cX0_hear 9 = .ok (.ireturn, 1) := by decide +kernel
theorem dX0_hear_10 : decode cX0_hear 10 = .ok (.aload_n 0, 1) := by decide +kernel
theorem dX0_hear_11 : decode cX0_hear 11 = .ok (.dup, 1) := by decide +kernel
theorem dX0_hear_12 : decode cX0_hear 12 = .ok (.getfield 47, 3) := by decide +kernel
theorem dX0_hear_15 : decode cX0_hear 15 = .ok (.iconst 1, 1) := by decide +kernel
theorem dX0_hear_16 : decode cX0_hear 16 = .ok (.iload_n 1, 1) := by decide +kernel
theorem dX0_hear_17 : decode cX0_hear 17 = .ok (.ishl, 1) := by decide +kernel
theorem dX0_hear_18 : decode cX0_hear 18 = .ok (.ior, 1) := by decide +kernel
theorem dX0_hear_19 : decode cX0_hear 19 = .ok (.putfield 47, 3) := by decide +kernel
theorem dX0_hear_22 : decode cX0_hear 22 = .ok (.aload_n 0, 1) := by decide +kernel
theorem dX0_hear_23 : decode cX0_hear 23 = .ok (.iload_n 1, 1) := by decide +kernel
theorem dX0_hear_24 : decode cX0_hear 24 = .ok (.invokevirtual 40, 3) := by decide +kernel
theorem dX0_hear_27 : decode cX0_hear 27 = .ok (.aload_n 0, 1) := by decide +kernel
theorem dX0_hear_28 : decode cX0_hear 28 = .ok (.invokevirtual 44, 3) := by decide +kernel
theorem dX0_hear_31 : decode cX0_hear 31 = .ok (.aload_n 0, 1) := by decide +kernel
theorem dX0_hear_32 : decode cX0_hear 32 = .ok (.getfield 50, 3) := by decide +kernel
theorem dX0_hear_35 : decode cX0_hear 35 = .ok (.invokestatic 53, 3) := by decide +kernel
theorem dX0_hear_38 : decode cX0_hear 38 = .ok (.ireturn, 1) := by decide +kernel
abbrev cX0_size : ByteArray := prog_1_method_15_code
def yX0_size : MethodName := ⟨RX0, "size", "(I)I"⟩
theorem dX0_size_0 : decode cX0_size 0 = .ok (.iconst 0, 1) := by decide +kernel
theorem dX0_size_1 : decode cX0_size 1 = .ok (.istore_n 1, 1) := by decide +kernel
theorem dX0_size_2 : decode cX0_size 2 = .ok (.iconst 0, 1) := by decide +kernel
theorem dX0_size_3 : decode cX0_size 3 = .ok (.istore_n 2, 1) := by decide +kernel
theorem dX0_size_4 : decode cX0_size 4 = .ok (.iload_n 2, 1) := by decide +kernel
theorem dX0_size_5 : decode cX0_size 5 = .ok (.bipush 28, 2) := by decide +kernel
theorem dX0_size_7 : decode cX0_size 7 = .ok (.if_icmp .ge 17, 3) := by decide +kernel
theorem dX0_size_10 : decode cX0_size 10 = .ok (.iload_n 1, 1) := by decide +kernel
theorem dX0_size_11 : decode cX0_size 11 = .ok (.iload_n 0, 1) := by decide +kernel
theorem dX0_size_12 : decode cX0_size 12 = .ok (.iload_n 2, 1) := by decide +kernel
theorem dX0_size_13 : decode cX0_size 13 = .ok (.iushr, 1) := by decide +kernel
theorem dX0_size_14 : decode cX0_size 14 = .ok (.iconst 1, 1) := by decide +kernel
theorem dX0_size_15 : decode cX0_size 15 = .ok (.iand, 1) := by decide +kernel
theorem dX0_size_16 : decode cX0_size 16 = .ok (.iadd, 1) := by decide +kernel
theorem dX0_size_17 : decode cX0_size 17 = .ok (.istore_n 1, 1) := by decide +kernel
theorem dX0_size_18 : decode cX0_size 18 = .ok (.iinc 2 1, 3) := by decide +kernel
theorem dX0_size_21 : decode cX0_size 21 = .ok (.goto (-17), 3) := by decide +kernel
theorem dX0_size_24 : decode cX0_size 24 = .ok (.iload_n 1, 1) := by decide +kernel
theorem dX0_size_25 : decode cX0_size 25 = .ok (.ireturn, 1) := by decide +kernel
abbrev cX0_unhear : ByteArray := prog_1_method_6_code
def yX0_unhear : MethodName := ⟨RX0, "unhear", "(I)I"⟩
theorem dX0_unhear_0 : decode cX0_unhear 0 = .ok (.aload_n 0, 1) := by decide +kernel
theorem dX0_unhear_1 : decode cX0_unhear 1 = .ok (.iload_n 1, 1) := by decide +kernel
theorem dX0_unhear_2 : decode cX0_unhear 2 = .ok (.invokevirtual 29, 3) := by decide +kernel
theorem dX0_unhear_5 : decode cX0_unhear 5 = .ok (.ifCond .ne 5, 3) := by decide +kernel
theorem dX0_unhear_8 : decode cX0_unhear 8 = .ok (.iconst (-1), 1) := by decide +kernel
theorem dX0_unhear_9 : decode cX0_unhear 9 = .ok (.ireturn, 1) := by decide +kernel
theorem dX0_unhear_10 : decode cX0_unhear 10 = .ok (.aload_n 0, 1) := by decide +kernel
theorem dX0_unhear_11 : decode cX0_unhear 11 = .ok (.getfield 47, 3) := by decide +kernel
theorem dX0_unhear_14 : decode cX0_unhear 14 = .ok (.iload_n 1, 1) := by decide +kernel
theorem dX0_unhear_15 : decode cX0_unhear 15 = .ok (.iushr, 1) := by decide +kernel
theorem dX0_unhear_16 : decode cX0_unhear 16 = .ok (.iconst 1, 1) := by decide +kernel
theorem dX0_unhear_17 : decode cX0_unhear 17 = .ok (.iand, 1) := by decide +kernel
theorem dX0_unhear_18 : decode cX0_unhear 18 = .ok (.ifCond .eq 29, 3) := by decide +kernel
theorem dX0_unhear_21 : decode cX0_unhear 21 = .ok (.aload_n 0, 1) := by decide +kernel
theorem dX0_unhear_22 : decode cX0_unhear 22 = .ok (.dup, 1) := by decide +kernel
theorem dX0_unhear_23 : decode cX0_unhear 23 = .ok (.getfield 47, 3) := by decide +kernel
theorem dX0_unhear_26 : decode cX0_unhear 26 = .ok (.iconst 1, 1) := by decide +kernel
theorem dX0_unhear_27 : decode cX0_unhear 27 = .ok (.iload_n 1, 1) := by decide +kernel
theorem dX0_unhear_28 : decode cX0_unhear 28 = .ok (.ishl, 1) := by decide +kernel
theorem dX0_unhear_29 : decode cX0_unhear 29 = .ok (.iconst (-1), 1) := by decide +kernel
theorem dX0_unhear_30 : decode cX0_unhear 30 = .ok (.ixor, 1) := by decide +kernel
theorem dX0_unhear_31 : decode cX0_unhear 31 = .ok (.iand, 1) := by decide +kernel
theorem dX0_unhear_32 : decode cX0_unhear 32 = .ok (.putfield 47, 3) := by decide +kernel
theorem dX0_unhear_35 : decode cX0_unhear 35 = .ok (.aload_n 0, 1) := by decide +kernel
theorem dX0_unhear_36 : decode cX0_unhear 36 = .ok (.aload_n 0, 1) := by decide +kernel
theorem dX0_unhear_37 : decode cX0_unhear 37 = .ok (.aload_n 0, 1) := by decide +kernel
theorem dX0_unhear_38 : decode cX0_unhear 38 = .ok (.getfield 47, 3) := by decide +kernel
theorem dX0_unhear_41 : decode cX0_unhear 41 = .ok (.invokevirtual 57, 3) := by decide +kernel
theorem dX0_unhear_44 : decode cX0_unhear 44 = .ok (.putfield 50, 3) := by decide +kernel
theorem dX0_unhear_47 : decode cX0_unhear 47 = .ok (.aload_n 0, 1) := by decide +kernel
theorem dX0_unhear_48 : decode cX0_unhear 48 = .ok (.getfield 50, 3) := by decide +kernel
theorem dX0_unhear_51 : decode cX0_unhear 51 = .ok (.invokestatic 53, 3) := by decide +kernel
theorem dX0_unhear_54 : decode cX0_unhear 54 = .ok (.ireturn, 1) := by decide +kernel
abbrev cX0_closureOf : ByteArray := prog_1_method_17_code
def yX0_closureOf : MethodName := ⟨RX0, "closureOf", "(I)I"⟩
theorem dX0_closureOf_0 : decode cX0_closureOf 0 = .ok (.aload_n 0, 1) := by decide +kernel
theorem dX0_closureOf_1 : decode cX0_closureOf 1 = .ok (.iconst 0, 1) := by decide +kernel
theorem dX0_closureOf_2 : decode cX0_closureOf 2 = .ok (.putfield 50, 3) := by decide +kernel
theorem dX0_closureOf_5 : decode cX0_closureOf 5 = .ok (.aload_n 0, 1) := by decide +kernel
theorem dX0_closureOf_6 : decode cX0_closureOf 6 = .ok (.iload_n 1, 1) := by decide +kernel
theorem dX0_closureOf_7 : decode cX0_closureOf 7 = .ok (.invokevirtual 64, 3) := by decide +kernel
theorem dX0_closureOf_10 : decode cX0_closureOf 10 = .ok (.aload_n 0, 1) := by decide +kernel
theorem dX0_closureOf_11 : decode cX0_closureOf 11 = .ok (.getfield 50, 3) := by decide +kernel
theorem dX0_closureOf_14 : decode cX0_closureOf 14 = .ok (.ireturn, 1) := by decide +kernel
abbrev cX0_learnAll : ByteArray := prog_1_method_18_code
def yX0_learnAll : MethodName := ⟨RX0, "learnAll", "(I)V"⟩
theorem dX0_learnAll_0 : decode cX0_learnAll 0 = .ok (.iconst 0, 1) := by decide +kernel
theorem dX0_learnAll_1 : decode cX0_learnAll 1 = .ok (.istore_n 2, 1) := by decide +kernel
theorem dX0_learnAll_2 : decode cX0_learnAll 2 = .ok (.iload_n 2, 1) := by decide +kernel
theorem dX0_learnAll_3 : decode cX0_learnAll 3 = .ok (.aload_n 0, 1) := by decide +kernel
theorem dX0_learnAll_4 : decode cX0_learnAll 4 = .ok (.getfield 25, 3) := by decide +kernel
theorem dX0_learnAll_7 : decode cX0_learnAll 7 = .ok (.if_icmp .ge 22, 3) := by decide +kernel
theorem dX0_learnAll_10 : decode cX0_learnAll 10 = .ok (.iload_n 1, 1) := by decide +kernel
theorem dX0_learnAll_11 : decode cX0_learnAll 11 = .ok (.iload_n 2, 1) := by decide +kernel
theorem dX0_learnAll_12 : decode cX0_learnAll 12 = .ok (.iushr, 1) := by decide +kernel
theorem dX0_learnAll_13 : decode cX0_learnAll 13 = .ok (.iconst 1, 1) := by decide +kernel
theorem dX0_learnAll_14 : decode cX0_learnAll 14 = .ok (.iand, 1) := by decide +kernel
theorem dX0_learnAll_15 : decode cX0_learnAll 15 = .ok (.ifCond .eq 8, 3) := by decide +kernel
theorem dX0_learnAll_18 : decode cX0_learnAll 18 = .ok (.aload_n 0, 1) := by decide +kernel
theorem dX0_learnAll_19 : decode cX0_learnAll 19 = .ok (.iload_n 2, 1) := by decide +kernel
theorem dX0_learnAll_20 : decode cX0_learnAll 20 = .ok (.invokevirtual 40, 3) := by decide +kernel
theorem dX0_learnAll_23 : decode cX0_learnAll 23 = .ok (.iinc 2 1, 3) := by decide +kernel
theorem dX0_learnAll_26 : decode cX0_learnAll 26 = .ok (.goto (-24), 3) := by decide +kernel
theorem dX0_learnAll_29 : decode cX0_learnAll 29 = .ok (.aload_n 0, 1) := by decide +kernel
theorem dX0_learnAll_30 : decode cX0_learnAll 30 = .ok (.invokevirtual 44, 3) := by decide +kernel
theorem dX0_learnAll_33 : decode cX0_learnAll 33 = .ok (.return_, 1) := by decide +kernel
abbrev cX0_knows : ByteArray := prog_1_method_7_code
def yX0_knows : MethodName := ⟨RX0, "knows", "(I)I"⟩
theorem dX0_knows_0 : decode cX0_knows 0 = .ok (.aload_n 0, 1) := by decide +kernel
theorem dX0_knows_1 : decode cX0_knows 1 = .ok (.iload_n 1, 1) := by decide +kernel
theorem dX0_knows_2 : decode cX0_knows 2 = .ok (.invokevirtual 29, 3) := by decide +kernel
theorem dX0_knows_5 : decode cX0_knows 5 = .ok (.ifCond .ne 5, 3) := by decide +kernel
theorem dX0_knows_8 : decode cX0_knows 8 = .ok (.iconst (-1), 1) := by decide +kernel
theorem dX0_knows_9 : decode cX0_knows 9 = .ok (.ireturn, 1) := by decide +kernel
theorem dX0_knows_10 : decode cX0_knows 10 = .ok (.aload_n 0, 1) := by decide +kernel
theorem dX0_knows_11 : decode cX0_knows 11 = .ok (.iload_n 1, 1) := by decide +kernel
theorem dX0_knows_12 : decode cX0_knows 12 = .ok (.invokevirtual 37, 3) := by decide +kernel
theorem dX0_knows_15 : decode cX0_knows 15 = .ok (.ifCond .eq 7, 3) := by decide +kernel
theorem dX0_knows_18 : decode cX0_knows 18 = .ok (.iconst 1, 1) := by decide +kernel
theorem dX0_knows_19 : decode cX0_knows 19 = .ok (.goto 4, 3) := by decide +kernel
theorem dX0_knows_22 : decode cX0_knows 22 = .ok (.iconst 0, 1) := by decide +kernel
theorem dX0_knows_23 : decode cX0_knows 23 = .ok (.ireturn, 1) := by decide +kernel
abbrev cX0_known : ByteArray := prog_1_method_8_code
def yX0_known : MethodName := ⟨RX0, "known", "()I"⟩
theorem dX0_known_0 : decode cX0_known 0 = .ok (.aload_n 0, 1) := by decide +kernel
theorem dX0_known_1 : decode cX0_known 1 = .ok (.getfield 50, 3) := by decide +kernel
theorem dX0_known_4 : decode cX0_known 4 = .ok (.invokestatic 53, 3) := by decide +kernel
theorem dX0_known_7 : decode cX0_known 7 = .ok (.ireturn, 1) := by decide +kernel
abbrev cX0_would : ByteArray := prog_1_method_9_code
def yX0_would : MethodName := ⟨RX0, "would", "(II)I"⟩
theorem dX0_would_0 : decode cX0_would 0 = .ok (.aload_n 0, 1) := by decide +kernel
theorem dX0_would_1 : decode cX0_would 1 = .ok (.iload_n 1, 1) := by decide +kernel
theorem dX0_would_2 : decode cX0_would 2 = .ok (.invokevirtual 29, 3) := by decide +kernel
theorem dX0_would_5 : decode cX0_would 5 = .ok (.ifCond .eq 11, 3) := by decide +kernel
theorem dX0_would_8 : decode cX0_would 8 = .ok (.aload_n 0, 1) := by decide +kernel
theorem dX0_would_9 : decode cX0_would 9 = .ok (.iload_n 2, 1) := by decide +kernel
theorem dX0_would_10 : decode cX0_would 10 = .ok (.invokevirtual 29, 3) := by decide +kernel
theorem dX0_would_13 : decode cX0_would 13 = .ok (.ifCond .ne 5, 3) := by decide +kernel
theorem dX0_would_16 : decode cX0_would 16 = .ok (.iconst (-1), 1) := by decide +kernel
theorem dX0_would_17 : decode cX0_would 17 = .ok (.ireturn, 1) := by decide +kernel
theorem dX0_would_18 : decode cX0_would 18 = .ok (.aload_n 0, 1) := by decide +kernel
theorem dX0_would_19 : decode cX0_would 19 = .ok (.iconst 1, 1) := by decide +kernel
theorem dX0_would_20 : decode cX0_would 20 = .ok (.iload_n 1, 1) := by decide +kernel
theorem dX0_would_21 : decode cX0_would 21 = .ok (.ishl, 1) := by decide +kernel
theorem dX0_would_22 : decode cX0_would 22 = .ok (.iload_n 2, 1) := by decide +kernel
theorem dX0_would_23 : decode cX0_would 23 = .ok (.invokevirtual 60, 3) := by decide +kernel
theorem dX0_would_26 : decode cX0_would 26 = .ok (.ifCond .eq 7, 3) := by decide +kernel
theorem dX0_would_29 : decode cX0_would 29 = .ok (.iconst 1, 1) := by decide +kernel
theorem dX0_would_30 : decode cX0_would 30 = .ok (.goto 4, 3) := by decide +kernel
theorem dX0_would_33 : decode cX0_would 33 = .ok (.iconst 0, 1) := by decide +kernel
theorem dX0_would_34 : decode cX0_would 34 = .ok (.ireturn, 1) := by decide +kernel
abbrev cX0_reveals : ByteArray := prog_1_method_16_code
def yX0_reveals : MethodName := ⟨RX0, "reveals", "(II)Z"⟩
theorem dX0_reveals_0 : decode cX0_reveals 0 = .ok (.aload_n 0, 1) := by decide +kernel
theorem dX0_reveals_1 : decode cX0_reveals 1 = .ok (.getfield 50, 3) := by decide +kernel
theorem dX0_reveals_4 : decode cX0_reveals 4 = .ok (.istore_n 3, 1) := by decide +kernel
theorem dX0_reveals_5 : decode cX0_reveals 5 = .ok (.aload_n 0, 1) := by decide +kernel
theorem dX0_reveals_6 : decode cX0_reveals 6 = .ok (.iload_n 1, 1) := by decide +kernel
theorem dX0_reveals_7 : decode cX0_reveals 7 = .ok (.invokevirtual 64, 3) := by decide +kernel
theorem dX0_reveals_10 : decode cX0_reveals 10 = .ok (.aload_n 0, 1) := by decide +kernel
theorem dX0_reveals_11 : decode cX0_reveals 11 = .ok (.iload_n 2, 1) := by decide +kernel
theorem dX0_reveals_12 : decode cX0_reveals 12 = .ok (.invokevirtual 37, 3) := by decide +kernel
theorem dX0_reveals_15 : decode cX0_reveals 15 = .ok (.istore 4, 2) := by decide +kernel
theorem dX0_reveals_17 : decode cX0_reveals 17 = .ok (.aload_n 0, 1) := by decide +kernel
theorem dX0_reveals_18 : decode cX0_reveals 18 = .ok (.iload_n 3, 1) := by decide +kernel
theorem dX0_reveals_19 : decode cX0_reveals 19 = .ok (.putfield 50, 3) := by decide +kernel
theorem dX0_reveals_22 : decode cX0_reveals 22 = .ok (.iload 4, 2) := by decide +kernel
theorem dX0_reveals_24 : decode cX0_reveals 24 = .ok (.ireturn, 1) := by decide +kernel
abbrev cX0_leak : ByteArray := prog_1_method_10_code
def yX0_leak : MethodName := ⟨RX0, "leak", "(I)I"⟩
theorem dX0_leak_0 : decode cX0_leak 0 = .ok (.aload_n 0, 1) := by decide +kernel
theorem dX0_leak_1 : decode cX0_leak 1 = .ok (.iload_n 1, 1) := by decide +kernel
theorem dX0_leak_2 : decode cX0_leak 2 = .ok (.invokevirtual 29, 3) := by decide +kernel
theorem dX0_leak_5 : decode cX0_leak 5 = .ok (.ifCond .ne 5, 3) := by decide +kernel
theorem dX0_leak_8 : decode cX0_leak 8 = .ok (.iconst (-1), 1) := by decide +kernel
theorem dX0_leak_9 : decode cX0_leak 9 = .ok (.ireturn, 1) := by decide +kernel
theorem dX0_leak_10 : decode cX0_leak 10 = .ok (.aload_n 0, 1) := by decide +kernel
theorem dX0_leak_11 : decode cX0_leak 11 = .ok (.iload_n 1, 1) := by decide +kernel
theorem dX0_leak_12 : decode cX0_leak 12 = .ok (.invokevirtual 37, 3) := by decide +kernel
theorem dX0_leak_15 : decode cX0_leak 15 = .ok (.ifCond .eq 6, 3) := by decide +kernel
theorem dX0_leak_18 : decode cX0_leak 18 = .ok (.bipush (-2), 2) := by decide +kernel
theorem dX0_leak_20 : decode cX0_leak 20 = .ok (.ireturn, 1) := by decide +kernel
theorem dX0_leak_21 : decode cX0_leak 21 = .ok (.iconst 0, 1) := by decide +kernel
theorem dX0_leak_22 : decode cX0_leak 22 = .ok (.istore_n 2, 1) := by decide +kernel
theorem dX0_leak_23 : decode cX0_leak 23 = .ok (.iload_n 2, 1) := by decide +kernel
theorem dX0_leak_24 : decode cX0_leak 24 = .ok (.iload_n 1, 1) := by decide +kernel
theorem dX0_leak_25 : decode cX0_leak 25 = .ok (.if_icmp .ge 30, 3) := by decide +kernel
theorem dX0_leak_28 : decode cX0_leak 28 = .ok (.aload_n 0, 1) := by decide +kernel
theorem dX0_leak_29 : decode cX0_leak 29 = .ok (.iload_n 2, 1) := by decide +kernel
theorem dX0_leak_30 : decode cX0_leak 30 = .ok (.invokevirtual 37, 3) := by decide +kernel
theorem dX0_leak_33 : decode cX0_leak 33 = .ok (.ifCond .ne 16, 3) := by decide +kernel
theorem dX0_leak_36 : decode cX0_leak 36 = .ok (.aload_n 0, 1) := by decide +kernel
theorem dX0_leak_37 : decode cX0_leak 37 = .ok (.iconst 1, 1) := by decide +kernel
theorem dX0_leak_38 : decode cX0_leak 38 = .ok (.iload_n 2, 1) := by decide +kernel
theorem dX0_leak_39 : decode cX0_leak 39 = .ok (.ishl, 1) := by decide +kernel
theorem dX0_leak_40 : decode cX0_leak 40 = .ok (.iload_n 1, 1) := by decide +kernel
theorem dX0_leak_41 : decode cX0_leak 41 = .ok (.invokevirtual 60, 3) := by decide +kernel
theorem dX0_leak_44 : decode cX0_leak 44 = .ok (.ifCond .eq 5, 3) := by decide +kernel
theorem dX0_leak_47 : decode cX0_leak 47 = .ok (.iload_n 2, 1) := by decide +kernel
theorem dX0_leak_48 : decode cX0_leak 48 = .ok (.ireturn, 1) := by decide +kernel
theorem dX0_leak_49 : decode cX0_leak 49 = .ok (.iinc 2 1, 3) := by decide +kernel
theorem dX0_leak_52 : decode cX0_leak 52 = .ok (.goto (-29), 3) := by decide +kernel
theorem dX0_leak_55 : decode cX0_leak 55 = .ok (.iload_n 1, 1) := by decide +kernel
theorem dX0_leak_56 : decode cX0_leak 56 = .ok (.ireturn, 1) := by decide +kernel
abbrev cX0_atomsFor : ByteArray := prog_1_method_11_code
def yX0_atomsFor : MethodName := ⟨RX0, "atomsFor", "(I)I"⟩
theorem dX0_atomsFor_0 : decode cX0_atomsFor 0 = .ok (.aload_n 0, 1) := by decide +kernel
theorem dX0_atomsFor_1 : decode cX0_atomsFor 1 = .ok (.iload_n 1, 1) := by decide +kernel
theorem dX0_atomsFor_2 : decode cX0_atomsFor 2 = .ok (.invokevirtual 29, 3) := by decide +kernel
theorem dX0_atomsFor_5 : decode cX0_atomsFor 5 = .ok (.ifCond .ne 5, 3) := by decide +kernel
theorem dX0_atomsFor_8 : decode cX0_atomsFor 8 = .ok (.iconst (-1), 1) := by decide +kernel
theorem dX0_atomsFor_9 : decode cX0_atomsFor 9 = .ok (.ireturn, 1) := by decide +kernel
theorem dX0_atomsFor_10 : decode cX0_atomsFor 10 = .ok (.bipush 8, 2) := by decide +kernel
theorem dX0_atomsFor_12 : decode cX0_atomsFor 12 = .ok (.istore_n 2, 1) := by decide +kernel
theorem dX0_atomsFor_13 : decode cX0_atomsFor 13 = .ok (.iconst 0, 1) := by decide +kernel
theorem dX0_atomsFor_14 : decode cX0_atomsFor 14 = .ok (.istore_n 3, 1) := by decide +kernel
theorem dX0_atomsFor_15 : decode cX0_atomsFor 15 = .ok (.iload_n 3, 1) := by decide +kernel
theorem dX0_atomsFor_16 : decode cX0_atomsFor 16 = .ok (.sipush 256, 3) := by decide +kernel
theorem dX0_atomsFor_19 : decode cX0_atomsFor 19 = .ok (.if_icmp .ge 42, 3) := by decide +kernel
theorem dX0_atomsFor_22 : decode cX0_atomsFor 22 = .ok (.iload_n 3, 1) := by decide +kernel
theorem dX0_atomsFor_23 : decode cX0_atomsFor 23 = .ok (.invokestatic 53, 3) := by decide +kernel
theorem dX0_atomsFor_26 : decode cX0_atomsFor 26 = .ok (.istore 4, 2) := by decide +kernel
theorem dX0_atomsFor_28 : decode cX0_atomsFor 28 = .ok (.iload 4, 2) := by decide +kernel
theorem dX0_atomsFor_30 : decode cX0_atomsFor 30 = .ok (.iload_n 2, 1) := by decide +kernel
theorem dX0_atomsFor_31 : decode cX0_atomsFor 31 = .ok (.if_icmp .ge 24, 3) := by decide +kernel
theorem dX0_atomsFor_34 : decode cX0_atomsFor 34 = .ok (.iload_n 3, 1) := by decide +kernel
theorem dX0_atomsFor_35 : decode cX0_atomsFor 35 = .ok (.aload_n 0, 1) := by decide +kernel
theorem dX0_atomsFor_36 : decode cX0_atomsFor 36 = .ok (.getfield 50, 3) := by decide +kernel
theorem dX0_atomsFor_39 : decode cX0_atomsFor 39 = .ok (.iand, 1) := by decide +kernel
theorem dX0_atomsFor_40 : decode cX0_atomsFor 40 = .ok (.ifCond .ne 15, 3) := by decide +kernel
theorem dX0_atomsFor_43 : decode cX0_atomsFor 43 = .ok (.aload_n 0, 1) := by decide +kernel
theorem dX0_atomsFor_44 : decode cX0_atomsFor 44 = .ok (.iload_n 3, 1) := by decide +kernel
theorem dX0_atomsFor_45 : decode cX0_atomsFor 45 = .ok (.iload_n 1, 1) := by decide +kernel
theorem dX0_atomsFor_46 : decode cX0_atomsFor 46 = .ok (.invokevirtual 60, 3) := by decide +kernel
theorem dX0_atomsFor_49 : decode cX0_atomsFor 49 = .ok (.ifCond .eq 6, 3) := by decide +kernel
theorem dX0_atomsFor_52 : decode cX0_atomsFor 52 = .ok (.iload 4, 2) := by decide +kernel
theorem dX0_atomsFor_54 : decode cX0_atomsFor 54 = .ok (.istore_n 2, 1) := by decide +kernel
theorem dX0_atomsFor_55 : decode cX0_atomsFor 55 = .ok (.iinc 3 1, 3) := by decide +kernel
theorem dX0_atomsFor_58 : decode cX0_atomsFor 58 = .ok (.goto (-43), 3) := by decide +kernel
theorem dX0_atomsFor_61 : decode cX0_atomsFor 61 = .ok (.iload_n 2, 1) := by decide +kernel
theorem dX0_atomsFor_62 : decode cX0_atomsFor 62 = .ok (.ireturn, 1) := by decide +kernel
abbrev cX0_spare : ByteArray := prog_1_method_12_code
def yX0_spare : MethodName := ⟨RX0, "spare", "()I"⟩
theorem dX0_spare_0 : decode cX0_spare 0 = .ok (.aload_n 0, 1) := by decide +kernel
theorem dX0_spare_1 : decode cX0_spare 1 = .ok (.getfield 50, 3) := by decide +kernel
theorem dX0_spare_4 : decode cX0_spare 4 = .ok (.istore_n 1, 1) := by decide +kernel
theorem dX0_spare_5 : decode cX0_spare 5 = .ok (.iconst 0, 1) := by decide +kernel
theorem dX0_spare_6 : decode cX0_spare 6 = .ok (.istore_n 2, 1) := by decide +kernel
theorem dX0_spare_7 : decode cX0_spare 7 = .ok (.iconst 0, 1) := by decide +kernel
theorem dX0_spare_8 : decode cX0_spare 8 = .ok (.istore_n 3, 1) := by decide +kernel
theorem dX0_spare_9 : decode cX0_spare 9 = .ok (.iload_n 3, 1) := by decide +kernel
theorem dX0_spare_10 : decode cX0_spare 10 = .ok (.aload_n 0, 1) := by decide +kernel
theorem dX0_spare_11 : decode cX0_spare 11 = .ok (.getfield 25, 3) := by decide +kernel
theorem dX0_spare_14 : decode cX0_spare 14 = .ok (.if_icmp .ge 50, 3) := by decide +kernel
theorem dX0_spare_17 : decode cX0_spare 17 = .ok (.aload_n 0, 1) := by decide +kernel
theorem dX0_spare_18 : decode cX0_spare 18 = .ok (.getfield 47, 3) := by decide +kernel
theorem dX0_spare_21 : decode cX0_spare 21 = .ok (.iload_n 3, 1) := by decide +kernel
theorem dX0_spare_22 : decode cX0_spare 22 = .ok (.iushr, 1) := by decide +kernel
theorem dX0_spare_23 : decode cX0_spare 23 = .ok (.iconst 1, 1) := by decide +kernel
theorem dX0_spare_24 : decode cX0_spare 24 = .ok (.iand, 1) := by decide +kernel
theorem dX0_spare_25 : decode cX0_spare 25 = .ok (.ifCond .eq 33, 3) := by decide +kernel
theorem dX0_spare_28 : decode cX0_spare 28 = .ok (.aload_n 0, 1) := by decide +kernel
theorem dX0_spare_29 : decode cX0_spare 29 = .ok (.aload_n 0, 1) := by decide +kernel
theorem dX0_spare_30 : decode cX0_spare 30 = .ok (.getfield 47, 3) := by decide +kernel
theorem dX0_spare_33 : decode cX0_spare 33 = .ok (.iconst 1, 1) := by decide +kernel
theorem dX0_spare_34 : decode cX0_spare 34 = .ok (.iload_n 3, 1) := by decide +kernel
theorem dX0_spare_35 : decode cX0_spare 35 = .ok (.ishl, 1) := by decide +kernel
theorem dX0_spare_36 : decode cX0_spare 36 = .ok (.iconst (-1), 1) := by decide +kernel
theorem dX0_spare_37 : decode cX0_spare 37 = .ok (.ixor, 1) := by decide +kernel
theorem dX0_spare_38 : decode cX0_spare 38 = .ok (.iand, 1) := by decide +kernel
theorem dX0_spare_39 : decode cX0_spare 39 = .ok (.invokevirtual 57, 3) := by decide +kernel
theorem dX0_spare_42 : decode cX0_spare 42 = .ok (.istore 4, 2) := by decide +kernel
theorem dX0_spare_44 : decode cX0_spare 44 = .ok (.iload_n 2, 1) := by decide +kernel
theorem dX0_spare_45 : decode cX0_spare 45 = .ok (.iload 4, 2) := by decide +kernel
theorem dX0_spare_47 : decode cX0_spare 47 = .ok (.iload_n 1, 1) := by decide +kernel
theorem dX0_spare_48 : decode cX0_spare 48 = .ok (.if_icmp .ne 7, 3) := by decide +kernel
theorem dX0_spare_51 : decode cX0_spare 51 = .ok (.iconst 1, 1) := by decide +kernel
theorem dX0_spare_52 : decode cX0_spare 52 = .ok (.goto 4, 3) := by decide +kernel
theorem dX0_spare_55 : decode cX0_spare 55 = .ok (.iconst 0, 1) := by decide +kernel
theorem dX0_spare_56 : decode cX0_spare 56 = .ok (.iadd, 1) := by decide +kernel
theorem dX0_spare_57 : decode cX0_spare 57 = .ok (.istore_n 2, 1) := by decide +kernel
theorem dX0_spare_58 : decode cX0_spare 58 = .ok (.iinc 3 1, 3) := by decide +kernel
theorem dX0_spare_61 : decode cX0_spare 61 = .ok (.goto (-52), 3) := by decide +kernel
theorem dX0_spare_64 : decode cX0_spare 64 = .ok (.aload_n 0, 1) := by decide +kernel
theorem dX0_spare_65 : decode cX0_spare 65 = .ok (.iload_n 1, 1) := by decide +kernel
theorem dX0_spare_66 : decode cX0_spare 66 = .ok (.putfield 50, 3) := by decide +kernel
theorem dX0_spare_69 : decode cX0_spare 69 = .ok (.iload_n 2, 1) := by decide +kernel
theorem dX0_spare_70 : decode cX0_spare 70 = .ok (.ireturn, 1) := by decide +kernel
theorem q17 : (Jvm.Cond.initialized "TermSecrets") ∈ lw_all := lw_g (lw_at lw_m0 1 rfl) rfl
theorem q20 : (Jvm.Cond.instantiable "TermSecrets" (9 : Nat)) ∈ lw_all := lw_g (lw_at lw_m0 4 rfl) rfl
theorem q22 : (Jvm.Cond.instanceMethod ({ cls := "TermSecrets", name := "<init>", desc := "()V" } : Jvm.MethodName)) ∈ lw_all := lw_g (lw_at lw_m0 6 rfl) rfl
theorem q23 : (Jvm.Cond.code ({ cls := "TermSecrets", name := "<init>", desc := "()V" } : Jvm.MethodName) prog_1_method_1_code (1 : Nat) (Option.none : Option Jvm.ClassFile.FieldType)) ∈ lw_all := lw_g (lw_at lw_m0 7 rfl) rfl
theorem q24 : (Jvm.Cond.methodLink "TermSecrets" (1 : Nat) ({ cls := "java/lang/Object", name := "<init>", desc := "()V" } : Jvm.MethodName)) ∈ lw_all := lw_g (lw_at lw_m0 8 rfl) rfl
theorem q27 : (Jvm.Cond.fieldLink "TermSecrets" (25 : Nat) "TermSecrets" "terms" "I") ∈ lw_all := lw_g (lw_at lw_m0 11 rfl) rfl
theorem q28 : (Jvm.Cond.fieldLink "TermSecrets" (7 : Nat) "TermSecrets" "sort" "[I") ∈ lw_all := lw_g (lw_at lw_m0 12 rfl) rfl
theorem q29 : (Jvm.Cond.fieldLink "TermSecrets" (13 : Nat) "TermSecrets" "left" "[I") ∈ lw_all := lw_g (lw_at lw_m0 13 rfl) rfl
theorem q30 : (Jvm.Cond.fieldLink "TermSecrets" (16 : Nat) "TermSecrets" "right" "[I") ∈ lw_all := lw_g (lw_at lw_m0 14 rfl) rfl
theorem q31 : (Jvm.Cond.fieldLink "TermSecrets" (19 : Nat) "TermSecrets" "usedIn" "[I") ∈ lw_all := lw_g (lw_at lw_m0 15 rfl) rfl
theorem q32 : (Jvm.Cond.fieldLink "TermSecrets" (47 : Nat) "TermSecrets" "heard" "I") ∈ lw_all := lw_g (lw_at lw_m0 16 rfl) rfl
theorem q33 : (Jvm.Cond.fieldLink "TermSecrets" (50 : Nat) "TermSecrets" "knownSet" "I") ∈ lw_all := lw_g (lw_at lw_m0 17 rfl) rfl
theorem q34 : (Jvm.Cond.fieldLink "TermSecrets" (67 : Nat) "TermSecrets" "waiting" "I") ∈ lw_all := lw_g (lw_at lw_m0 18 rfl) rfl
theorem q35 : (Jvm.Cond.fieldLink "TermSecrets" (22 : Nat) "TermSecrets" "stack" "[I") ∈ lw_all := lw_g (lw_at lw_m0 19 rfl) rfl
theorem q36 : (Jvm.Cond.lays "TermSecrets" "TermSecrets" "terms" "I") ∈ lw_all := lw_g (lw_at lw_m0 20 rfl) rfl
theorem q37 : (Jvm.Cond.soleField "TermSecrets" "terms") ∈ lw_all := lw_g (lw_at lw_m0 21 rfl) rfl
theorem q38 : (Jvm.Cond.laysFinal "TermSecrets" "TermSecrets" "sort" "[I") ∈ lw_all := lw_g (lw_at lw_m0 22 rfl) rfl
theorem q39 : (Jvm.Cond.soleField "TermSecrets" "sort") ∈ lw_all := lw_g (lw_at lw_m0 23 rfl) rfl
theorem q40 : (Jvm.Cond.laysFinal "TermSecrets" "TermSecrets" "left" "[I") ∈ lw_all := lw_g (lw_at lw_m0 24 rfl) rfl
theorem q41 : (Jvm.Cond.soleField "TermSecrets" "left") ∈ lw_all := lw_g (lw_at lw_m0 25 rfl) rfl
theorem q42 : (Jvm.Cond.laysFinal "TermSecrets" "TermSecrets" "right" "[I") ∈ lw_all := lw_g (lw_at lw_m0 26 rfl) rfl
theorem q43 : (Jvm.Cond.soleField "TermSecrets" "right") ∈ lw_all := lw_g (lw_at lw_m0 27 rfl) rfl
theorem q44 : (Jvm.Cond.laysFinal "TermSecrets" "TermSecrets" "usedIn" "[I") ∈ lw_all := lw_g (lw_at lw_m0 28 rfl) rfl
theorem q45 : (Jvm.Cond.soleField "TermSecrets" "usedIn") ∈ lw_all := lw_g (lw_at lw_m0 29 rfl) rfl
theorem q46 : (Jvm.Cond.lays "TermSecrets" "TermSecrets" "heard" "I") ∈ lw_all := lw_g (lw_at lw_m0 30 rfl) rfl
theorem q47 : (Jvm.Cond.soleField "TermSecrets" "heard") ∈ lw_all := lw_g (lw_at lw_m0 31 rfl) rfl
theorem q48 : (Jvm.Cond.lays "TermSecrets" "TermSecrets" "knownSet" "I") ∈ lw_all := lw_g (lw_at lw_m0 32 rfl) rfl
theorem q49 : (Jvm.Cond.soleField "TermSecrets" "knownSet") ∈ lw_all := lw_g (lw_at lw_m0 33 rfl) rfl
theorem q50 : (Jvm.Cond.lays "TermSecrets" "TermSecrets" "waiting" "I") ∈ lw_all := lw_g (lw_at lw_m0 34 rfl) rfl
theorem q51 : (Jvm.Cond.soleField "TermSecrets" "waiting") ∈ lw_all := lw_g (lw_at lw_m0 35 rfl) rfl
theorem q52 : (Jvm.Cond.laysFinal "TermSecrets" "TermSecrets" "stack" "[I") ∈ lw_all := lw_g (lw_at lw_m0 36 rfl) rfl
theorem q53 : (Jvm.Cond.soleField "TermSecrets" "stack") ∈ lw_all := lw_g (lw_at lw_m0 37 rfl) rfl
theorem q54 : (Jvm.Cond.superclass "TermSecrets" "java/lang/Object") ∈ lw_all := lw_g (lw_at lw_m0 38 rfl) rfl
theorem q57 : (Jvm.Cond.instanceMethod ({ cls := "TermSecrets", name := "pair", desc := "(II)I" } : Jvm.MethodName)) ∈ lw_all := lw_g (lw_at lw_m0 41 rfl) rfl
theorem q58 : (Jvm.Cond.selects "TermSecrets" ({ cls := "TermSecrets", name := "pair", desc := "(II)I" } : Jvm.MethodName) ({ cls := "TermSecrets", name := "pair", desc := "(II)I" } : Jvm.MethodName)) ∈ lw_all := lw_g (lw_at lw_m0 42 rfl) rfl
theorem q59 : (Jvm.Cond.code ({ cls := "TermSecrets", name := "pair", desc := "(II)I" } : Jvm.MethodName) prog_1_method_2_code (3 : Nat) (Option.some Jvm.ClassFile.FieldType.int)) ∈ lw_all := lw_g (lw_at lw_m0 43 rfl) rfl
theorem q60 : (Jvm.Cond.methodLink "TermSecrets" (29 : Nat) ({ cls := "TermSecrets", name := "isTerm", desc := "(I)Z" } : Jvm.MethodName)) ∈ lw_all := lw_g (lw_at lw_m0 44 rfl) rfl
theorem q61 : (Jvm.Cond.privateMethod ({ cls := "TermSecrets", name := "isTerm", desc := "(I)Z" } : Jvm.MethodName)) ∈ lw_tbl := lw_at lw_m0 45 rfl
theorem q62 : (Jvm.Cond.instanceMethod ({ cls := "TermSecrets", name := "isTerm", desc := "(I)Z" } : Jvm.MethodName)) ∈ lw_all := lw_g (lw_at lw_m0 46 rfl) rfl
theorem q63 : (Jvm.Cond.code ({ cls := "TermSecrets", name := "isTerm", desc := "(I)Z" } : Jvm.MethodName) prog_1_method_13_code (2 : Nat) (Option.some Jvm.ClassFile.FieldType.boolean)) ∈ lw_all := lw_g (lw_at lw_m0 47 rfl) rfl
theorem q64 : (Jvm.Cond.methodLink "TermSecrets" (33 : Nat) ({ cls := "TermSecrets", name := "termOf", desc := "(III)I" } : Jvm.MethodName)) ∈ lw_all := lw_g (lw_at lw_m0 48 rfl) rfl
theorem q65 : (Jvm.Cond.privateMethod ({ cls := "TermSecrets", name := "termOf", desc := "(III)I" } : Jvm.MethodName)) ∈ lw_tbl := lw_at lw_m0 49 rfl
theorem q66 : (Jvm.Cond.instanceMethod ({ cls := "TermSecrets", name := "termOf", desc := "(III)I" } : Jvm.MethodName)) ∈ lw_all := lw_g (lw_at lw_m0 50 rfl) rfl
theorem q67 : (Jvm.Cond.code ({ cls := "TermSecrets", name := "termOf", desc := "(III)I" } : Jvm.MethodName) prog_1_method_4_code (6 : Nat) (Option.some Jvm.ClassFile.FieldType.int)) ∈ lw_all := lw_g (lw_at lw_m0 51 rfl) rfl
theorem q68 : (Jvm.Cond.methodLink "TermSecrets" (37 : Nat) ({ cls := "TermSecrets", name := "isKnown", desc := "(I)Z" } : Jvm.MethodName)) ∈ lw_all := lw_g (lw_at lw_m0 52 rfl) rfl
theorem q69 : (Jvm.Cond.privateMethod ({ cls := "TermSecrets", name := "isKnown", desc := "(I)Z" } : Jvm.MethodName)) ∈ lw_tbl := lw_at lw_m0 53 rfl
theorem q70 : (Jvm.Cond.instanceMethod ({ cls := "TermSecrets", name := "isKnown", desc := "(I)Z" } : Jvm.MethodName)) ∈ lw_all := lw_g (lw_at lw_m0 54 rfl) rfl
theorem q71 : (Jvm.Cond.code ({ cls := "TermSecrets", name := "isKnown", desc := "(I)Z" } : Jvm.MethodName) prog_1_method_14_code (2 : Nat) (Option.some Jvm.ClassFile.FieldType.boolean)) ∈ lw_all := lw_g (lw_at lw_m0 55 rfl) rfl
theorem q72 : (Jvm.Cond.methodLink "TermSecrets" (40 : Nat) ({ cls := "TermSecrets", name := "learn", desc := "(I)V" } : Jvm.MethodName)) ∈ lw_all := lw_g (lw_at lw_m0 56 rfl) rfl
theorem q73 : (Jvm.Cond.privateMethod ({ cls := "TermSecrets", name := "learn", desc := "(I)V" } : Jvm.MethodName)) ∈ lw_tbl := lw_at lw_m0 57 rfl
theorem q74 : (Jvm.Cond.instanceMethod ({ cls := "TermSecrets", name := "learn", desc := "(I)V" } : Jvm.MethodName)) ∈ lw_all := lw_g (lw_at lw_m0 58 rfl) rfl
theorem q75 : (Jvm.Cond.code ({ cls := "TermSecrets", name := "learn", desc := "(I)V" } : Jvm.MethodName) prog_1_method_19_code (2 : Nat) (Option.none : Option Jvm.ClassFile.FieldType)) ∈ lw_all := lw_g (lw_at lw_m0 59 rfl) rfl
theorem q76 : (Jvm.Cond.methodLink "TermSecrets" (44 : Nat) ({ cls := "TermSecrets", name := "spread", desc := "()V" } : Jvm.MethodName)) ∈ lw_all := lw_g (lw_at lw_m0 60 rfl) rfl
theorem q77 : (Jvm.Cond.privateMethod ({ cls := "TermSecrets", name := "spread", desc := "()V" } : Jvm.MethodName)) ∈ lw_tbl := lw_at lw_m0 61 rfl
theorem q78 : (Jvm.Cond.instanceMethod ({ cls := "TermSecrets", name := "spread", desc := "()V" } : Jvm.MethodName)) ∈ lw_all := lw_g (lw_at lw_m0 62 rfl) rfl
theorem q79 : (Jvm.Cond.code ({ cls := "TermSecrets", name := "spread", desc := "()V" } : Jvm.MethodName) prog_1_method_20_code (2 : Nat) (Option.none : Option Jvm.ClassFile.FieldType)) ∈ lw_all := lw_g (lw_at lw_m0 63 rfl) rfl
theorem q80 : (Jvm.Cond.methodLink "TermSecrets" (70 : Nat) ({ cls := "TermSecrets", name := "open", desc := "(I)V" } : Jvm.MethodName)) ∈ lw_all := lw_g (lw_at lw_m0 64 rfl) rfl
theorem q81 : (Jvm.Cond.privateMethod ({ cls := "TermSecrets", name := "open", desc := "(I)V" } : Jvm.MethodName)) ∈ lw_tbl := lw_at lw_m0 65 rfl
theorem q82 : (Jvm.Cond.instanceMethod ({ cls := "TermSecrets", name := "open", desc := "(I)V" } : Jvm.MethodName)) ∈ lw_all := lw_g (lw_at lw_m0 66 rfl) rfl
theorem q83 : (Jvm.Cond.code ({ cls := "TermSecrets", name := "open", desc := "(I)V" } : Jvm.MethodName) prog_1_method_21_code (3 : Nat) (Option.none : Option Jvm.ClassFile.FieldType)) ∈ lw_all := lw_g (lw_at lw_m0 67 rfl) rfl
theorem q84 : (Jvm.Cond.methodLink "TermSecrets" (73 : Nat) ({ cls := "TermSecrets", name := "lookAt", desc := "(I)V" } : Jvm.MethodName)) ∈ lw_all := lw_g (lw_at lw_m0 68 rfl) rfl
theorem q85 : (Jvm.Cond.privateMethod ({ cls := "TermSecrets", name := "lookAt", desc := "(I)V" } : Jvm.MethodName)) ∈ lw_tbl := lw_at lw_m0 69 rfl
theorem q86 : (Jvm.Cond.instanceMethod ({ cls := "TermSecrets", name := "lookAt", desc := "(I)V" } : Jvm.MethodName)) ∈ lw_all := lw_g (lw_at lw_m0 70 rfl) rfl
theorem q87 : (Jvm.Cond.code ({ cls := "TermSecrets", name := "lookAt", desc := "(I)V" } : Jvm.MethodName) prog_1_method_22_code (2 : Nat) (Option.none : Option Jvm.ClassFile.FieldType)) ∈ lw_all := lw_g (lw_at lw_m0 71 rfl) rfl
theorem q89 : (Jvm.Cond.instanceMethod ({ cls := "TermSecrets", name := "lock", desc := "(II)I" } : Jvm.MethodName)) ∈ lw_all := lw_g (lw_at lw_m0 73 rfl) rfl
theorem q90 : (Jvm.Cond.selects "TermSecrets" ({ cls := "TermSecrets", name := "lock", desc := "(II)I" } : Jvm.MethodName) ({ cls := "TermSecrets", name := "lock", desc := "(II)I" } : Jvm.MethodName)) ∈ lw_all := lw_g (lw_at lw_m0 74 rfl) rfl
theorem q91 : (Jvm.Cond.code ({ cls := "TermSecrets", name := "lock", desc := "(II)I" } : Jvm.MethodName) prog_1_method_3_code (3 : Nat) (Option.some Jvm.ClassFile.FieldType.int)) ∈ lw_all := lw_g (lw_at lw_m0 75 rfl) rfl
theorem q93 : (Jvm.Cond.instanceMethod ({ cls := "TermSecrets", name := "hear", desc := "(I)I" } : Jvm.MethodName)) ∈ lw_all := lw_g (lw_at lw_m0 77 rfl) rfl
theorem q94 : (Jvm.Cond.selects "TermSecrets" ({ cls := "TermSecrets", name := "hear", desc := "(I)I" } : Jvm.MethodName) ({ cls := "TermSecrets", name := "hear", desc := "(I)I" } : Jvm.MethodName)) ∈ lw_all := lw_g (lw_at lw_m0 78 rfl) rfl
theorem q95 : (Jvm.Cond.code ({ cls := "TermSecrets", name := "hear", desc := "(I)I" } : Jvm.MethodName) prog_1_method_5_code (2 : Nat) (Option.some Jvm.ClassFile.FieldType.int)) ∈ lw_all := lw_g (lw_at lw_m0 79 rfl) rfl
theorem q96 : (Jvm.Cond.methodLink "TermSecrets" (53 : Nat) ({ cls := "TermSecrets", name := "size", desc := "(I)I" } : Jvm.MethodName)) ∈ lw_all := lw_g (lw_at lw_m0 80 rfl) rfl
theorem q97 : (Jvm.Cond.static ({ cls := "TermSecrets", name := "size", desc := "(I)I" } : Jvm.MethodName)) ∈ lw_all := lw_g (lw_at lw_m0 81 rfl) rfl
theorem q98 : (Jvm.Cond.code ({ cls := "TermSecrets", name := "size", desc := "(I)I" } : Jvm.MethodName) prog_1_method_15_code (3 : Nat) (Option.some Jvm.ClassFile.FieldType.int)) ∈ lw_all := lw_g (lw_at lw_m0 82 rfl) rfl
theorem q100 : (Jvm.Cond.instanceMethod ({ cls := "TermSecrets", name := "unhear", desc := "(I)I" } : Jvm.MethodName)) ∈ lw_all := lw_g (lw_at lw_m0 84 rfl) rfl
theorem q101 : (Jvm.Cond.selects "TermSecrets" ({ cls := "TermSecrets", name := "unhear", desc := "(I)I" } : Jvm.MethodName) ({ cls := "TermSecrets", name := "unhear", desc := "(I)I" } : Jvm.MethodName)) ∈ lw_all := lw_g (lw_at lw_m0 85 rfl) rfl
theorem q102 : (Jvm.Cond.code ({ cls := "TermSecrets", name := "unhear", desc := "(I)I" } : Jvm.MethodName) prog_1_method_6_code (2 : Nat) (Option.some Jvm.ClassFile.FieldType.int)) ∈ lw_all := lw_g (lw_at lw_m0 86 rfl) rfl
theorem q103 : (Jvm.Cond.methodLink "TermSecrets" (57 : Nat) ({ cls := "TermSecrets", name := "closureOf", desc := "(I)I" } : Jvm.MethodName)) ∈ lw_all := lw_g (lw_at lw_m0 87 rfl) rfl
theorem q104 : (Jvm.Cond.privateMethod ({ cls := "TermSecrets", name := "closureOf", desc := "(I)I" } : Jvm.MethodName)) ∈ lw_tbl := lw_at lw_m0 88 rfl
theorem q105 : (Jvm.Cond.instanceMethod ({ cls := "TermSecrets", name := "closureOf", desc := "(I)I" } : Jvm.MethodName)) ∈ lw_all := lw_g (lw_at lw_m0 89 rfl) rfl
theorem q106 : (Jvm.Cond.code ({ cls := "TermSecrets", name := "closureOf", desc := "(I)I" } : Jvm.MethodName) prog_1_method_17_code (2 : Nat) (Option.some Jvm.ClassFile.FieldType.int)) ∈ lw_all := lw_g (lw_at lw_m0 90 rfl) rfl
theorem q107 : (Jvm.Cond.methodLink "TermSecrets" (64 : Nat) ({ cls := "TermSecrets", name := "learnAll", desc := "(I)V" } : Jvm.MethodName)) ∈ lw_all := lw_g (lw_at lw_m0 91 rfl) rfl
theorem q108 : (Jvm.Cond.privateMethod ({ cls := "TermSecrets", name := "learnAll", desc := "(I)V" } : Jvm.MethodName)) ∈ lw_tbl := lw_at lw_m0 92 rfl
theorem q109 : (Jvm.Cond.instanceMethod ({ cls := "TermSecrets", name := "learnAll", desc := "(I)V" } : Jvm.MethodName)) ∈ lw_all := lw_g (lw_at lw_m0 93 rfl) rfl
theorem q110 : (Jvm.Cond.code ({ cls := "TermSecrets", name := "learnAll", desc := "(I)V" } : Jvm.MethodName) prog_1_method_18_code (3 : Nat) (Option.none : Option Jvm.ClassFile.FieldType)) ∈ lw_all := lw_g (lw_at lw_m0 94 rfl) rfl
theorem q112 : (Jvm.Cond.instanceMethod ({ cls := "TermSecrets", name := "knows", desc := "(I)I" } : Jvm.MethodName)) ∈ lw_all := lw_g (lw_at lw_m0 96 rfl) rfl
theorem q113 : (Jvm.Cond.selects "TermSecrets" ({ cls := "TermSecrets", name := "knows", desc := "(I)I" } : Jvm.MethodName) ({ cls := "TermSecrets", name := "knows", desc := "(I)I" } : Jvm.MethodName)) ∈ lw_all := lw_g (lw_at lw_m0 97 rfl) rfl
theorem q114 : (Jvm.Cond.code ({ cls := "TermSecrets", name := "knows", desc := "(I)I" } : Jvm.MethodName) prog_1_method_7_code (2 : Nat) (Option.some Jvm.ClassFile.FieldType.int)) ∈ lw_all := lw_g (lw_at lw_m0 98 rfl) rfl
theorem q116 : (Jvm.Cond.instanceMethod ({ cls := "TermSecrets", name := "known", desc := "()I" } : Jvm.MethodName)) ∈ lw_all := lw_g (lw_at lw_m0 100 rfl) rfl
theorem q117 : (Jvm.Cond.selects "TermSecrets" ({ cls := "TermSecrets", name := "known", desc := "()I" } : Jvm.MethodName) ({ cls := "TermSecrets", name := "known", desc := "()I" } : Jvm.MethodName)) ∈ lw_all := lw_g (lw_at lw_m0 101 rfl) rfl
theorem q118 : (Jvm.Cond.code ({ cls := "TermSecrets", name := "known", desc := "()I" } : Jvm.MethodName) prog_1_method_8_code (1 : Nat) (Option.some Jvm.ClassFile.FieldType.int)) ∈ lw_all := lw_g (lw_at lw_m0 102 rfl) rfl
theorem q120 : (Jvm.Cond.instanceMethod ({ cls := "TermSecrets", name := "would", desc := "(II)I" } : Jvm.MethodName)) ∈ lw_all := lw_g (lw_at lw_m0 104 rfl) rfl
theorem q121 : (Jvm.Cond.selects "TermSecrets" ({ cls := "TermSecrets", name := "would", desc := "(II)I" } : Jvm.MethodName) ({ cls := "TermSecrets", name := "would", desc := "(II)I" } : Jvm.MethodName)) ∈ lw_all := lw_g (lw_at lw_m0 105 rfl) rfl
theorem q122 : (Jvm.Cond.code ({ cls := "TermSecrets", name := "would", desc := "(II)I" } : Jvm.MethodName) prog_1_method_9_code (3 : Nat) (Option.some Jvm.ClassFile.FieldType.int)) ∈ lw_all := lw_g (lw_at lw_m0 106 rfl) rfl
theorem q123 : (Jvm.Cond.methodLink "TermSecrets" (60 : Nat) ({ cls := "TermSecrets", name := "reveals", desc := "(II)Z" } : Jvm.MethodName)) ∈ lw_all := lw_g (lw_at lw_m0 107 rfl) rfl
theorem q124 : (Jvm.Cond.privateMethod ({ cls := "TermSecrets", name := "reveals", desc := "(II)Z" } : Jvm.MethodName)) ∈ lw_tbl := lw_at lw_m0 108 rfl
theorem q125 : (Jvm.Cond.instanceMethod ({ cls := "TermSecrets", name := "reveals", desc := "(II)Z" } : Jvm.MethodName)) ∈ lw_all := lw_g (lw_at lw_m0 109 rfl) rfl
theorem q126 : (Jvm.Cond.code ({ cls := "TermSecrets", name := "reveals", desc := "(II)Z" } : Jvm.MethodName) prog_1_method_16_code (5 : Nat) (Option.some Jvm.ClassFile.FieldType.boolean)) ∈ lw_all := lw_g (lw_at lw_m0 110 rfl) rfl
theorem q128 : (Jvm.Cond.instanceMethod ({ cls := "TermSecrets", name := "leak", desc := "(I)I" } : Jvm.MethodName)) ∈ lw_all := lw_g (lw_at lw_m0 112 rfl) rfl
theorem q129 : (Jvm.Cond.selects "TermSecrets" ({ cls := "TermSecrets", name := "leak", desc := "(I)I" } : Jvm.MethodName) ({ cls := "TermSecrets", name := "leak", desc := "(I)I" } : Jvm.MethodName)) ∈ lw_all := lw_g (lw_at lw_m0 113 rfl) rfl
theorem q130 : (Jvm.Cond.code ({ cls := "TermSecrets", name := "leak", desc := "(I)I" } : Jvm.MethodName) prog_1_method_10_code (3 : Nat) (Option.some Jvm.ClassFile.FieldType.int)) ∈ lw_all := lw_g (lw_at lw_m0 114 rfl) rfl
theorem q132 : (Jvm.Cond.instanceMethod ({ cls := "TermSecrets", name := "atomsFor", desc := "(I)I" } : Jvm.MethodName)) ∈ lw_all := lw_g (lw_at lw_m0 116 rfl) rfl
theorem q133 : (Jvm.Cond.selects "TermSecrets" ({ cls := "TermSecrets", name := "atomsFor", desc := "(I)I" } : Jvm.MethodName) ({ cls := "TermSecrets", name := "atomsFor", desc := "(I)I" } : Jvm.MethodName)) ∈ lw_all := lw_g (lw_at lw_m0 117 rfl) rfl
theorem q134 : (Jvm.Cond.code ({ cls := "TermSecrets", name := "atomsFor", desc := "(I)I" } : Jvm.MethodName) prog_1_method_11_code (5 : Nat) (Option.some Jvm.ClassFile.FieldType.int)) ∈ lw_all := lw_g (lw_at lw_m0 118 rfl) rfl
theorem q136 : (Jvm.Cond.instanceMethod ({ cls := "TermSecrets", name := "spare", desc := "()I" } : Jvm.MethodName)) ∈ lw_all := lw_g (lw_at lw_m0 120 rfl) rfl
theorem q137 : (Jvm.Cond.selects "TermSecrets" ({ cls := "TermSecrets", name := "spare", desc := "()I" } : Jvm.MethodName) ({ cls := "TermSecrets", name := "spare", desc := "()I" } : Jvm.MethodName)) ∈ lw_all := lw_g (lw_at lw_m0 121 rfl) rfl
theorem q138 : (Jvm.Cond.code ({ cls := "TermSecrets", name := "spare", desc := "()I" } : Jvm.MethodName) prog_1_method_12_code (5 : Nat) (Option.some Jvm.ClassFile.FieldType.int)) ∈ lw_all := lw_g (lw_at lw_m0 122 rfl) rfl
theorem in_X0 : ∀ w ∈ wsX00, w ∈ lw_all := lw_in wsX00 [36, 38, 40, 42, 44, 46, 48, 50, 52] (by decide +kernel) (by decide +kernel)

/-! java/lang/Object -/
set_option maxRecDepth 100000
def RJ0 : String := "java/lang/Object"
abbrev cJ0_init : ByteArray := object_method_1_code
def yJ0_init : MethodName := ⟨RJ0, "<init>", "()V"⟩
theorem dJ0_init_0 : decode cJ0_init 0 = .ok (.return_, 1) := by decide +kernel
theorem q25 : (Jvm.Cond.instanceMethod ({ cls := "java/lang/Object", name := "<init>", desc := "()V" } : Jvm.MethodName)) ∈ lw_all := lw_g (lw_at lw_m0 9 rfl) rfl
theorem q26 : (Jvm.Cond.code ({ cls := "java/lang/Object", name := "<init>", desc := "()V" } : Jvm.MethodName) object_method_1_code (1 : Nat) (Option.none : Option Jvm.ClassFile.FieldType)) ∈ lw_all := lw_g (lw_at lw_m0 10 rfl) rfl
theorem q55 : (Jvm.Cond.arrayClass Jvm.ClassFile.FieldType.int) ∈ lw_all := lw_g (lw_at lw_m0 39 rfl) rfl
set_option maxRecDepth 100000
theorem q167 : (Jvm.Cond.arrayClass Jvm.ClassFile.FieldType.boolean) ∈ lw_all := lw_g (lw_at lw_m0 151 rfl) rfl
end
section
/-! TermSecretsModel -/
set_option maxRecDepth 100000
def RX1 : String := "TermSecretsModel"
def TX1 : u_T := fun k => match k with
  | 0 => ("TermSecretsModel", "terms", "I", false)
  | 1 => ("TermSecretsModel", "sorts", "[I", true)
  | 2 => ("TermSecretsModel", "firsts", "[I", true)
  | 3 => ("TermSecretsModel", "seconds", "[I", true)
  | 4 => ("TermSecretsModel", "heard", "[Z", true)
  | 5 => ("TermSecretsModel", "known", "[Z", true)
  | _ => ("TermSecretsModel", "changed", "Z", false)
def tyX1 : Nat → FieldType := fun k => match k with
  | 0 => .int
  | 1 => .array .int
  | 2 => .array .int
  | 3 => .array .int
  | 4 => .array .boolean
  | 5 => .array .boolean
  | _ => .boolean
abbrev wsX10 : List Cond := u_ws RX1 TX1 7
theorem nmX1 : ∀ a, a < 7 → ∀ b, b < 7 → a ≠ b → (TX1 a).2.1 ≠ (TX1 b).2.1 := by decide +kernel
theorem tyX1_ok : ∀ k, k < 7 → parseFieldDescriptor (TX1 k).2.2.1 = some (tyX1 k) := by decide +kernel
abbrev cX1_init : ByteArray := prog_3_method_1_code
def yX1_init : MethodName := ⟨RX1, "<init>", "()V"⟩
theorem dX1_init_0 : decode cX1_init 0 = .ok (.aload_n 0, 1) := by decide +kernel
theorem dX1_init_1 : decode cX1_init 1 = .ok (.invokespecial 1, 3) := by decide +kernel
theorem dX1_init_4 : decode cX1_init 4 = .ok (.aload_n 0, 1) := by decide +kernel
theorem dX1_init_5 : decode cX1_init 5 = .ok (.bipush 8, 2) := by decide +kernel
theorem dX1_init_7 : decode cX1_init 7 = .ok (.putfield 7, 3) := by decide +kernel
theorem dX1_init_10 : decode cX1_init 10 = .ok (.aload_n 0, 1) := by decide +kernel
theorem dX1_init_11 : decode cX1_init 11 = .ok (.bipush 28, 2) := by decide +kernel
theorem dX1_init_13 : decode cX1_init 13 = .ok (.newarray .int, 2) := by decide +kernel
theorem dX1_init_15 : decode cX1_init 15 = .ok (.putfield 13, 3) := by decide +kernel
theorem dX1_init_18 : decode cX1_init 18 = .ok (.aload_n 0, 1) := by decide +kernel
theorem dX1_init_19 : decode cX1_init 19 = .ok (.bipush 28, 2) := by decide +kernel
theorem dX1_init_21 : decode cX1_init 21 = .ok (.newarray .int, 2) := by decide +kernel
theorem dX1_init_23 : decode cX1_init 23 = .ok (.putfield 17, 3) := by decide +kernel
theorem dX1_init_26 : decode cX1_init 26 = .ok (.aload_n 0, 1) := by decide +kernel
theorem dX1_init_27 : decode cX1_init 27 = .ok (.bipush 28, 2) := by decide +kernel
theorem dX1_init_29 : decode cX1_init 29 = .ok (.newarray .int, 2) := by decide +kernel
theorem dX1_init_31 : decode cX1_init 31 = .ok (.putfield 20, 3) := by decide +kernel
theorem dX1_init_34 : decode cX1_init 34 = .ok (.aload_n 0, 1) := by decide +kernel
theorem dX1_init_35 : decode cX1_init 35 = .ok (.bipush 28, 2) := by decide +kernel
theorem dX1_init_37 : decode cX1_init 37 = .ok (.newarray .boolean, 2) := by decide +kernel
theorem dX1_init_39 : decode cX1_init 39 = .ok (.putfield 23, 3) := by decide +kernel
theorem dX1_init_42 : decode cX1_init 42 = .ok (.aload_n 0, 1) := by decide +kernel
theorem dX1_init_43 : decode cX1_init 43 = .ok (.bipush 28, 2) := by decide +kernel
theorem dX1_init_45 : decode cX1_init 45 = .ok (.newarray .boolean, 2) := by decide +kernel
theorem dX1_init_47 : decode cX1_init 47 = .ok (.putfield 27, 3) := by decide +kernel
theorem dX1_init_50 : decode cX1_init 50 = .ok (.return_, 1) := by decide +kernel
abbrev cX1_pair : ByteArray := prog_3_method_4_code
def yX1_pair : MethodName := ⟨RX1, "pair", "(II)I"⟩
theorem dX1_pair_0 : decode cX1_pair 0 = .ok (.aload_n 0, 1) := by decide +kernel
theorem dX1_pair_1 : decode cX1_pair 1 = .ok (.iconst 1, 1) := by decide +kernel
theorem dX1_pair_2 : decode cX1_pair 2 = .ok (.iload_n 1, 1) := by decide +kernel
theorem dX1_pair_3 : decode cX1_pair 3 = .ok (.iload_n 2, 1) := by decide +kernel
theorem dX1_pair_4 : decode cX1_pair 4 = .ok (.invokevirtual 34, 3) := by decide +kernel
theorem dX1_pair_7 : decode cX1_pair 7 = .ok (.ireturn, 1) := by decide +kernel
abbrev cX1_make : ByteArray := prog_3_method_3_code
def yX1_make : MethodName := ⟨RX1, "make", "(III)I"⟩
theorem dX1_make_0 : decode cX1_make 0 = .ok (.aload_n 0, 1) := by decide +kernel
theorem dX1_make_1 : decode cX1_make 1 = .ok (.iload_n 2, 1) := by decide +kernel
theorem dX1_make_2 : decode cX1_make 2 = .ok (.invokevirtual 30, 3) := by decide +kernel
theorem dX1_make_5 : decode cX1_make 5 = .ok (.ifCond .ne 11, 3) := by decide +kernel
theorem dX1_make_8 : decode cX1_make 8 = .ok (.aload_n 0, 1) := by decide +kernel
theorem dX1_make_9 : decode cX1_make 9 = .ok (.iload_n 3, 1) := by decide +kernel
theorem dX1_make_10 : decode cX1_make 10 = .ok (.invokevirtual 30, 3) := by decide +kernel
theorem dX1_make_13 : decode cX1_make 13 = .ok (.ifCond .eq 5, 3) := by decide +kernel
theorem dX1_make_16 : decode cX1_make 16 = .ok (.iconst (-1), 1) := by decide +kernel
theorem dX1_make_17 : decode cX1_make 17 = .ok (.ireturn, 1) := by decide +kernel
theorem dX1_make_18 : decode cX1_make 18 = .ok (.bipush 8, 2) := by decide +kernel
theorem dX1_make_20 : decode cX1_make 20 = .ok (.istore 4, 2) := by decide +kernel
theorem dX1_make_22 : decode cX1_make 22 = .ok (.iload 4, 2) := by decide +kernel
theorem dX1_make_24 : decode cX1_make 24 = .ok (.aload_n 0, 1) := by decide +kernel
theorem dX1_make_25 : decode cX1_make 25 = .ok (.getfield 7, 3) := by decide +kernel
theorem dX1_make_28 : decode cX1_make 28 = .ok (.if_icmp .ge 45, 3) := by decide +kernel
theorem dX1_make_31 : decode cX1_make 31 = .ok (.aload_n 0, 1) := by decide +kernel
theorem dX1_make_32 : decode cX1_make 32 = .ok (.getfield 13, 3) := by decide +kernel
theorem dX1_make_35 : decode cX1_make 35 = .ok (.iload 4, 2) := by decide +kernel
theorem dX1_make_37 : decode cX1_make 37 = .ok (.iaload, 1) := by decide +kernel
theorem dX1_make_38 : decode cX1_make 38 = .ok (.iload_n 1, 1) := by decide +kernel
theorem dX1_make_39 : decode cX1_make 39 = .ok (.if_icmp .ne 28, 3) := by decide +kernel
theorem dX1_make_42 : decode cX1_make 42 = .ok (.aload_n 0, 1) := by decide +kernel
theorem dX1_make_43 : decode cX1_make 43 = .ok (.getfield 17, 3) := by decide +kernel
theorem dX1_make_46 : decode cX1_make 46 = .ok (.iload 4, 2) := by decide +kernel
theorem dX1_make_48 : decode cX1_make 48 = .ok (.iaload, 1) := by decide +kernel
theorem dX1_make_49 : decode cX1_make 49 = .ok (.iload_n 2, 1) := by decide +kernel
theorem dX1_make_50 : decode cX1_make 50 = .ok (.if_icmp .ne 17, 3) := by decide +kernel
theorem dX1_make_53 : decode cX1_make 53 = .ok (.aload_n 0, 1) := by decide +kernel
theorem dX1_make_54 : decode cX1_make 54 = .ok (.getfield 20, 3) := by decide +kernel
theorem dX1_make_57 : decode cX1_make 57 = .ok (.iload 4, 2) := by decide +kernel
theorem dX1_make_59 : decode cX1_make 59 = .ok (.iaload, 1) := by decide +kernel
theorem dX1_make_60 : decode cX1_make 60 = .ok (.iload_n 3, 1) := by decide +kernel
theorem dX1_make_61 : decode cX1_make 61 = .ok (.if_icmp .ne 6, 3) := by decide +kernel
theorem dX1_make_64 : decode cX1_make 64 = .ok (.iload 4, 2) := by decide +kernel
theorem dX1_make_66 : decode cX1_make 66 = .ok (.ireturn, 1) := by decide +kernel
theorem dX1_make_67 : decode cX1_make 67 = .ok (.iinc 4 1, 3) := by decide +kernel
theorem dX1_make_70 : decode cX1_make 70 = .ok (.goto (-48), 3) := by decide +kernel
theorem dX1_make_73 : decode cX1_make 73 = .ok (.aload_n 0, 1) := by decide +kernel
theorem dX1_make_74 : decode cX1_make 74 = .ok (.getfield 7, 3) := by decide +kernel
theorem dX1_make_77 : decode cX1_make 77 = .ok (.bipush 28, 2) := by decide +kernel
theorem dX1_make_79 : decode cX1_make 79 = .ok (.if_icmp .ne 5, 3) := by decide +kernel
theorem dX1_make_82 : decode cX1_make 82 = .ok (.iconst (-1), 1) := by decide +kernel
theorem dX1_make_83 : decode cX1_make 83 = .ok (.ireturn, 1) := by decide +kernel
theorem dX1_make_84 : decode cX1_make 84 = .ok (.aload_n 0, 1) := by decide +kernel
theorem dX1_make_85 : decode cX1_make 85 = .ok (.getfield 13, 3) := by decide +kernel
theorem dX1_make_88 : decode cX1_make 88 = .ok (.aload_n 0, 1) := by decide +kernel
theorem dX1_make_89 : decode cX1_make 89 = .ok (.getfield 7, 3) := by decide +kernel
theorem dX1_make_92 : decode cX1_make 92 = .ok (.iload_n 1, 1) := by decide +kernel
theorem dX1_make_93 : decode cX1_make 93 = .ok (.iastore, 1) := by decide +kernel
theorem dX1_make_94 : decode cX1_make 94 = .ok (.aload_n 0, 1) := by decide +kernel
theorem dX1_make_95 : decode cX1_make 95 = .ok (.getfield 17, 3) := by decide +kernel
theorem dX1_make_98 : decode cX1_make 98 = .ok (.aload_n 0, 1) := by decide +kernel
theorem dX1_make_99 : decode cX1_make 99 = .ok (.getfield 7, 3) := by decide +kernel
theorem dX1_make_102 : decode cX1_make 102 = .ok (.iload_n 2, 1) := by decide +kernel
theorem dX1_make_103 : decode cX1_make 103 = .ok (.iastore, 1) := by decide +kernel
theorem dX1_make_104 : decode cX1_make 104 = .ok (.aload_n 0, 1) := by decide +kernel
theorem dX1_make_105 : decode cX1_make 105 = .ok (.getfield 20, 3) := by decide +kernel
theorem dX1_make_108 : decode cX1_make 108 = .ok (.aload_n 0, 1) := by decide +kernel
theorem dX1_make_109 : decode cX1_make 109 = .ok (.getfield 7, 3) := by decide +kernel
theorem dX1_make_112 : decode cX1_make 112 = .ok (.iload_n 3, 1) := by decide +kernel
theorem dX1_make_113 : decode cX1_make 113 = .ok (.iastore, 1) := by decide +kernel
theorem dX1_make_114 : decode cX1_make 114 = .ok (.aload_n 0, 1) := by decide +kernel
theorem dX1_make_115 : decode cX1_make 115 = .ok (.dup, 1) := by decide +kernel
theorem dX1_make_116 : decode cX1_make 116 = .ok (.getfield 7, 3) := by decide +kernel
theorem dX1_make_119 : decode cX1_make 119 = .ok (.iconst 1, 1) := by decide +kernel
theorem dX1_make_120 : decode cX1_make 120 = .ok (.iadd, 1) := by decide +kernel
theorem dX1_make_121 : decode cX1_make 121 = .ok (.putfield 7, 3) := by decide +kernel
theorem dX1_make_124 : decode cX1_make 124 = .ok (.aload_n 0, 1) := by decide +kernel
theorem dX1_make_125 : decode cX1_make 125 = .ok (.getfield 7, 3) := by decide +kernel
theorem dX1_make_128 : decode cX1_make 128 = .ok (.iconst 1, 1) := by decide +kernel
theorem dX1_make_129 : decode cX1_make 129 = .ok (.isub, 1) := by decide +kernel
theorem dX1_make_130 : decode cX1_make 130 = .ok (.ireturn, 1) := by decide +kernel
abbrev cX1_bad : ByteArray := prog_3_method_2_code
def yX1_bad : MethodName := ⟨RX1, "bad", "(I)Z"⟩
theorem dX1_bad_0 : decode cX1_bad 0 = .ok (.iload_n 1, 1) := by decide +kernel
theorem dX1_bad_1 : decode cX1_bad 1 = .ok (.ifCond .lt 11, 3) := by decide +kernel
theorem dX1_bad_4 : decode cX1_bad 4 = .ok (.iload_n 1, 1) := by decide +kernel
theorem dX1_bad_5 : decode cX1_bad 5 = .ok (.aload_n 0, 1) := by decide +kernel
theorem dX1_bad_6 : decode cX1_bad 6 = .ok (.getfield 7, 3) := by decide +kernel
theorem dX1_bad_9 : decode cX1_bad 9 = .ok (.if_icmp .lt 7, 3) := by decide +kernel
theorem dX1_bad_12 : decode cX1_bad 12 = .ok (.iconst 1, 1) := by decide +kernel
theorem dX1_bad_13 : decode cX1_bad 13 = .ok (.goto 4, 3) := by decide +kernel
theorem dX1_bad_16 : decode cX1_bad 16 = .ok (.iconst 0, 1) := by decide +kernel
theorem dX1_bad_17 : decode cX1_bad 17 = .ok (.ireturn, 1) := by decide +kernel
abbrev cX1_lock : ByteArray := prog_3_method_5_code
def yX1_lock : MethodName := ⟨RX1, "lock", "(II)I"⟩
theorem dX1_lock_0 : decode cX1_lock 0 = .ok (.aload_n 0, 1) := by decide +kernel
theorem dX1_lock_1 : decode cX1_lock 1 = .ok (.iconst 2, 1) := by decide +kernel
theorem dX1_lock_2 : decode cX1_lock 2 = .ok (.iload_n 1, 1) := by decide +kernel
theorem dX1_lock_3 : decode cX1_lock 3 = .ok (.iload_n 2, 1) := by decide +kernel
theorem dX1_lock_4 : decode cX1_lock 4 = .ok (.invokevirtual 34, 3) := by decide +kernel
theorem dX1_lock_7 : decode cX1_lock 7 = .ok (.ireturn, 1) := by decide +kernel
abbrev cX1_hear : ByteArray := prog_3_method_10_code
def yX1_hear : MethodName := ⟨RX1, "hear", "(I)I"⟩
theorem dX1_hear_0 : decode cX1_hear 0 = .ok (.aload_n 0, 1) := by decide +kernel
theorem dX1_hear_1 : decode cX1_hear 1 = .ok (.iload_n 1, 1) := by decide +kernel
theorem dX1_hear_2 : decode cX1_hear 2 = .ok (.invokevirtual 30, 3) := by decide +kernel
theorem dX1_hear_5 : decode cX1_hear 5 = .ok (.ifCond .eq 5, 3) := by decide +kernel
theorem dX1_hear_8 : decode cX1_hear 8 = .ok (.iconst (-1), 1) := by decide +kernel
theorem dX1_hear_9 : decode cX1_hear 9 = .ok (.ireturn, 1) := by decide +kernel
theorem dX1_hear_10 : decode cX1_hear 10 = .ok (.aload_n 0, 1) := by decide +kernel
theorem dX1_hear_11 : decode cX1_hear 11 = .ok (.getfield 23, 3) := by decide +kernel
theorem dX1_hear_14 : decode cX1_hear 14 = .ok (.iload_n 1, 1) := by decide +kernel
theorem dX1_hear_15 : decode cX1_hear 15 = .ok (.iconst 1, 1) := by decide +kernel
theorem dX1_hear_16 : decode cX1_hear 16 = .ok (.bastore, 1) := by decide +kernel
theorem dX1_hear_17 : decode cX1_hear 17 = .ok (.aload_n 0, 1) := by decide +kernel
theorem dX1_hear_18 : decode cX1_hear 18 = .ok (.invokevirtual 49, 3) := by decide +kernel
theorem dX1_hear_21 : decode cX1_hear 21 = .ok (.ireturn, 1) := by decide +kernel
abbrev cX1_known : ByteArray := prog_3_method_13_code
def yX1_known : MethodName := ⟨RX1, "known", "()I"⟩
theorem dX1_known_0 : decode cX1_known 0 = .ok (.aload_n 0, 1) := by decide +kernel
theorem dX1_known_1 : decode cX1_known 1 = .ok (.iconst (-1), 1) := by decide +kernel
theorem dX1_known_2 : decode cX1_known 2 = .ok (.iconst 0, 1) := by decide +kernel
theorem dX1_known_3 : decode cX1_known 3 = .ok (.iconst (-1), 1) := by decide +kernel
theorem dX1_known_4 : decode cX1_known 4 = .ok (.invokevirtual 52, 3) := by decide +kernel
theorem dX1_known_7 : decode cX1_known 7 = .ok (.aload_n 0, 1) := by decide +kernel
theorem dX1_known_8 : decode cX1_known 8 = .ok (.invokevirtual 56, 3) := by decide +kernel
theorem dX1_known_11 : decode cX1_known 11 = .ok (.ireturn, 1) := by decide +kernel
abbrev cX1_work : ByteArray := prog_3_method_8_code
def yX1_work : MethodName := ⟨RX1, "work", "(III)V"⟩
theorem dX1_work_0 : decode cX1_work 0 = .ok (.iconst 0, 1) := by decide +kernel
theorem dX1_work_1 : decode cX1_work 1 = .ok (.istore 4, 2) := by decide +kernel
theorem dX1_work_3 : decode cX1_work 3 = .ok (.iload 4, 2) := by decide +kernel
theorem dX1_work_5 : decode cX1_work 5 = .ok (.bipush 28, 2) := by decide +kernel
theorem dX1_work_7 : decode cX1_work 7 = .ok (.if_icmp .ge 60, 3) := by decide +kernel
theorem dX1_work_10 : decode cX1_work 10 = .ok (.aload_n 0, 1) := by decide +kernel
theorem dX1_work_11 : decode cX1_work 11 = .ok (.getfield 27, 3) := by decide +kernel
theorem dX1_work_14 : decode cX1_work 14 = .ok (.iload 4, 2) := by decide +kernel
theorem dX1_work_16 : decode cX1_work 16 = .ok (.aload_n 0, 1) := by decide +kernel
theorem dX1_work_17 : decode cX1_work 17 = .ok (.getfield 23, 3) := by decide +kernel
theorem dX1_work_20 : decode cX1_work 20 = .ok (.iload 4, 2) := by decide +kernel
theorem dX1_work_22 : decode cX1_work 22 = .ok (.baload, 1) := by decide +kernel
theorem dX1_work_23 : decode cX1_work 23 = .ok (.ifCond .eq 9, 3) := by decide +kernel
theorem dX1_work_26 : decode cX1_work 26 = .ok (.iload 4, 2) := by decide +kernel
theorem dX1_work_28 : decode cX1_work 28 = .ok (.iload_n 3, 1) := by decide +kernel
theorem dX1_work_29 : decode cX1_work 29 = .ok (.if_icmp .ne 26, 3) := by decide +kernel
theorem dX1_work_32 : decode cX1_work 32 = .ok (.iload 4, 2) := by decide +kernel
theorem dX1_work_34 : decode cX1_work 34 = .ok (.iload_n 1, 1) := by decide +kernel
theorem dX1_work_35 : decode cX1_work 35 = .ok (.if_icmp .eq 20, 3) := by decide +kernel
theorem dX1_work_38 : decode cX1_work 38 = .ok (.iload 4, 2) := by decide +kernel
theorem dX1_work_40 : decode cX1_work 40 = .ok (.bipush 8, 2) := by decide +kernel
theorem dX1_work_42 : decode cX1_work 42 = .ok (.if_icmp .ge 17, 3) := by decide +kernel
theorem dX1_work_45 : decode cX1_work 45 = .ok (.iload_n 2, 1) := by decide +kernel
theorem dX1_work_46 : decode cX1_work 46 = .ok (.iload 4, 2) := by decide +kernel
theorem dX1_work_48 : decode cX1_work 48 = .ok (.ishr, 1) := by decide +kernel
theorem dX1_work_49 : decode cX1_work 49 = .ok (.iconst 1, 1) := by decide +kernel
theorem dX1_work_50 : decode cX1_work 50 = .ok (.iand, 1) := by decide +kernel
theorem dX1_work_51 : decode cX1_work 51 = .ok (.iconst 1, 1) := by decide +kernel
theorem dX1_work_52 : decode cX1_work 52 = .ok (.if_icmp .ne 7, 3) := by decide +kernel
theorem dX1_work_55 : decode cX1_work 55 = .ok (.iconst 1, 1) := by decide +kernel
theorem dX1_work_56 : decode cX1_work 56 = .ok (.goto 4, 3) := by decide +kernel
theorem dX1_work_59 : decode cX1_work 59 = .ok (.iconst 0, 1) := by decide +kernel
theorem dX1_work_60 : decode cX1_work 60 = .ok (.bastore, 1) := by decide +kernel
theorem dX1_work_61 : decode cX1_work 61 = .ok (.iinc 4 1, 3) := by decide +kernel
theorem dX1_work_64 : decode cX1_work 64 = .ok (.goto (-61), 3) := by decide +kernel
theorem dX1_work_67 : decode cX1_work 67 = .ok (.aload_n 0, 1) := by decide +kernel
theorem dX1_work_68 : decode cX1_work 68 = .ok (.iconst 1, 1) := by decide +kernel
theorem dX1_work_69 : decode cX1_work 69 = .ok (.putfield 38, 3) := by decide +kernel
theorem dX1_work_72 : decode cX1_work 72 = .ok (.iconst 0, 1) := by decide +kernel
theorem dX1_work_73 : decode cX1_work 73 = .ok (.istore 4, 2) := by decide +kernel
theorem dX1_work_75 : decode cX1_work 75 = .ok (.iload 4, 2) := by decide +kernel
theorem dX1_work_77 : decode cX1_work 77 = .ok (.bipush 30, 2) := by decide +kernel
theorem dX1_work_79 : decode cX1_work 79 = .ok (.if_icmp .ge 45, 3) := by decide +kernel
theorem dX1_work_82 : decode cX1_work 82 = .ok (.aload_n 0, 1) := by decide +kernel
theorem dX1_work_83 : decode cX1_work 83 = .ok (.getfield 38, 3) := by decide +kernel
theorem dX1_work_86 : decode cX1_work 86 = .ok (.ifCond .eq 38, 3) := by decide +kernel
theorem dX1_work_89 : decode cX1_work 89 = .ok (.aload_n 0, 1) := by decide +kernel
theorem dX1_work_90 : decode cX1_work 90 = .ok (.iconst 0, 1) := by decide +kernel
theorem dX1_work_91 : decode cX1_work 91 = .ok (.putfield 38, 3) := by decide +kernel
theorem dX1_work_94 : decode cX1_work 94 = .ok (.iconst 0, 1) := by decide +kernel
theorem dX1_work_95 : decode cX1_work 95 = .ok (.istore 5, 2) := by decide +kernel
theorem dX1_work_97 : decode cX1_work 97 = .ok (.iload 5, 2) := by decide +kernel
theorem dX1_work_99 : decode cX1_work 99 = .ok (.aload_n 0, 1) := by decide +kernel
theorem dX1_work_100 : decode cX1_work 100 = .ok (.getfield 7, 3) := by decide +kernel
theorem dX1_work_103 : decode cX1_work 103 = .ok (.if_icmp .ge 15, 3) := by decide +kernel
theorem dX1_work_106 : decode cX1_work 106 = .ok (.aload_n 0, 1) := by decide +kernel
theorem dX1_work_107 : decode cX1_work 107 = .ok (.iload 5, 2) := by decide +kernel
theorem dX1_work_109 : decode cX1_work 109 = .ok (.invokevirtual 46, 3) := by decide +kernel
theorem dX1_work_112 : decode cX1_work 112 = .ok (.iinc 5 1, 3) := by decide +kernel
theorem dX1_work_115 : decode cX1_work 115 = .ok (.goto (-18), 3) := by decide +kernel
theorem dX1_work_118 : decode cX1_work 118 = .ok (.iinc 4 1, 3) := by decide +kernel
theorem dX1_work_121 : decode cX1_work 121 = .ok (.goto (-46), 3) := by decide +kernel
theorem dX1_work_124 : decode cX1_work 124 = .ok (.return_, 1) := by decide +kernel
abbrev cX1_apply : ByteArray := prog_3_method_7_code
def yX1_apply : MethodName := ⟨RX1, "apply", "(I)V"⟩
theorem dX1_apply_0 : decode cX1_apply 0 = .ok (.aload_n 0, 1) := by decide +kernel
theorem dX1_apply_1 : decode cX1_apply 1 = .ok (.getfield 17, 3) := by decide +kernel
theorem dX1_apply_4 : decode cX1_apply 4 = .ok (.iload_n 1, 1) := by decide +kernel
theorem dX1_apply_5 : decode cX1_apply 5 = .ok (.iaload, 1) := by decide +kernel
theorem dX1_apply_6 : decode cX1_apply 6 = .ok (.istore_n 2, 1) := by decide +kernel
theorem dX1_apply_7 : decode cX1_apply 7 = .ok (.aload_n 0, 1) := by decide +kernel
theorem dX1_apply_8 : decode cX1_apply 8 = .ok (.getfield 20, 3) := by decide +kernel
theorem dX1_apply_11 : decode cX1_apply 11 = .ok (.iload_n 1, 1) := by decide +kernel
theorem dX1_apply_12 : decode cX1_apply 12 = .ok (.iaload, 1) := by decide +kernel
theorem dX1_apply_13 : decode cX1_apply 13 = .ok (.istore_n 3, 1) := by decide +kernel
theorem dX1_apply_14 : decode cX1_apply 14 = .ok (.aload_n 0, 1) := by decide +kernel
theorem dX1_apply_15 : decode cX1_apply 15 = .ok (.getfield 13, 3) := by decide +kernel
theorem dX1_apply_18 : decode cX1_apply 18 = .ok (.iload_n 1, 1) := by decide +kernel
theorem dX1_apply_19 : decode cX1_apply 19 = .ok (.iaload, 1) := by decide +kernel
theorem dX1_apply_20 : decode cX1_apply 20 = .ok (.iconst 1, 1) := by decide +kernel
theorem dX1_apply_21 : decode cX1_apply 21 = .ok (.if_icmp .ne 22, 3) := by decide +kernel
theorem dX1_apply_24 : decode cX1_apply 24 = .ok (.aload_n 0, 1) := by decide +kernel
theorem dX1_apply_25 : decode cX1_apply 25 = .ok (.getfield 27, 3) := by decide +kernel
theorem dX1_apply_28 : decode cX1_apply 28 = .ok (.iload_n 1, 1) := by decide +kernel
theorem dX1_apply_29 : decode cX1_apply 29 = .ok (.baload, 1) := by decide +kernel
theorem dX1_apply_30 : decode cX1_apply 30 = .ok (.ifCond .eq 13, 3) := by decide +kernel
theorem dX1_apply_33 : decode cX1_apply 33 = .ok (.aload_n 0, 1) := by decide +kernel
theorem dX1_apply_34 : decode cX1_apply 34 = .ok (.iload_n 2, 1) := by decide +kernel
theorem dX1_apply_35 : decode cX1_apply 35 = .ok (.invokevirtual 42, 3) := by decide +kernel
theorem dX1_apply_38 : decode cX1_apply 38 = .ok (.aload_n 0, 1) := by decide +kernel
theorem dX1_apply_39 : decode cX1_apply 39 = .ok (.iload_n 3, 1) := by decide +kernel
theorem dX1_apply_40 : decode cX1_apply 40 = .ok (.invokevirtual 42, 3) := by decide +kernel
theorem dX1_apply_43 : decode cX1_apply 43 = .ok (.aload_n 0, 1) := by decide +kernel
theorem dX1_apply_44 : decode cX1_apply 44 = .ok (.getfield 13, 3) := by decide +kernel
theorem dX1_apply_47 : decode cX1_apply 47 = .ok (.iload_n 1, 1) := by decide +kernel
theorem dX1_apply_48 : decode cX1_apply 48 = .ok (.iaload, 1) := by decide +kernel
theorem dX1_apply_49 : decode cX1_apply 49 = .ok (.iconst 2, 1) := by decide +kernel
theorem dX1_apply_50 : decode cX1_apply 50 = .ok (.if_icmp .ne 26, 3) := by decide +kernel
theorem dX1_apply_53 : decode cX1_apply 53 = .ok (.aload_n 0, 1) := by decide +kernel
theorem dX1_apply_54 : decode cX1_apply 54 = .ok (.getfield 27, 3) := by decide +kernel
theorem dX1_apply_57 : decode cX1_apply 57 = .ok (.iload_n 1, 1) := by decide +kernel
theorem dX1_apply_58 : decode cX1_apply 58 = .ok (.baload, 1) := by decide +kernel
theorem dX1_apply_59 : decode cX1_apply 59 = .ok (.ifCond .eq 17, 3) := by decide +kernel
theorem dX1_apply_62 : decode cX1_apply 62 = .ok (.aload_n 0, 1) := by decide +kernel
theorem dX1_apply_63 : decode cX1_apply 63 = .ok (.getfield 27, 3) := by decide +kernel
theorem dX1_apply_66 : decode cX1_apply 66 = .ok (.iload_n 2, 1) := by decide +kernel
theorem dX1_apply_67 : decode cX1_apply 67 = .ok (.baload, 1) := by decide +kernel
theorem dX1_apply_68 : decode cX1_apply 68 = .ok (.ifCond .eq 8, 3) := by decide +kernel
theorem dX1_apply_71 : decode cX1_apply 71 = .ok (.aload_n 0, 1) := by decide +kernel
theorem dX1_apply_72 : decode cX1_apply 72 = .ok (.iload_n 3, 1) := by decide +kernel
theorem dX1_apply_73 : decode cX1_apply 73 = .ok (.invokevirtual 42, 3) := by decide +kernel
theorem dX1_apply_76 : decode cX1_apply 76 = .ok (.aload_n 0, 1) := by decide +kernel
theorem dX1_apply_77 : decode cX1_apply 77 = .ok (.getfield 13, 3) := by decide +kernel
theorem dX1_apply_80 : decode cX1_apply 80 = .ok (.iload_n 1, 1) := by decide +kernel
theorem dX1_apply_81 : decode cX1_apply 81 = .ok (.iaload, 1) := by decide +kernel
theorem dX1_apply_82 : decode cX1_apply 82 = .ok (.ifCond .le 26, 3) := by decide +kernel
theorem dX1_apply_85 : decode cX1_apply 85 = .ok (.aload_n 0, 1) := by decide +kernel
theorem dX1_apply_86 : decode cX1_apply 86 = .ok (.getfield 27, 3) := by decide +kernel
theorem dX1_apply_89 : decode cX1_apply 89 = .ok (.iload_n 2, 1) := by decide +kernel
theorem dX1_apply_90 : decode cX1_apply 90 = .ok (.baload, 1) := by decide +kernel
theorem dX1_apply_91 : decode cX1_apply 91 = .ok (.ifCond .eq 17, 3) := by decide +kernel
theorem dX1_apply_94 : decode cX1_apply 94 = .ok (.aload_n 0, 1) := by decide +kernel
theorem dX1_apply_95 : decode cX1_apply 95 = .ok (.getfield 27, 3) := by decide +kernel
theorem dX1_apply_98 : decode cX1_apply 98 = .ok (.iload_n 3, 1) := by decide +kernel
theorem dX1_apply_99 : decode cX1_apply 99 = .ok (.baload, 1) := by decide +kernel
theorem dX1_apply_100 : decode cX1_apply 100 = .ok (.ifCond .eq 8, 3) := by decide +kernel
theorem dX1_apply_103 : decode cX1_apply 103 = .ok (.aload_n 0, 1) := by decide +kernel
theorem dX1_apply_104 : decode cX1_apply 104 = .ok (.iload_n 1, 1) := by decide +kernel
theorem dX1_apply_105 : decode cX1_apply 105 = .ok (.invokevirtual 42, 3) := by decide +kernel
theorem dX1_apply_108 : decode cX1_apply 108 = .ok (.return_, 1) := by decide +kernel
abbrev cX1_learn : ByteArray := prog_3_method_6_code
def yX1_learn : MethodName := ⟨RX1, "learn", "(I)V"⟩
theorem dX1_learn_0 : decode cX1_learn 0 = .ok (.aload_n 0, 1) := by decide +kernel
theorem dX1_learn_1 : decode cX1_learn 1 = .ok (.getfield 27, 3) := by decide +kernel
theorem dX1_learn_4 : decode cX1_learn 4 = .ok (.iload_n 1, 1) := by decide +kernel
theorem dX1_learn_5 : decode cX1_learn 5 = .ok (.baload, 1) := by decide +kernel
theorem dX1_learn_6 : decode cX1_learn 6 = .ok (.ifCond .ne 8, 3) := by decide +kernel
theorem dX1_learn_9 : decode cX1_learn 9 = .ok (.aload_n 0, 1) := by decide +kernel
theorem dX1_learn_10 : decode cX1_learn 10 = .ok (.iconst 1, 1) := by decide +kernel
theorem dX1_learn_11 : decode cX1_learn 11 = .ok (.putfield 38, 3) := by decide +kernel
theorem dX1_learn_14 : decode cX1_learn 14 = .ok (.aload_n 0, 1) := by decide +kernel
theorem dX1_learn_15 : decode cX1_learn 15 = .ok (.getfield 27, 3) := by decide +kernel
theorem dX1_learn_18 : decode cX1_learn 18 = .ok (.iload_n 1, 1) := by decide +kernel
theorem dX1_learn_19 : decode cX1_learn 19 = .ok (.iconst 1, 1) := by decide +kernel
theorem dX1_learn_20 : decode cX1_learn 20 = .ok (.bastore, 1) := by decide +kernel
theorem dX1_learn_21 : decode cX1_learn 21 = .ok (.return_, 1) := by decide +kernel
abbrev cX1_count : ByteArray := prog_3_method_9_code
def yX1_count : MethodName := ⟨RX1, "count", "()I"⟩
theorem dX1_count_0 : decode cX1_count 0 = .ok (.iconst 0, 1) := by decide +kernel
theorem dX1_count_1 : decode cX1_count 1 = .ok (.istore_n 1, 1) := by decide +kernel
theorem dX1_count_2 : decode cX1_count 2 = .ok (.iconst 0, 1) := by decide +kernel
theorem dX1_count_3 : decode cX1_count 3 = .ok (.istore_n 2, 1) := by decide +kernel
theorem dX1_count_4 : decode cX1_count 4 = .ok (.iload_n 2, 1) := by decide +kernel
theorem dX1_count_5 : decode cX1_count 5 = .ok (.aload_n 0, 1) := by decide +kernel
theorem dX1_count_6 : decode cX1_count 6 = .ok (.getfield 7, 3) := by decide +kernel
theorem dX1_count_9 : decode cX1_count 9 = .ok (.if_icmp .ge 21, 3) := by decide +kernel
theorem dX1_count_12 : decode cX1_count 12 = .ok (.aload_n 0, 1) := by decide +kernel
theorem dX1_count_13 : decode cX1_count 13 = .ok (.getfield 27, 3) := by decide +kernel
theorem dX1_count_16 : decode cX1_count 16 = .ok (.iload_n 2, 1) := by decide +kernel
theorem dX1_count_17 : decode cX1_count 17 = .ok (.baload, 1) := by decide +kernel
theorem dX1_count_18 : decode cX1_count 18 = .ok (.ifCond .eq 6, 3) := by decide +kernel
theorem dX1_count_21 : decode cX1_count 21 = .ok (.iinc 1 1, 3) := by decide +kernel
theorem dX1_count_24 : decode cX1_count 24 = .ok (.iinc 2 1, 3) := by decide +kernel
theorem dX1_count_27 : decode cX1_count 27 = .ok (.goto (-23), 3) := by decide +kernel
theorem dX1_count_30 : decode cX1_count 30 = .ok (.iload_n 1, 1) := by decide +kernel
theorem dX1_count_31 : decode cX1_count 31 = .ok (.ireturn, 1) := by decide +kernel
abbrev cX1_unhear : ByteArray := prog_3_method_11_code
def yX1_unhear : MethodName := ⟨RX1, "unhear", "(I)I"⟩
theorem dX1_unhear_0 : decode cX1_unhear 0 = .ok (.aload_n 0, 1) := by decide +kernel
theorem dX1_unhear_1 : decode cX1_unhear 1 = .ok (.iload_n 1, 1) := by decide +kernel
theorem dX1_unhear_2 : decode cX1_unhear 2 = .ok (.invokevirtual 30, 3) := by decide +kernel
theorem dX1_unhear_5 : decode cX1_unhear 5 = .ok (.ifCond .eq 5, 3) := by decide +kernel
theorem dX1_unhear_8 : decode cX1_unhear 8 = .ok (.iconst (-1), 1) := by decide +kernel
theorem dX1_unhear_9 : decode cX1_unhear 9 = .ok (.ireturn, 1) := by decide +kernel
theorem dX1_unhear_10 : decode cX1_unhear 10 = .ok (.aload_n 0, 1) := by decide +kernel
theorem dX1_unhear_11 : decode cX1_unhear 11 = .ok (.getfield 23, 3) := by decide +kernel
theorem dX1_unhear_14 : decode cX1_unhear 14 = .ok (.iload_n 1, 1) := by decide +kernel
theorem dX1_unhear_15 : decode cX1_unhear 15 = .ok (.iconst 0, 1) := by decide +kernel
theorem dX1_unhear_16 : decode cX1_unhear 16 = .ok (.bastore, 1) := by decide +kernel
theorem dX1_unhear_17 : decode cX1_unhear 17 = .ok (.aload_n 0, 1) := by decide +kernel
theorem dX1_unhear_18 : decode cX1_unhear 18 = .ok (.invokevirtual 49, 3) := by decide +kernel
theorem dX1_unhear_21 : decode cX1_unhear 21 = .ok (.ireturn, 1) := by decide +kernel
abbrev cX1_knows : ByteArray := prog_3_method_12_code
def yX1_knows : MethodName := ⟨RX1, "knows", "(I)I"⟩
theorem dX1_knows_0 : decode cX1_knows 0 = .ok (.aload_n 0, 1) := by decide +kernel
theorem dX1_knows_1 : decode cX1_knows 1 = .ok (.iload_n 1, 1) := by decide +kernel
theorem dX1_knows_2 : decode cX1_knows 2 = .ok (.invokevirtual 30, 3) := by decide +kernel
theorem dX1_knows_5 : decode cX1_knows 5 = .ok (.ifCond .eq 5, 3) := by decide +kernel
theorem dX1_knows_8 : decode cX1_knows 8 = .ok (.iconst (-1), 1) := by decide +kernel
theorem dX1_knows_9 : decode cX1_knows 9 = .ok (.ireturn, 1) := by decide +kernel
theorem dX1_knows_10 : decode cX1_knows 10 = .ok (.aload_n 0, 1) := by decide +kernel
theorem dX1_knows_11 : decode cX1_knows 11 = .ok (.iconst (-1), 1) := by decide +kernel
theorem dX1_knows_12 : decode cX1_knows 12 = .ok (.iconst 0, 1) := by decide +kernel
theorem dX1_knows_13 : decode cX1_knows 13 = .ok (.iconst (-1), 1) := by decide +kernel
theorem dX1_knows_14 : decode cX1_knows 14 = .ok (.invokevirtual 52, 3) := by decide +kernel
theorem dX1_knows_17 : decode cX1_knows 17 = .ok (.aload_n 0, 1) := by decide +kernel
theorem dX1_knows_18 : decode cX1_knows 18 = .ok (.getfield 27, 3) := by decide +kernel
theorem dX1_knows_21 : decode cX1_knows 21 = .ok (.iload_n 1, 1) := by decide +kernel
theorem dX1_knows_22 : decode cX1_knows 22 = .ok (.baload, 1) := by decide +kernel
theorem dX1_knows_23 : decode cX1_knows 23 = .ok (.ifCond .eq 7, 3) := by decide +kernel
theorem dX1_knows_26 : decode cX1_knows 26 = .ok (.iconst 1, 1) := by decide +kernel
theorem dX1_knows_27 : decode cX1_knows 27 = .ok (.goto 4, 3) := by decide +kernel
theorem dX1_knows_30 : decode cX1_knows 30 = .ok (.iconst 0, 1) := by decide +kernel
theorem dX1_knows_31 : decode cX1_knows 31 = .ok (.ireturn, 1) := by decide +kernel
abbrev cX1_would : ByteArray := prog_3_method_14_code
def yX1_would : MethodName := ⟨RX1, "would", "(II)I"⟩
theorem dX1_would_0 : decode cX1_would 0 = .ok (.aload_n 0, 1) := by decide +kernel
theorem dX1_would_1 : decode cX1_would 1 = .ok (.iload_n 1, 1) := by decide +kernel
theorem dX1_would_2 : decode cX1_would 2 = .ok (.invokevirtual 30, 3) := by decide +kernel
theorem dX1_would_5 : decode cX1_would 5 = .ok (.ifCond .ne 11, 3) := by decide +kernel
theorem dX1_would_8 : decode cX1_would 8 = .ok (.aload_n 0, 1) := by decide +kernel
theorem dX1_would_9 : decode cX1_would 9 = .ok (.iload_n 2, 1) := by decide +kernel
theorem dX1_would_10 : decode cX1_would 10 = .ok (.invokevirtual 30, 3) := by decide +kernel
theorem dX1_would_13 : decode cX1_would 13 = .ok (.ifCond .eq 5, 3) := by decide +kernel
theorem dX1_would_16 : decode cX1_would 16 = .ok (.iconst (-1), 1) := by decide +kernel
theorem dX1_would_17 : decode cX1_would 17 = .ok (.ireturn, 1) := by decide +kernel
theorem dX1_would_18 : decode cX1_would 18 = .ok (.aload_n 0, 1) := by decide +kernel
theorem dX1_would_19 : decode cX1_would 19 = .ok (.iload_n 1, 1) := by decide +kernel
theorem dX1_would_20 : decode cX1_would 20 = .ok (.iconst 0, 1) := by decide +kernel
theorem dX1_would_21 : decode cX1_would 21 = .ok (.iconst (-1), 1) := by decide +kernel
theorem dX1_would_22 : decode cX1_would 22 = .ok (.invokevirtual 52, 3) := by decide +kernel
theorem dX1_would_25 : decode cX1_would 25 = .ok (.aload_n 0, 1) := by decide +kernel
theorem dX1_would_26 : decode cX1_would 26 = .ok (.getfield 27, 3) := by decide +kernel
theorem dX1_would_29 : decode cX1_would 29 = .ok (.iload_n 2, 1) := by decide +kernel
theorem dX1_would_30 : decode cX1_would 30 = .ok (.baload, 1) := by decide +kernel
theorem dX1_would_31 : decode cX1_would 31 = .ok (.ifCond .eq 7, 3) := by decide +kernel
theorem dX1_would_34 : decode cX1_would 34 = .ok (.iconst 1, 1) := by decide +kernel
theorem dX1_would_35 : decode cX1_would 35 = .ok (.goto 4, 3) := by decide +kernel
theorem dX1_would_38 : decode cX1_would 38 = .ok (.iconst 0, 1) := by decide +kernel
theorem dX1_would_39 : decode cX1_would 39 = .ok (.ireturn, 1) := by decide +kernel
abbrev cX1_leak : ByteArray := prog_3_method_15_code
def yX1_leak : MethodName := ⟨RX1, "leak", "(I)I"⟩
theorem dX1_leak_0 : decode cX1_leak 0 = .ok (.aload_n 0, 1) := by decide +kernel
theorem dX1_leak_1 : decode cX1_leak 1 = .ok (.iload_n 1, 1) := by decide +kernel
theorem dX1_leak_2 : decode cX1_leak 2 = .ok (.invokevirtual 30, 3) := by decide +kernel
theorem dX1_leak_5 : decode cX1_leak 5 = .ok (.ifCond .eq 5, 3) := by decide +kernel
theorem dX1_leak_8 : decode cX1_leak 8 = .ok (.iconst (-1), 1) := by decide +kernel
theorem dX1_leak_9 : decode cX1_leak 9 = .ok (.ireturn, 1) := by decide +kernel
theorem dX1_leak_10 : decode cX1_leak 10 = .ok (.aload_n 0, 1) := by decide +kernel
theorem dX1_leak_11 : decode cX1_leak 11 = .ok (.iload_n 1, 1) := by decide +kernel
theorem dX1_leak_12 : decode cX1_leak 12 = .ok (.invokevirtual 59, 3) := by decide +kernel
theorem dX1_leak_15 : decode cX1_leak 15 = .ok (.iconst 1, 1) := by decide +kernel
theorem dX1_leak_16 : decode cX1_leak 16 = .ok (.if_icmp .ne 6, 3) := by decide +kernel
theorem dX1_leak_19 : decode cX1_leak 19 = .ok (.bipush (-2), 2) := by decide +kernel
theorem dX1_leak_21 : decode cX1_leak 21 = .ok (.ireturn, 1) := by decide +kernel
theorem dX1_leak_22 : decode cX1_leak 22 = .ok (.iconst 0, 1) := by decide +kernel
theorem dX1_leak_23 : decode cX1_leak 23 = .ok (.istore_n 2, 1) := by decide +kernel
theorem dX1_leak_24 : decode cX1_leak 24 = .ok (.iload_n 2, 1) := by decide +kernel
theorem dX1_leak_25 : decode cX1_leak 25 = .ok (.aload_n 0, 1) := by decide +kernel
theorem dX1_leak_26 : decode cX1_leak 26 = .ok (.getfield 7, 3) := by decide +kernel
theorem dX1_leak_29 : decode cX1_leak 29 = .ok (.if_icmp .ge 21, 3) := by decide +kernel
theorem dX1_leak_32 : decode cX1_leak 32 = .ok (.aload_n 0, 1) := by decide +kernel
theorem dX1_leak_33 : decode cX1_leak 33 = .ok (.iload_n 2, 1) := by decide +kernel
theorem dX1_leak_34 : decode cX1_leak 34 = .ok (.iload_n 1, 1) := by decide +kernel
theorem dX1_leak_35 : decode cX1_leak 35 = .ok (.invokevirtual 63, 3) := by decide +kernel
theorem dX1_leak_38 : decode cX1_leak 38 = .ok (.iconst 1, 1) := by decide +kernel
theorem dX1_leak_39 : decode cX1_leak 39 = .ok (.if_icmp .ne 5, 3) := by decide +kernel
theorem dX1_leak_42 : decode cX1_leak 42 = .ok (.iload_n 2, 1) := by decide +kernel
theorem dX1_leak_43 : decode cX1_leak 43 = .ok (.ireturn, 1) := by decide +kernel
theorem dX1_leak_44 : decode cX1_leak 44 = .ok (.iinc 2 1, 3) := by decide +kernel
theorem dX1_leak_47 : decode cX1_leak 47 = .ok (.goto (-23), 3) := by decide +kernel
theorem dX1_leak_50 : decode cX1_leak 50 = .ok (.iload_n 1, 1) := by decide +kernel
theorem dX1_leak_51 : decode cX1_leak 51 = .ok (.ireturn, 1) := by decide +kernel
abbrev cX1_atomsFor : ByteArray := prog_3_method_17_code
def yX1_atomsFor : MethodName := ⟨RX1, "atomsFor", "(I)I"⟩
theorem dX1_atomsFor_0 : decode cX1_atomsFor 0 = .ok (.aload_n 0, 1) := by decide +kernel
theorem dX1_atomsFor_1 : decode cX1_atomsFor 1 = .ok (.iload_n 1, 1) := by decide +kernel
theorem dX1_atomsFor_2 : decode cX1_atomsFor 2 = .ok (.invokevirtual 30, 3) := by decide +kernel
theorem dX1_atomsFor_5 : decode cX1_atomsFor 5 = .ok (.ifCond .eq 5, 3) := by decide +kernel
theorem dX1_atomsFor_8 : decode cX1_atomsFor 8 = .ok (.iconst (-1), 1) := by decide +kernel
theorem dX1_atomsFor_9 : decode cX1_atomsFor 9 = .ok (.ireturn, 1) := by decide +kernel
theorem dX1_atomsFor_10 : decode cX1_atomsFor 10 = .ok (.bipush 8, 2) := by decide +kernel
theorem dX1_atomsFor_12 : decode cX1_atomsFor 12 = .ok (.istore_n 2, 1) := by decide +kernel
theorem dX1_atomsFor_13 : decode cX1_atomsFor 13 = .ok (.iconst 0, 1) := by decide +kernel
theorem dX1_atomsFor_14 : decode cX1_atomsFor 14 = .ok (.istore_n 3, 1) := by decide +kernel
theorem dX1_atomsFor_15 : decode cX1_atomsFor 15 = .ok (.iload_n 3, 1) := by decide +kernel
theorem dX1_atomsFor_16 : decode cX1_atomsFor 16 = .ok (.sipush 256, 3) := by decide +kernel
theorem dX1_atomsFor_19 : decode cX1_atomsFor 19 = .ok (.if_icmp .ge 40, 3) := by decide +kernel
theorem dX1_atomsFor_22 : decode cX1_atomsFor 22 = .ok (.iload_n 3, 1) := by decide +kernel
theorem dX1_atomsFor_23 : decode cX1_atomsFor 23 = .ok (.invokestatic 67, 3) := by decide +kernel
theorem dX1_atomsFor_26 : decode cX1_atomsFor 26 = .ok (.istore 4, 2) := by decide +kernel
theorem dX1_atomsFor_28 : decode cX1_atomsFor 28 = .ok (.iload 4, 2) := by decide +kernel
theorem dX1_atomsFor_30 : decode cX1_atomsFor 30 = .ok (.iload_n 2, 1) := by decide +kernel
theorem dX1_atomsFor_31 : decode cX1_atomsFor 31 = .ok (.if_icmp .ge 22, 3) := by decide +kernel
theorem dX1_atomsFor_34 : decode cX1_atomsFor 34 = .ok (.aload_n 0, 1) := by decide +kernel
theorem dX1_atomsFor_35 : decode cX1_atomsFor 35 = .ok (.iconst (-1), 1) := by decide +kernel
theorem dX1_atomsFor_36 : decode cX1_atomsFor 36 = .ok (.iload_n 3, 1) := by decide +kernel
theorem dX1_atomsFor_37 : decode cX1_atomsFor 37 = .ok (.iconst (-1), 1) := by decide +kernel
theorem dX1_atomsFor_38 : decode cX1_atomsFor 38 = .ok (.invokevirtual 52, 3) := by decide +kernel
theorem dX1_atomsFor_41 : decode cX1_atomsFor 41 = .ok (.aload_n 0, 1) := by decide +kernel
theorem dX1_atomsFor_42 : decode cX1_atomsFor 42 = .ok (.getfield 27, 3) := by decide +kernel
theorem dX1_atomsFor_45 : decode cX1_atomsFor 45 = .ok (.iload_n 1, 1) := by decide +kernel
theorem dX1_atomsFor_46 : decode cX1_atomsFor 46 = .ok (.baload, 1) := by decide +kernel
theorem dX1_atomsFor_47 : decode cX1_atomsFor 47 = .ok (.ifCond .eq 6, 3) := by decide +kernel
theorem dX1_atomsFor_50 : decode cX1_atomsFor 50 = .ok (.iload 4, 2) := by decide +kernel
theorem dX1_atomsFor_52 : decode cX1_atomsFor 52 = .ok (.istore_n 2, 1) := by decide +kernel
theorem dX1_atomsFor_53 : decode cX1_atomsFor 53 = .ok (.iinc 3 1, 3) := by decide +kernel
theorem dX1_atomsFor_56 : decode cX1_atomsFor 56 = .ok (.goto (-41), 3) := by decide +kernel
theorem dX1_atomsFor_59 : decode cX1_atomsFor 59 = .ok (.iload_n 2, 1) := by decide +kernel
theorem dX1_atomsFor_60 : decode cX1_atomsFor 60 = .ok (.ireturn, 1) := by decide +kernel
abbrev cX1_ones : ByteArray := prog_3_method_16_code
def yX1_ones : MethodName := ⟨RX1, "ones", "(I)I"⟩
theorem dX1_ones_0 : decode cX1_ones 0 = .ok (.iconst 0, 1) := by decide +kernel
theorem dX1_ones_1 : decode cX1_ones 1 = .ok (.istore_n 1, 1) := by decide +kernel
theorem dX1_ones_2 : decode cX1_ones 2 = .ok (.iconst 0, 1) := by decide +kernel
theorem dX1_ones_3 : decode cX1_ones 3 = .ok (.istore_n 2, 1) := by decide +kernel
theorem dX1_ones_4 : decode cX1_ones 4 = .ok (.iload_n 2, 1) := by decide +kernel
theorem dX1_ones_5 : decode cX1_ones 5 = .ok (.bipush 8, 2) := by decide +kernel
theorem dX1_ones_7 : decode cX1_ones 7 = .ok (.if_icmp .ge 17, 3) := by decide +kernel
theorem dX1_ones_10 : decode cX1_ones 10 = .ok (.iload_n 1, 1) := by decide +kernel
theorem dX1_ones_11 : decode cX1_ones 11 = .ok (.iload_n 0, 1) := by decide +kernel
theorem dX1_ones_12 : decode cX1_ones 12 = .ok (.iload_n 2, 1) := by decide +kernel
theorem dX1_ones_13 : decode cX1_ones 13 = .ok (.ishr, 1) := by decide +kernel
theorem dX1_ones_14 : decode cX1_ones 14 = .ok (.iconst 1, 1) := by decide +kernel
theorem dX1_ones_15 : decode cX1_ones 15 = .ok (.iand, 1) := by decide +kernel
theorem dX1_ones_16 : decode cX1_ones 16 = .ok (.iadd, 1) := by decide +kernel
theorem dX1_ones_17 : decode cX1_ones 17 = .ok (.istore_n 1, 1) := by decide +kernel
theorem dX1_ones_18 : decode cX1_ones 18 = .ok (.iinc 2 1, 3) := by decide +kernel
theorem dX1_ones_21 : decode cX1_ones 21 = .ok (.goto (-17), 3) := by decide +kernel
theorem dX1_ones_24 : decode cX1_ones 24 = .ok (.iload_n 1, 1) := by decide +kernel
theorem dX1_ones_25 : decode cX1_ones 25 = .ok (.ireturn, 1) := by decide +kernel
abbrev cX1_spare : ByteArray := prog_3_method_18_code
def yX1_spare : MethodName := ⟨RX1, "spare", "()I"⟩
theorem dX1_spare_0 : decode cX1_spare 0 = .ok (.iconst 0, 1) := by decide +kernel
theorem dX1_spare_1 : decode cX1_spare 1 = .ok (.istore_n 1, 1) := by decide +kernel
theorem dX1_spare_2 : decode cX1_spare 2 = .ok (.iconst 0, 1) := by decide +kernel
theorem dX1_spare_3 : decode cX1_spare 3 = .ok (.istore_n 2, 1) := by decide +kernel
theorem dX1_spare_4 : decode cX1_spare 4 = .ok (.iload_n 2, 1) := by decide +kernel
theorem dX1_spare_5 : decode cX1_spare 5 = .ok (.aload_n 0, 1) := by decide +kernel
theorem dX1_spare_6 : decode cX1_spare 6 = .ok (.getfield 7, 3) := by decide +kernel
theorem dX1_spare_9 : decode cX1_spare 9 = .ok (.if_icmp .ge 37, 3) := by decide +kernel
theorem dX1_spare_12 : decode cX1_spare 12 = .ok (.aload_n 0, 1) := by decide +kernel
theorem dX1_spare_13 : decode cX1_spare 13 = .ok (.getfield 23, 3) := by decide +kernel
theorem dX1_spare_16 : decode cX1_spare 16 = .ok (.iload_n 2, 1) := by decide +kernel
theorem dX1_spare_17 : decode cX1_spare 17 = .ok (.baload, 1) := by decide +kernel
theorem dX1_spare_18 : decode cX1_spare 18 = .ok (.ifCond .eq 22, 3) := by decide +kernel
theorem dX1_spare_21 : decode cX1_spare 21 = .ok (.aload_n 0, 1) := by decide +kernel
theorem dX1_spare_22 : decode cX1_spare 22 = .ok (.iconst (-1), 1) := by decide +kernel
theorem dX1_spare_23 : decode cX1_spare 23 = .ok (.iconst 0, 1) := by decide +kernel
theorem dX1_spare_24 : decode cX1_spare 24 = .ok (.iload_n 2, 1) := by decide +kernel
theorem dX1_spare_25 : decode cX1_spare 25 = .ok (.invokevirtual 52, 3) := by decide +kernel
theorem dX1_spare_28 : decode cX1_spare 28 = .ok (.aload_n 0, 1) := by decide +kernel
theorem dX1_spare_29 : decode cX1_spare 29 = .ok (.getfield 27, 3) := by decide +kernel
theorem dX1_spare_32 : decode cX1_spare 32 = .ok (.iload_n 2, 1) := by decide +kernel
theorem dX1_spare_33 : decode cX1_spare 33 = .ok (.baload, 1) := by decide +kernel
theorem dX1_spare_34 : decode cX1_spare 34 = .ok (.ifCond .eq 6, 3) := by decide +kernel
theorem dX1_spare_37 : decode cX1_spare 37 = .ok (.iinc 1 1, 3) := by decide +kernel
theorem dX1_spare_40 : decode cX1_spare 40 = .ok (.iinc 2 1, 3) := by decide +kernel
theorem dX1_spare_43 : decode cX1_spare 43 = .ok (.goto (-39), 3) := by decide +kernel
theorem dX1_spare_46 : decode cX1_spare 46 = .ok (.iload_n 1, 1) := by decide +kernel
theorem dX1_spare_47 : decode cX1_spare 47 = .ok (.ireturn, 1) := by decide +kernel
theorem q18 : (Jvm.Cond.initialized "TermSecretsModel") ∈ lw_all := lw_g (lw_at lw_m0 2 rfl) rfl
theorem q140 : (Jvm.Cond.instantiable "TermSecretsModel" (7 : Nat)) ∈ lw_all := lw_g (lw_at lw_m0 124 rfl) rfl
theorem q142 : (Jvm.Cond.instanceMethod ({ cls := "TermSecretsModel", name := "<init>", desc := "()V" } : Jvm.MethodName)) ∈ lw_all := lw_g (lw_at lw_m0 126 rfl) rfl
theorem q143 : (Jvm.Cond.code ({ cls := "TermSecretsModel", name := "<init>", desc := "()V" } : Jvm.MethodName) prog_3_method_1_code (1 : Nat) (Option.none : Option Jvm.ClassFile.FieldType)) ∈ lw_all := lw_g (lw_at lw_m0 127 rfl) rfl
theorem q144 : (Jvm.Cond.methodLink "TermSecretsModel" (1 : Nat) ({ cls := "java/lang/Object", name := "<init>", desc := "()V" } : Jvm.MethodName)) ∈ lw_all := lw_g (lw_at lw_m0 128 rfl) rfl
theorem q145 : (Jvm.Cond.fieldLink "TermSecretsModel" (7 : Nat) "TermSecretsModel" "terms" "I") ∈ lw_all := lw_g (lw_at lw_m0 129 rfl) rfl
theorem q146 : (Jvm.Cond.fieldLink "TermSecretsModel" (13 : Nat) "TermSecretsModel" "sorts" "[I") ∈ lw_all := lw_g (lw_at lw_m0 130 rfl) rfl
theorem q147 : (Jvm.Cond.fieldLink "TermSecretsModel" (17 : Nat) "TermSecretsModel" "firsts" "[I") ∈ lw_all := lw_g (lw_at lw_m0 131 rfl) rfl
theorem q148 : (Jvm.Cond.fieldLink "TermSecretsModel" (20 : Nat) "TermSecretsModel" "seconds" "[I") ∈ lw_all := lw_g (lw_at lw_m0 132 rfl) rfl
theorem q149 : (Jvm.Cond.fieldLink "TermSecretsModel" (23 : Nat) "TermSecretsModel" "heard" "[Z") ∈ lw_all := lw_g (lw_at lw_m0 133 rfl) rfl
theorem q150 : (Jvm.Cond.fieldLink "TermSecretsModel" (27 : Nat) "TermSecretsModel" "known" "[Z") ∈ lw_all := lw_g (lw_at lw_m0 134 rfl) rfl
theorem q151 : (Jvm.Cond.fieldLink "TermSecretsModel" (38 : Nat) "TermSecretsModel" "changed" "Z") ∈ lw_all := lw_g (lw_at lw_m0 135 rfl) rfl
theorem q152 : (Jvm.Cond.lays "TermSecretsModel" "TermSecretsModel" "terms" "I") ∈ lw_all := lw_g (lw_at lw_m0 136 rfl) rfl
theorem q153 : (Jvm.Cond.soleField "TermSecretsModel" "terms") ∈ lw_all := lw_g (lw_at lw_m0 137 rfl) rfl
theorem q154 : (Jvm.Cond.laysFinal "TermSecretsModel" "TermSecretsModel" "sorts" "[I") ∈ lw_all := lw_g (lw_at lw_m0 138 rfl) rfl
theorem q155 : (Jvm.Cond.soleField "TermSecretsModel" "sorts") ∈ lw_all := lw_g (lw_at lw_m0 139 rfl) rfl
theorem q156 : (Jvm.Cond.laysFinal "TermSecretsModel" "TermSecretsModel" "firsts" "[I") ∈ lw_all := lw_g (lw_at lw_m0 140 rfl) rfl
theorem q157 : (Jvm.Cond.soleField "TermSecretsModel" "firsts") ∈ lw_all := lw_g (lw_at lw_m0 141 rfl) rfl
theorem q158 : (Jvm.Cond.laysFinal "TermSecretsModel" "TermSecretsModel" "seconds" "[I") ∈ lw_all := lw_g (lw_at lw_m0 142 rfl) rfl
theorem q159 : (Jvm.Cond.soleField "TermSecretsModel" "seconds") ∈ lw_all := lw_g (lw_at lw_m0 143 rfl) rfl
theorem q160 : (Jvm.Cond.laysFinal "TermSecretsModel" "TermSecretsModel" "heard" "[Z") ∈ lw_all := lw_g (lw_at lw_m0 144 rfl) rfl
theorem q161 : (Jvm.Cond.soleField "TermSecretsModel" "heard") ∈ lw_all := lw_g (lw_at lw_m0 145 rfl) rfl
theorem q162 : (Jvm.Cond.laysFinal "TermSecretsModel" "TermSecretsModel" "known" "[Z") ∈ lw_all := lw_g (lw_at lw_m0 146 rfl) rfl
theorem q163 : (Jvm.Cond.soleField "TermSecretsModel" "known") ∈ lw_all := lw_g (lw_at lw_m0 147 rfl) rfl
theorem q164 : (Jvm.Cond.lays "TermSecretsModel" "TermSecretsModel" "changed" "Z") ∈ lw_all := lw_g (lw_at lw_m0 148 rfl) rfl
theorem q165 : (Jvm.Cond.soleField "TermSecretsModel" "changed") ∈ lw_all := lw_g (lw_at lw_m0 149 rfl) rfl
theorem q166 : (Jvm.Cond.superclass "TermSecretsModel" "java/lang/Object") ∈ lw_all := lw_g (lw_at lw_m0 150 rfl) rfl
theorem q169 : (Jvm.Cond.instanceMethod ({ cls := "TermSecretsModel", name := "pair", desc := "(II)I" } : Jvm.MethodName)) ∈ lw_all := lw_g (lw_at lw_m0 153 rfl) rfl
theorem q170 : (Jvm.Cond.selects "TermSecretsModel" ({ cls := "TermSecretsModel", name := "pair", desc := "(II)I" } : Jvm.MethodName) ({ cls := "TermSecretsModel", name := "pair", desc := "(II)I" } : Jvm.MethodName)) ∈ lw_all := lw_g (lw_at lw_m0 154 rfl) rfl
theorem q171 : (Jvm.Cond.code ({ cls := "TermSecretsModel", name := "pair", desc := "(II)I" } : Jvm.MethodName) prog_3_method_4_code (3 : Nat) (Option.some Jvm.ClassFile.FieldType.int)) ∈ lw_all := lw_g (lw_at lw_m0 155 rfl) rfl
theorem q172 : (Jvm.Cond.methodLink "TermSecretsModel" (34 : Nat) ({ cls := "TermSecretsModel", name := "make", desc := "(III)I" } : Jvm.MethodName)) ∈ lw_all := lw_g (lw_at lw_m0 156 rfl) rfl
theorem q173 : (Jvm.Cond.privateMethod ({ cls := "TermSecretsModel", name := "make", desc := "(III)I" } : Jvm.MethodName)) ∈ lw_tbl := lw_at lw_m0 157 rfl
theorem q174 : (Jvm.Cond.instanceMethod ({ cls := "TermSecretsModel", name := "make", desc := "(III)I" } : Jvm.MethodName)) ∈ lw_all := lw_g (lw_at lw_m0 158 rfl) rfl
theorem q175 : (Jvm.Cond.code ({ cls := "TermSecretsModel", name := "make", desc := "(III)I" } : Jvm.MethodName) prog_3_method_3_code (5 : Nat) (Option.some Jvm.ClassFile.FieldType.int)) ∈ lw_all := lw_g (lw_at lw_m0 159 rfl) rfl
theorem q176 : (Jvm.Cond.methodLink "TermSecretsModel" (30 : Nat) ({ cls := "TermSecretsModel", name := "bad", desc := "(I)Z" } : Jvm.MethodName)) ∈ lw_all := lw_g (lw_at lw_m0 160 rfl) rfl
theorem q177 : (Jvm.Cond.privateMethod ({ cls := "TermSecretsModel", name := "bad", desc := "(I)Z" } : Jvm.MethodName)) ∈ lw_tbl := lw_at lw_m0 161 rfl
theorem q178 : (Jvm.Cond.instanceMethod ({ cls := "TermSecretsModel", name := "bad", desc := "(I)Z" } : Jvm.MethodName)) ∈ lw_all := lw_g (lw_at lw_m0 162 rfl) rfl
theorem q179 : (Jvm.Cond.code ({ cls := "TermSecretsModel", name := "bad", desc := "(I)Z" } : Jvm.MethodName) prog_3_method_2_code (2 : Nat) (Option.some Jvm.ClassFile.FieldType.boolean)) ∈ lw_all := lw_g (lw_at lw_m0 163 rfl) rfl
theorem q181 : (Jvm.Cond.instanceMethod ({ cls := "TermSecretsModel", name := "lock", desc := "(II)I" } : Jvm.MethodName)) ∈ lw_all := lw_g (lw_at lw_m0 165 rfl) rfl
theorem q182 : (Jvm.Cond.selects "TermSecretsModel" ({ cls := "TermSecretsModel", name := "lock", desc := "(II)I" } : Jvm.MethodName) ({ cls := "TermSecretsModel", name := "lock", desc := "(II)I" } : Jvm.MethodName)) ∈ lw_all := lw_g (lw_at lw_m0 166 rfl) rfl
theorem q183 : (Jvm.Cond.code ({ cls := "TermSecretsModel", name := "lock", desc := "(II)I" } : Jvm.MethodName) prog_3_method_5_code (3 : Nat) (Option.some Jvm.ClassFile.FieldType.int)) ∈ lw_all := lw_g (lw_at lw_m0 167 rfl) rfl
theorem q185 : (Jvm.Cond.instanceMethod ({ cls := "TermSecretsModel", name := "hear", desc := "(I)I" } : Jvm.MethodName)) ∈ lw_all := lw_g (lw_at lw_m0 169 rfl) rfl
theorem q186 : (Jvm.Cond.selects "TermSecretsModel" ({ cls := "TermSecretsModel", name := "hear", desc := "(I)I" } : Jvm.MethodName) ({ cls := "TermSecretsModel", name := "hear", desc := "(I)I" } : Jvm.MethodName)) ∈ lw_all := lw_g (lw_at lw_m0 170 rfl) rfl
theorem q187 : (Jvm.Cond.code ({ cls := "TermSecretsModel", name := "hear", desc := "(I)I" } : Jvm.MethodName) prog_3_method_10_code (2 : Nat) (Option.some Jvm.ClassFile.FieldType.int)) ∈ lw_all := lw_g (lw_at lw_m0 171 rfl) rfl
theorem q188 : (Jvm.Cond.methodLink "TermSecretsModel" (49 : Nat) ({ cls := "TermSecretsModel", name := "known", desc := "()I" } : Jvm.MethodName)) ∈ lw_all := lw_g (lw_at lw_m0 172 rfl) rfl
theorem q189 : (Jvm.Cond.instanceMethod ({ cls := "TermSecretsModel", name := "known", desc := "()I" } : Jvm.MethodName)) ∈ lw_all := lw_g (lw_at lw_m0 173 rfl) rfl
theorem q190 : (Jvm.Cond.selects "TermSecretsModel" ({ cls := "TermSecretsModel", name := "known", desc := "()I" } : Jvm.MethodName) ({ cls := "TermSecretsModel", name := "known", desc := "()I" } : Jvm.MethodName)) ∈ lw_all := lw_g (lw_at lw_m0 174 rfl) rfl
theorem q191 : (Jvm.Cond.code ({ cls := "TermSecretsModel", name := "known", desc := "()I" } : Jvm.MethodName) prog_3_method_13_code (1 : Nat) (Option.some Jvm.ClassFile.FieldType.int)) ∈ lw_all := lw_g (lw_at lw_m0 175 rfl) rfl
theorem q192 : (Jvm.Cond.methodLink "TermSecretsModel" (52 : Nat) ({ cls := "TermSecretsModel", name := "work", desc := "(III)V" } : Jvm.MethodName)) ∈ lw_all := lw_g (lw_at lw_m0 176 rfl) rfl
theorem q193 : (Jvm.Cond.privateMethod ({ cls := "TermSecretsModel", name := "work", desc := "(III)V" } : Jvm.MethodName)) ∈ lw_tbl := lw_at lw_m0 177 rfl
theorem q194 : (Jvm.Cond.instanceMethod ({ cls := "TermSecretsModel", name := "work", desc := "(III)V" } : Jvm.MethodName)) ∈ lw_all := lw_g (lw_at lw_m0 178 rfl) rfl
theorem q195 : (Jvm.Cond.code ({ cls := "TermSecretsModel", name := "work", desc := "(III)V" } : Jvm.MethodName) prog_3_method_8_code (6 : Nat) (Option.none : Option Jvm.ClassFile.FieldType)) ∈ lw_all := lw_g (lw_at lw_m0 179 rfl) rfl
theorem q196 : (Jvm.Cond.methodLink "TermSecretsModel" (46 : Nat) ({ cls := "TermSecretsModel", name := "apply", desc := "(I)V" } : Jvm.MethodName)) ∈ lw_all := lw_g (lw_at lw_m0 180 rfl) rfl
theorem q197 : (Jvm.Cond.privateMethod ({ cls := "TermSecretsModel", name := "apply", desc := "(I)V" } : Jvm.MethodName)) ∈ lw_tbl := lw_at lw_m0 181 rfl
theorem q198 : (Jvm.Cond.instanceMethod ({ cls := "TermSecretsModel", name := "apply", desc := "(I)V" } : Jvm.MethodName)) ∈ lw_all := lw_g (lw_at lw_m0 182 rfl) rfl
theorem q199 : (Jvm.Cond.code ({ cls := "TermSecretsModel", name := "apply", desc := "(I)V" } : Jvm.MethodName) prog_3_method_7_code (4 : Nat) (Option.none : Option Jvm.ClassFile.FieldType)) ∈ lw_all := lw_g (lw_at lw_m0 183 rfl) rfl
theorem q200 : (Jvm.Cond.methodLink "TermSecretsModel" (42 : Nat) ({ cls := "TermSecretsModel", name := "learn", desc := "(I)V" } : Jvm.MethodName)) ∈ lw_all := lw_g (lw_at lw_m0 184 rfl) rfl
theorem q201 : (Jvm.Cond.privateMethod ({ cls := "TermSecretsModel", name := "learn", desc := "(I)V" } : Jvm.MethodName)) ∈ lw_tbl := lw_at lw_m0 185 rfl
theorem q202 : (Jvm.Cond.instanceMethod ({ cls := "TermSecretsModel", name := "learn", desc := "(I)V" } : Jvm.MethodName)) ∈ lw_all := lw_g (lw_at lw_m0 186 rfl) rfl
theorem q203 : (Jvm.Cond.code ({ cls := "TermSecretsModel", name := "learn", desc := "(I)V" } : Jvm.MethodName) prog_3_method_6_code (2 : Nat) (Option.none : Option Jvm.ClassFile.FieldType)) ∈ lw_all := lw_g (lw_at lw_m0 187 rfl) rfl
theorem q204 : (Jvm.Cond.methodLink "TermSecretsModel" (56 : Nat) ({ cls := "TermSecretsModel", name := "count", desc := "()I" } : Jvm.MethodName)) ∈ lw_all := lw_g (lw_at lw_m0 188 rfl) rfl
theorem q205 : (Jvm.Cond.privateMethod ({ cls := "TermSecretsModel", name := "count", desc := "()I" } : Jvm.MethodName)) ∈ lw_tbl := lw_at lw_m0 189 rfl
theorem q206 : (Jvm.Cond.instanceMethod ({ cls := "TermSecretsModel", name := "count", desc := "()I" } : Jvm.MethodName)) ∈ lw_all := lw_g (lw_at lw_m0 190 rfl) rfl
theorem q207 : (Jvm.Cond.code ({ cls := "TermSecretsModel", name := "count", desc := "()I" } : Jvm.MethodName) prog_3_method_9_code (3 : Nat) (Option.some Jvm.ClassFile.FieldType.int)) ∈ lw_all := lw_g (lw_at lw_m0 191 rfl) rfl
theorem q209 : (Jvm.Cond.instanceMethod ({ cls := "TermSecretsModel", name := "unhear", desc := "(I)I" } : Jvm.MethodName)) ∈ lw_all := lw_g (lw_at lw_m0 193 rfl) rfl
theorem q210 : (Jvm.Cond.selects "TermSecretsModel" ({ cls := "TermSecretsModel", name := "unhear", desc := "(I)I" } : Jvm.MethodName) ({ cls := "TermSecretsModel", name := "unhear", desc := "(I)I" } : Jvm.MethodName)) ∈ lw_all := lw_g (lw_at lw_m0 194 rfl) rfl
theorem q211 : (Jvm.Cond.code ({ cls := "TermSecretsModel", name := "unhear", desc := "(I)I" } : Jvm.MethodName) prog_3_method_11_code (2 : Nat) (Option.some Jvm.ClassFile.FieldType.int)) ∈ lw_all := lw_g (lw_at lw_m0 195 rfl) rfl
theorem q213 : (Jvm.Cond.instanceMethod ({ cls := "TermSecretsModel", name := "knows", desc := "(I)I" } : Jvm.MethodName)) ∈ lw_all := lw_g (lw_at lw_m0 197 rfl) rfl
theorem q214 : (Jvm.Cond.selects "TermSecretsModel" ({ cls := "TermSecretsModel", name := "knows", desc := "(I)I" } : Jvm.MethodName) ({ cls := "TermSecretsModel", name := "knows", desc := "(I)I" } : Jvm.MethodName)) ∈ lw_all := lw_g (lw_at lw_m0 198 rfl) rfl
theorem q215 : (Jvm.Cond.code ({ cls := "TermSecretsModel", name := "knows", desc := "(I)I" } : Jvm.MethodName) prog_3_method_12_code (2 : Nat) (Option.some Jvm.ClassFile.FieldType.int)) ∈ lw_all := lw_g (lw_at lw_m0 199 rfl) rfl
theorem q218 : (Jvm.Cond.instanceMethod ({ cls := "TermSecretsModel", name := "would", desc := "(II)I" } : Jvm.MethodName)) ∈ lw_all := lw_g (lw_at lw_m0 202 rfl) rfl
theorem q219 : (Jvm.Cond.selects "TermSecretsModel" ({ cls := "TermSecretsModel", name := "would", desc := "(II)I" } : Jvm.MethodName) ({ cls := "TermSecretsModel", name := "would", desc := "(II)I" } : Jvm.MethodName)) ∈ lw_all := lw_g (lw_at lw_m0 203 rfl) rfl
theorem q220 : (Jvm.Cond.code ({ cls := "TermSecretsModel", name := "would", desc := "(II)I" } : Jvm.MethodName) prog_3_method_14_code (3 : Nat) (Option.some Jvm.ClassFile.FieldType.int)) ∈ lw_all := lw_g (lw_at lw_m0 204 rfl) rfl
theorem q222 : (Jvm.Cond.instanceMethod ({ cls := "TermSecretsModel", name := "leak", desc := "(I)I" } : Jvm.MethodName)) ∈ lw_all := lw_g (lw_at lw_m0 206 rfl) rfl
theorem q223 : (Jvm.Cond.selects "TermSecretsModel" ({ cls := "TermSecretsModel", name := "leak", desc := "(I)I" } : Jvm.MethodName) ({ cls := "TermSecretsModel", name := "leak", desc := "(I)I" } : Jvm.MethodName)) ∈ lw_all := lw_g (lw_at lw_m0 207 rfl) rfl
theorem q224 : (Jvm.Cond.code ({ cls := "TermSecretsModel", name := "leak", desc := "(I)I" } : Jvm.MethodName) prog_3_method_15_code (3 : Nat) (Option.some Jvm.ClassFile.FieldType.int)) ∈ lw_all := lw_g (lw_at lw_m0 208 rfl) rfl
theorem q225 : (Jvm.Cond.methodLink "TermSecretsModel" (59 : Nat) ({ cls := "TermSecretsModel", name := "knows", desc := "(I)I" } : Jvm.MethodName)) ∈ lw_all := lw_g (lw_at lw_m0 209 rfl) rfl
theorem q226 : (Jvm.Cond.methodLink "TermSecretsModel" (63 : Nat) ({ cls := "TermSecretsModel", name := "would", desc := "(II)I" } : Jvm.MethodName)) ∈ lw_all := lw_g (lw_at lw_m0 210 rfl) rfl
theorem q228 : (Jvm.Cond.instanceMethod ({ cls := "TermSecretsModel", name := "atomsFor", desc := "(I)I" } : Jvm.MethodName)) ∈ lw_all := lw_g (lw_at lw_m0 212 rfl) rfl
theorem q229 : (Jvm.Cond.selects "TermSecretsModel" ({ cls := "TermSecretsModel", name := "atomsFor", desc := "(I)I" } : Jvm.MethodName) ({ cls := "TermSecretsModel", name := "atomsFor", desc := "(I)I" } : Jvm.MethodName)) ∈ lw_all := lw_g (lw_at lw_m0 213 rfl) rfl
theorem q230 : (Jvm.Cond.code ({ cls := "TermSecretsModel", name := "atomsFor", desc := "(I)I" } : Jvm.MethodName) prog_3_method_17_code (5 : Nat) (Option.some Jvm.ClassFile.FieldType.int)) ∈ lw_all := lw_g (lw_at lw_m0 214 rfl) rfl
theorem q231 : (Jvm.Cond.methodLink "TermSecretsModel" (67 : Nat) ({ cls := "TermSecretsModel", name := "ones", desc := "(I)I" } : Jvm.MethodName)) ∈ lw_all := lw_g (lw_at lw_m0 215 rfl) rfl
theorem q232 : (Jvm.Cond.static ({ cls := "TermSecretsModel", name := "ones", desc := "(I)I" } : Jvm.MethodName)) ∈ lw_all := lw_g (lw_at lw_m0 216 rfl) rfl
theorem q233 : (Jvm.Cond.code ({ cls := "TermSecretsModel", name := "ones", desc := "(I)I" } : Jvm.MethodName) prog_3_method_16_code (3 : Nat) (Option.some Jvm.ClassFile.FieldType.int)) ∈ lw_all := lw_g (lw_at lw_m0 217 rfl) rfl
theorem q235 : (Jvm.Cond.instanceMethod ({ cls := "TermSecretsModel", name := "spare", desc := "()I" } : Jvm.MethodName)) ∈ lw_all := lw_g (lw_at lw_m0 219 rfl) rfl
theorem q236 : (Jvm.Cond.selects "TermSecretsModel" ({ cls := "TermSecretsModel", name := "spare", desc := "()I" } : Jvm.MethodName) ({ cls := "TermSecretsModel", name := "spare", desc := "()I" } : Jvm.MethodName)) ∈ lw_all := lw_g (lw_at lw_m0 220 rfl) rfl
theorem q237 : (Jvm.Cond.code ({ cls := "TermSecretsModel", name := "spare", desc := "()I" } : Jvm.MethodName) prog_3_method_18_code (3 : Nat) (Option.some Jvm.ClassFile.FieldType.int)) ∈ lw_all := lw_g (lw_at lw_m0 221 rfl) rfl
theorem in_X1 : ∀ w ∈ wsX10, w ∈ lw_all := lw_in wsX10 [152, 154, 156, 158, 160, 162, 164] (by decide +kernel) (by decide +kernel)
theorem q16 : (Jvm.Cond.initialized "TermSecretsLaw") ∈ lw_all := lw_g (lw_at lw_m0 0 rfl) rfl
set_option maxRecDepth 100000
theorem q19 : (Jvm.Cond.classLink "TermSecretsLaw" (7 : Nat) "TermSecrets") ∈ lw_all := lw_g (lw_at lw_m0 3 rfl) rfl
theorem q21 : (Jvm.Cond.methodLink "TermSecretsLaw" (9 : Nat) ({ cls := "TermSecrets", name := "<init>", desc := "()V" } : Jvm.MethodName)) ∈ lw_all := lw_g (lw_at lw_m0 5 rfl) rfl
theorem q56 : (Jvm.Cond.methodLink "TermSecretsLaw" (13 : Nat) ({ cls := "TermSecrets", name := "pair", desc := "(II)I" } : Jvm.MethodName)) ∈ lw_all := lw_g (lw_at lw_m0 40 rfl) rfl
theorem q88 : (Jvm.Cond.methodLink "TermSecretsLaw" (18 : Nat) ({ cls := "TermSecrets", name := "lock", desc := "(II)I" } : Jvm.MethodName)) ∈ lw_all := lw_g (lw_at lw_m0 72 rfl) rfl
theorem q92 : (Jvm.Cond.methodLink "TermSecretsLaw" (22 : Nat) ({ cls := "TermSecrets", name := "hear", desc := "(I)I" } : Jvm.MethodName)) ∈ lw_all := lw_g (lw_at lw_m0 76 rfl) rfl
theorem q99 : (Jvm.Cond.methodLink "TermSecretsLaw" (27 : Nat) ({ cls := "TermSecrets", name := "unhear", desc := "(I)I" } : Jvm.MethodName)) ∈ lw_all := lw_g (lw_at lw_m0 83 rfl) rfl
theorem q111 : (Jvm.Cond.methodLink "TermSecretsLaw" (31 : Nat) ({ cls := "TermSecrets", name := "knows", desc := "(I)I" } : Jvm.MethodName)) ∈ lw_all := lw_g (lw_at lw_m0 95 rfl) rfl
theorem q115 : (Jvm.Cond.methodLink "TermSecretsLaw" (35 : Nat) ({ cls := "TermSecrets", name := "known", desc := "()I" } : Jvm.MethodName)) ∈ lw_all := lw_g (lw_at lw_m0 99 rfl) rfl
theorem q119 : (Jvm.Cond.methodLink "TermSecretsLaw" (40 : Nat) ({ cls := "TermSecrets", name := "would", desc := "(II)I" } : Jvm.MethodName)) ∈ lw_all := lw_g (lw_at lw_m0 103 rfl) rfl
theorem q127 : (Jvm.Cond.methodLink "TermSecretsLaw" (44 : Nat) ({ cls := "TermSecrets", name := "leak", desc := "(I)I" } : Jvm.MethodName)) ∈ lw_all := lw_g (lw_at lw_m0 111 rfl) rfl
theorem q131 : (Jvm.Cond.methodLink "TermSecretsLaw" (48 : Nat) ({ cls := "TermSecrets", name := "atomsFor", desc := "(I)I" } : Jvm.MethodName)) ∈ lw_all := lw_g (lw_at lw_m0 115 rfl) rfl
theorem q135 : (Jvm.Cond.methodLink "TermSecretsLaw" (52 : Nat) ({ cls := "TermSecrets", name := "spare", desc := "()I" } : Jvm.MethodName)) ∈ lw_all := lw_g (lw_at lw_m0 119 rfl) rfl
theorem q139 : (Jvm.Cond.classLink "TermSecretsLaw" (10 : Nat) "TermSecretsModel") ∈ lw_all := lw_g (lw_at lw_m0 123 rfl) rfl
theorem q141 : (Jvm.Cond.methodLink "TermSecretsLaw" (12 : Nat) ({ cls := "TermSecretsModel", name := "<init>", desc := "()V" } : Jvm.MethodName)) ∈ lw_all := lw_g (lw_at lw_m0 125 rfl) rfl
theorem q168 : (Jvm.Cond.methodLink "TermSecretsLaw" (17 : Nat) ({ cls := "TermSecretsModel", name := "pair", desc := "(II)I" } : Jvm.MethodName)) ∈ lw_all := lw_g (lw_at lw_m0 152 rfl) rfl
theorem q180 : (Jvm.Cond.methodLink "TermSecretsLaw" (21 : Nat) ({ cls := "TermSecretsModel", name := "lock", desc := "(II)I" } : Jvm.MethodName)) ∈ lw_all := lw_g (lw_at lw_m0 164 rfl) rfl
theorem q184 : (Jvm.Cond.methodLink "TermSecretsLaw" (26 : Nat) ({ cls := "TermSecretsModel", name := "hear", desc := "(I)I" } : Jvm.MethodName)) ∈ lw_all := lw_g (lw_at lw_m0 168 rfl) rfl
theorem q208 : (Jvm.Cond.methodLink "TermSecretsLaw" (30 : Nat) ({ cls := "TermSecretsModel", name := "unhear", desc := "(I)I" } : Jvm.MethodName)) ∈ lw_all := lw_g (lw_at lw_m0 192 rfl) rfl
theorem q212 : (Jvm.Cond.methodLink "TermSecretsLaw" (34 : Nat) ({ cls := "TermSecretsModel", name := "knows", desc := "(I)I" } : Jvm.MethodName)) ∈ lw_all := lw_g (lw_at lw_m0 196 rfl) rfl
theorem q216 : (Jvm.Cond.methodLink "TermSecretsLaw" (39 : Nat) ({ cls := "TermSecretsModel", name := "known", desc := "()I" } : Jvm.MethodName)) ∈ lw_all := lw_g (lw_at lw_m0 200 rfl) rfl
theorem q217 : (Jvm.Cond.methodLink "TermSecretsLaw" (43 : Nat) ({ cls := "TermSecretsModel", name := "would", desc := "(II)I" } : Jvm.MethodName)) ∈ lw_all := lw_g (lw_at lw_m0 201 rfl) rfl
theorem q221 : (Jvm.Cond.methodLink "TermSecretsLaw" (47 : Nat) ({ cls := "TermSecretsModel", name := "leak", desc := "(I)I" } : Jvm.MethodName)) ∈ lw_all := lw_g (lw_at lw_m0 205 rfl) rfl
theorem q227 : (Jvm.Cond.methodLink "TermSecretsLaw" (51 : Nat) ({ cls := "TermSecretsModel", name := "atomsFor", desc := "(I)I" } : Jvm.MethodName)) ∈ lw_all := lw_g (lw_at lw_m0 211 rfl) rfl
theorem q234 : (Jvm.Cond.methodLink "TermSecretsLaw" (55 : Nat) ({ cls := "TermSecretsModel", name := "spare", desc := "()I" } : Jvm.MethodName)) ∈ lw_all := lw_g (lw_at lw_m0 218 rfl) rfl
end
section
/-! the law's own entry -/
set_option maxRecDepth 100000
abbrev cL_law : ByteArray := code
theorem dL_law_0 : decode cL_law 0 = .ok (.new 7, 3) := by decide +kernel
theorem dL_law_3 : decode cL_law 3 = .ok (.dup, 1) := by decide +kernel
theorem dL_law_4 : decode cL_law 4 = .ok (.invokespecial 9, 3) := by decide +kernel
theorem dL_law_7 : decode cL_law 7 = .ok (.astore_n 1, 1) := by decide +kernel
theorem dL_law_8 : decode cL_law 8 = .ok (.new 10, 3) := by decide +kernel
theorem dL_law_11 : decode cL_law 11 = .ok (.dup, 1) := by decide +kernel
theorem dL_law_12 : decode cL_law 12 = .ok (.invokespecial 12, 3) := by decide +kernel
theorem dL_law_15 : decode cL_law 15 = .ok (.astore_n 2, 1) := by decide +kernel
theorem dL_law_16 : decode cL_law 16 = .ok (.iconst 0, 1) := by decide +kernel
theorem dL_law_17 : decode cL_law 17 = .ok (.istore_n 3, 1) := by decide +kernel
theorem dL_law_18 : decode cL_law 18 = .ok (.iload_n 3, 1) := by decide +kernel
theorem dL_law_19 : decode cL_law 19 = .ok (.aload_n 0, 1) := by decide +kernel
theorem dL_law_20 : decode cL_law 20 = .ok (.arraylength, 1) := by decide +kernel
theorem dL_law_21 : decode cL_law 21 = .ok (.iconst 3, 1) := by decide +kernel
theorem dL_law_22 : decode cL_law 22 = .ok (.isub, 1) := by decide +kernel
theorem dL_law_23 : decode cL_law 23 = .ok (.if_icmp .gt 311, 3) := by decide +kernel
theorem dL_law_26 : decode cL_law 26 = .ok (.aload_n 0, 1) := by decide +kernel
theorem dL_law_27 : decode cL_law 27 = .ok (.iload_n 3, 1) := by decide +kernel
theorem dL_law_28 : decode cL_law 28 = .ok (.iaload, 1) := by decide +kernel
theorem dL_law_29 : decode cL_law 29 = .ok (.bipush 15, 2) := by decide +kernel
theorem dL_law_31 : decode cL_law 31 = .ok (.iand, 1) := by decide +kernel
theorem dL_law_32 : decode cL_law 32 = .ok (.tableswitch 296 0 9 #[56, 89, 122, 145, 168, 191, 204, 237, 260, 283], 56) := by decide +kernel
theorem dL_law_88 : decode cL_law 88 = .ok (.aload_n 1, 1) := by decide +kernel
theorem dL_law_89 : decode cL_law 89 = .ok (.aload_n 0, 1) := by decide +kernel
theorem dL_law_90 : decode cL_law 90 = .ok (.iload_n 3, 1) := by decide +kernel
theorem dL_law_91 : decode cL_law 91 = .ok (.iconst 1, 1) := by decide +kernel
theorem dL_law_92 : decode cL_law 92 = .ok (.iadd, 1) := by decide +kernel
theorem dL_law_93 : decode cL_law 93 = .ok (.iaload, 1) := by decide +kernel
theorem dL_law_94 : decode cL_law 94 = .ok (.aload_n 0, 1) := by decide +kernel
theorem dL_law_95 : decode cL_law 95 = .ok (.iload_n 3, 1) := by decide +kernel
theorem dL_law_96 : decode cL_law 96 = .ok (.iconst 2, 1) := by decide +kernel
theorem dL_law_97 : decode cL_law 97 = .ok (.iadd, 1) := by decide +kernel
theorem dL_law_98 : decode cL_law 98 = .ok (.iaload, 1) := by decide +kernel
theorem dL_law_99 : decode cL_law 99 = .ok (.invokevirtual 13, 3) := by decide +kernel
theorem dL_law_102 : decode cL_law 102 = .ok (.aload_n 2, 1) := by decide +kernel
theorem dL_law_103 : decode cL_law 103 = .ok (.aload_n 0, 1) := by decide +kernel
theorem dL_law_104 : decode cL_law 104 = .ok (.iload_n 3, 1) := by decide +kernel
theorem dL_law_105 : decode cL_law 105 = .ok (.iconst 1, 1) := by decide +kernel
theorem dL_law_106 : decode cL_law 106 = .ok (.iadd, 1) := by decide +kernel
theorem dL_law_107 : decode cL_law 107 = .ok (.iaload, 1) := by decide +kernel
theorem dL_law_108 : decode cL_law 108 = .ok (.aload_n 0, 1) := by decide +kernel
theorem dL_law_109 : decode cL_law 109 = .ok (.iload_n 3, 1) := by decide +kernel
theorem dL_law_110 : decode cL_law 110 = .ok (.iconst 2, 1) := by decide +kernel
theorem dL_law_111 : decode cL_law 111 = .ok (.iadd, 1) := by decide +kernel
theorem dL_law_112 : decode cL_law 112 = .ok (.iaload, 1) := by decide +kernel
theorem dL_law_113 : decode cL_law 113 = .ok (.invokevirtual 17, 3) := by decide +kernel
theorem dL_law_116 : decode cL_law 116 = .ok (.if_icmp .eq 212, 3) := by decide +kernel
theorem dL_law_119 : decode cL_law 119 = .ok (.iconst 0, 1) := by decide +kernel
theorem dL_law_120 : decode cL_law 120 = .ok (.ireturn, 1) := by decide +kernel
theorem dL_law_121 : decode cL_law 121 = .ok (.aload_n 1, 1) := by decide +kernel
theorem dL_law_122 : decode cL_law 122 = .ok (.aload_n 0, 1) := by decide +kernel
theorem dL_law_123 : decode cL_law 123 = .ok (.iload_n 3, 1) := by decide +kernel
theorem dL_law_124 : decode cL_law 124 = .ok (.iconst 1, 1) := by decide +kernel
theorem dL_law_125 : decode cL_law 125 = .ok (.iadd, 1) := by decide +kernel
theorem dL_law_126 : decode cL_law 126 = .ok (.iaload, 1) := by decide +kernel
theorem dL_law_127 : decode cL_law 127 = .ok (.aload_n 0, 1) := by decide +kernel
theorem dL_law_128 : decode cL_law 128 = .ok (.iload_n 3, 1) := by decide +kernel
theorem dL_law_129 : decode cL_law 129 = .ok (.iconst 2, 1) := by decide +kernel
theorem dL_law_130 : decode cL_law 130 = .ok (.iadd, 1) := by decide +kernel
theorem dL_law_131 : decode cL_law 131 = .ok (.iaload, 1) := by decide +kernel
theorem dL_law_132 : decode cL_law 132 = .ok (.invokevirtual 18, 3) := by decide +kernel
theorem dL_law_135 : decode cL_law 135 = .ok (.aload_n 2, 1) := by decide +kernel
theorem dL_law_136 : decode cL_law 136 = .ok (.aload_n 0, 1) := by decide +kernel
theorem dL_law_137 : decode cL_law 137 = .ok (.iload_n 3, 1) := by decide +kernel
theorem dL_law_138 : decode cL_law 138 = .ok (.iconst 1, 1) := by decide +kernel
theorem dL_law_139 : decode cL_law 139 = .ok (.iadd, 1) := by decide +kernel
theorem dL_law_140 : decode cL_law 140 = .ok (.iaload, 1) := by decide +kernel
theorem dL_law_141 : decode cL_law 141 = .ok (.aload_n 0, 1) := by decide +kernel
theorem dL_law_142 : decode cL_law 142 = .ok (.iload_n 3, 1) := by decide +kernel
theorem dL_law_143 : decode cL_law 143 = .ok (.iconst 2, 1) := by decide +kernel
theorem dL_law_144 : decode cL_law 144 = .ok (.iadd, 1) := by decide +kernel
theorem dL_law_145 : decode cL_law 145 = .ok (.iaload, 1) := by decide +kernel
theorem dL_law_146 : decode cL_law 146 = .ok (.invokevirtual 21, 3) := by decide +kernel
theorem dL_law_149 : decode cL_law 149 = .ok (.if_icmp .eq 179, 3) := by decide +kernel
theorem dL_law_152 : decode cL_law 152 = .ok (.iconst 0, 1) := by decide +kernel
theorem dL_law_153 : decode cL_law 153 = .ok (.ireturn, 1) := by decide +kernel
theorem dL_law_154 : decode cL_law 154 = .ok (.aload_n 1, 1) := by decide +kernel
theorem dL_law_155 : decode cL_law 155 = .ok (.aload_n 0, 1) := by decide +kernel
theorem dL_law_156 : decode cL_law 156 = .ok (.iload_n 3, 1) := by decide +kernel
theorem dL_law_157 : decode cL_law 157 = .ok (.iconst 1, 1) := by decide +kernel
theorem dL_law_158 : decode cL_law 158 = .ok (.iadd, 1) := by decide +kernel
theorem dL_law_159 : decode cL_law 159 = .ok (.iaload, 1) := by decide +kernel
theorem dL_law_160 : decode cL_law 160 = .ok (.invokevirtual 22, 3) := by decide +kernel
theorem dL_law_163 : decode cL_law 163 = .ok (.aload_n 2, 1) := by decide +kernel
theorem dL_law_164 : decode cL_law 164 = .ok (.aload_n 0, 1) := by decide +kernel
theorem dL_law_165 : decode cL_law 165 = .ok (.iload_n 3, 1) := by decide +kernel
theorem dL_law_166 : decode cL_law 166 = .ok (.iconst 1, 1) := by decide +kernel
theorem dL_law_167 : decode cL_law 167 = .ok (.iadd, 1) := by decide +kernel
theorem dL_law_168 : decode cL_law 168 = .ok (.iaload, 1) := by decide +kernel
theorem dL_law_169 : decode cL_law 169 = .ok (.invokevirtual 26, 3) := by decide +kernel
theorem dL_law_172 : decode cL_law 172 = .ok (.if_icmp .eq 156, 3) := by decide +kernel
theorem dL_law_175 : decode cL_law 175 = .ok (.iconst 0, 1) := by decide +kernel
theorem dL_law_176 : decode cL_law 176 = .ok (.ireturn, 1) := by decide +kernel
theorem dL_law_177 : decode cL_law 177 = .ok (.aload_n 1, 1) := by decide +kernel
theorem dL_law_178 : decode cL_law 178 = .ok (.aload_n 0, 1) := by decide +kernel
theorem dL_law_179 : decode cL_law 179 = .ok (.iload_n 3, 1) := by decide +kernel
theorem dL_law_180 : decode cL_law 180 = .ok (.iconst 1, 1) := by decide +kernel
theorem dL_law_181 : decode cL_law 181 = .ok (.iadd, 1) := by decide +kernel
theorem dL_law_182 : decode cL_law 182 = .ok (.iaload, 1) := by decide +kernel
theorem dL_law_183 : decode cL_law 183 = .ok (.invokevirtual 27, 3) := by decide +kernel
theorem dL_law_186 : decode cL_law 186 = .ok (.aload_n 2, 1) := by decide +kernel
theorem dL_law_187 : decode cL_law 187 = .ok (.aload_n 0, 1) := by decide +kernel
theorem dL_law_188 : decode cL_law 188 = .ok (.iload_n 3, 1) := by decide +kernel
theorem dL_law_189 : decode cL_law 189 = .ok (.iconst 1, 1) := by decide +kernel
theorem dL_law_190 : decode cL_law 190 = .ok (.iadd, 1) := by decide +kernel
theorem dL_law_191 : decode cL_law 191 = .ok (.iaload, 1) := by decide +kernel
theorem dL_law_192 : decode cL_law 192 = .ok (.invokevirtual 30, 3) := by decide +kernel
theorem dL_law_195 : decode cL_law 195 = .ok (.if_icmp .eq 133, 3) := by decide +kernel
theorem dL_law_198 : decode cL_law 198 = .ok (.iconst 0, 1) := by decide +kernel
theorem dL_law_199 : decode cL_law 199 = .ok (.ireturn, 1) := by decide +kernel
theorem dL_law_200 : decode cL_law 200 = .ok (.aload_n 1, 1) := by decide +kernel
theorem dL_law_201 : decode cL_law 201 = .ok (.aload_n 0, 1) := by decide +kernel
theorem dL_law_202 : decode cL_law 202 = .ok (.iload_n 3, 1) := by decide +kernel
theorem dL_law_203 : decode cL_law 203 = .ok (.iconst 1, 1) := by decide +kernel
theorem dL_law_204 : decode cL_law 204 = .ok (.iadd, 1) := by decide +kernel
theorem dL_law_205 : decode cL_law 205 = .ok (.iaload, 1) := by decide +kernel
theorem dL_law_206 : decode cL_law 206 = .ok (.invokevirtual 31, 3) := by decide +kernel
theorem dL_law_209 : decode cL_law 209 = .ok (.aload_n 2, 1) := by decide +kernel
theorem dL_law_210 : decode cL_law 210 = .ok (.aload_n 0, 1) := by decide +kernel
theorem dL_law_211 : decode cL_law 211 = .ok (.iload_n 3, 1) := by decide +kernel
theorem dL_law_212 : decode cL_law 212 = .ok (.iconst 1, 1) := by decide +kernel
theorem dL_law_213 : decode cL_law 213 = .ok (.iadd, 1) := by decide +kernel
theorem dL_law_214 : decode cL_law 214 = .ok (.iaload, 1) := by decide +kernel
theorem dL_law_215 : decode cL_law 215 = .ok (.invokevirtual 34, 3) := by decide +kernel
theorem dL_law_218 : decode cL_law 218 = .ok (.if_icmp .eq 110, 3) := by decide +kernel
theorem dL_law_221 : decode cL_law 221 = .ok (.iconst 0, 1) := by decide +kernel
theorem dL_law_222 : decode cL_law 222 = .ok (.ireturn, 1) := by decide +kernel
theorem dL_law_223 : decode cL_law 223 = .ok (.aload_n 1, 1) := by decide +kernel
theorem dL_law_224 : decode cL_law 224 = .ok (.invokevirtual 35, 3) := by decide +kernel
theorem dL_law_227 : decode cL_law 227 = .ok (.aload_n 2, 1) := by decide +kernel
theorem dL_law_228 : decode cL_law 228 = .ok (.invokevirtual 39, 3) := by decide +kernel
theorem dL_law_231 : decode cL_law 231 = .ok (.if_icmp .eq 97, 3) := by decide +kernel
theorem dL_law_234 : decode cL_law 234 = .ok (.iconst 0, 1) := by decide +kernel
theorem dL_law_235 : decode cL_law 235 = .ok (.ireturn, 1) := by decide +kernel
theorem dL_law_236 : decode cL_law 236 = .ok (.aload_n 1, 1) := by decide +kernel
theorem dL_law_237 : decode cL_law 237 = .ok (.aload_n 0, 1) := by decide +kernel
theorem dL_law_238 : decode cL_law 238 = .ok (.iload_n 3, 1) := by decide +kernel
theorem dL_law_239 : decode cL_law 239 = .ok (.iconst 1, 1) := by decide +kernel
theorem dL_law_240 : decode cL_law 240 = .ok (.iadd, 1) := by decide +kernel
theorem dL_law_241 : decode cL_law 241 = .ok (.iaload, 1) := by decide +kernel
theorem dL_law_242 : decode cL_law 242 = .ok (.aload_n 0, 1) := by decide +kernel
theorem dL_law_243 : decode cL_law 243 = .ok (.iload_n 3, 1) := by decide +kernel
theorem dL_law_244 : decode cL_law 244 = .ok (.iconst 2, 1) := by decide +kernel
theorem dL_law_245 : decode cL_law 245 = .ok (.iadd, 1) := by decide +kernel
theorem dL_law_246 : decode cL_law 246 = .ok (.iaload, 1) := by decide +kernel
theorem dL_law_247 : decode cL_law 247 = .ok (.invokevirtual 40, 3) := by decide +kernel
theorem dL_law_250 : decode cL_law 250 = .ok (.aload_n 2, 1) := by decide +kernel
theorem dL_law_251 : decode cL_law 251 = .ok (.aload_n 0, 1) := by decide +kernel
theorem dL_law_252 : decode cL_law 252 = .ok (.iload_n 3, 1) := by decide +kernel
theorem dL_law_253 : decode cL_law 253 = .ok (.iconst 1, 1) := by decide +kernel
theorem dL_law_254 : decode cL_law 254 = .ok (.iadd, 1) := by decide +kernel
theorem dL_law_255 : decode cL_law 255 = .ok (.iaload, 1) := by decide +kernel
theorem dL_law_256 : decode cL_law 256 = .ok (.aload_n 0, 1) := by decide +kernel
theorem dL_law_257 : decode cL_law 257 = .ok (.iload_n 3, 1) := by decide +kernel
theorem dL_law_258 : decode cL_law 258 = .ok (.iconst 2, 1) := by decide +kernel
theorem dL_law_259 : decode cL_law 259 = .ok (.iadd, 1) := by decide +kernel
theorem dL_law_260 : decode cL_law 260 = .ok (.iaload, 1) := by decide +kernel
theorem dL_law_261 : decode cL_law 261 = .ok (.invokevirtual 43, 3) := by decide +kernel
theorem dL_law_264 : decode cL_law 264 = .ok (.if_icmp .eq 64, 3) := by decide +kernel
theorem dL_law_267 : decode cL_law 267 = .ok (.iconst 0, 1) := by decide +kernel
theorem dL_law_268 : decode cL_law 268 = .ok (.ireturn, 1) := by decide +kernel
theorem dL_law_269 : decode cL_law 269 = .ok (.aload_n 1, 1) := by decide +kernel
theorem dL_law_270 : decode cL_law 270 = .ok (.aload_n 0, 1) := by decide +kernel
theorem dL_law_271 : decode cL_law 271 = .ok (.iload_n 3, 1) := by decide +kernel
theorem dL_law_272 : decode cL_law 272 = .ok (.iconst 1, 1) := by decide +kernel
theorem dL_law_273 : decode cL_law 273 = .ok (.iadd, 1) := by decide +kernel
theorem dL_law_274 : decode cL_law 274 = .ok (.iaload, 1) := by decide +kernel
theorem dL_law_275 : decode cL_law 275 = .ok (.invokevirtual 44, 3) := by decide +kernel
theorem dL_law_278 : decode cL_law 278 = .ok (.aload_n 2, 1) := by decide +kernel
theorem dL_law_279 : decode cL_law 279 = .ok (.aload_n 0, 1) := by decide +kernel
theorem dL_law_280 : decode cL_law 280 = .ok (.iload_n 3, 1) := by decide +kernel
theorem dL_law_281 : decode cL_law 281 = .ok (.iconst 1, 1) := by decide +kernel
theorem dL_law_282 : decode cL_law 282 = .ok (.iadd, 1) := by decide +kernel
theorem dL_law_283 : decode cL_law 283 = .ok (.iaload, 1) := by decide +kernel
theorem dL_law_284 : decode cL_law 284 = .ok (.invokevirtual 47, 3) := by decide +kernel
theorem dL_law_287 : decode cL_law 287 = .ok (.if_icmp .eq 41, 3) := by decide +kernel
theorem dL_law_290 : decode cL_law 290 = .ok (.iconst 0, 1) := by decide +kernel
theorem dL_law_291 : decode cL_law 291 = .ok (.ireturn, 1) := by decide +kernel
theorem dL_law_292 : decode cL_law 292 = .ok (.aload_n 1, 1) := by decide +kernel
theorem dL_law_293 : decode cL_law 293 = .ok (.aload_n 0, 1) := by decide +kernel
theorem dL_law_294 : decode cL_law 294 = .ok (.iload_n 3, 1) := by decide +kernel
theorem dL_law_295 : decode cL_law 295 = .ok (.iconst 1, 1) := by decide +kernel
theorem dL_law_296 : decode cL_law 296 = .ok (.iadd, 1) := by decide +kernel
theorem dL_law_297 : decode cL_law 297 = .ok (.iaload, 1) := by decide +kernel
theorem dL_law_298 : decode cL_law 298 = .ok (.invokevirtual 48, 3) := by decide +kernel
theorem dL_law_301 : decode cL_law 301 = .ok (.aload_n 2, 1) := by decide +kernel
theorem dL_law_302 : decode cL_law 302 = .ok (.aload_n 0, 1) := by decide +kernel
theorem dL_law_303 : decode cL_law 303 = .ok (.iload_n 3, 1) := by decide +kernel
theorem dL_law_304 : decode cL_law 304 = .ok (.iconst 1, 1) := by decide +kernel
theorem dL_law_305 : decode cL_law 305 = .ok (.iadd, 1) := by decide +kernel
theorem dL_law_306 : decode cL_law 306 = .ok (.iaload, 1) := by decide +kernel
theorem dL_law_307 : decode cL_law 307 = .ok (.invokevirtual 51, 3) := by decide +kernel
theorem dL_law_310 : decode cL_law 310 = .ok (.if_icmp .eq 18, 3) := by decide +kernel
theorem dL_law_313 : decode cL_law 313 = .ok (.iconst 0, 1) := by decide +kernel
theorem dL_law_314 : decode cL_law 314 = .ok (.ireturn, 1) := by decide +kernel
theorem dL_law_315 : decode cL_law 315 = .ok (.aload_n 1, 1) := by decide +kernel
theorem dL_law_316 : decode cL_law 316 = .ok (.invokevirtual 52, 3) := by decide +kernel
theorem dL_law_319 : decode cL_law 319 = .ok (.aload_n 2, 1) := by decide +kernel
theorem dL_law_320 : decode cL_law 320 = .ok (.invokevirtual 55, 3) := by decide +kernel
theorem dL_law_323 : decode cL_law 323 = .ok (.if_icmp .eq 5, 3) := by decide +kernel
theorem dL_law_326 : decode cL_law 326 = .ok (.iconst 0, 1) := by decide +kernel
theorem dL_law_327 : decode cL_law 327 = .ok (.ireturn, 1) := by decide +kernel
theorem dL_law_328 : decode cL_law 328 = .ok (.iinc 3 3, 3) := by decide +kernel
theorem dL_law_331 : decode cL_law 331 = .ok (.goto (-313), 3) := by decide +kernel
theorem dL_law_334 : decode cL_law 334 = .ok (.iconst 1, 1) := by decide +kernel
theorem dL_law_335 : decode cL_law 335 = .ok (.ireturn, 1) := by decide +kernel
end
section
/-! PURE 1: sets of terms as the bits of a Nat -/
abbrev tb (k i : Nat) : Prop := k.testBit i = true
def sbt (a c : Nat) : Prop := ∀ i, tb a i → tb c i
theorem sbt_rf (a : Nat) : sbt a a := fun _ h => h
theorem sbt_tr {a b c : Nat} (h1 : sbt a b) (h2 : sbt b c) : sbt a c := fun i h => h2 i (h1 i h)
theorem tb_ext {a b : Nat} (h : ∀ i, tb a i ↔ tb b i) : a = b := Nat.eq_of_testBit_eq (fun i => Bool.eq_iff_iff.mpr (h i))
theorem tb_zero (i : Nat) : ¬ tb 0 i := by
  intro h
  rw [tb, Nat.zero_testBit] at h
  cases h
theorem tb_out {k n i : Nat} (h : k < 2 ^ n) (hi : n ≤ i) : k.testBit i = false := Nat.testBit_lt_two_pow (Nat.lt_of_lt_of_le h (Nat.pow_le_pow_right (by omega) hi))
theorem tb_lt {k n i : Nat} (h : k < 2 ^ n) (hi : tb k i) : i < n := by
  rcases Nat.lt_or_ge i n with q | q
  · exact q
  · rw [tb, tb_out h q] at hi
    cases hi
theorem lt_of_tb {k n : Nat} (h : ∀ i, tb k i → i < n) : k < 2 ^ n := Nat.lt_pow_two_of_testBit k (fun i hi => by
  cases hb : k.testBit i with
  | false => rfl
  | true => exact absurd (h i hb) (by omega))
theorem p2_le {k n : Nat} (h : k < 2 ^ n) (hn : n ≤ 28) : k < 268435456 := Nat.lt_of_lt_of_le h (Nat.pow_le_pow_right (n := 2) (by omega) hn)
def setb (k t : Nat) (v : Bool) : Nat := if k.testBit t = v then k else k ^^^ 2 ^ t
theorem setb_tb (k t : Nat) (v : Bool) (i : Nat) : (setb k t v).testBit i = if i = t then v else k.testBit i := by
  unfold setb
  by_cases hv : k.testBit t = v
  · rw [if_pos hv]
    by_cases hi : i = t
    · rw [if_pos hi, hi, hv]
    · rw [if_neg hi]
  · rw [if_neg hv, Nat.testBit_xor, Nat.testBit_two_pow]
    by_cases hi : i = t
    · subst hi
      rw [if_pos rfl, decide_eq_true rfl]
      revert hv
      generalize k.testBit i = b
      cases b <;> cases v <;> decide
    · rw [if_neg hi, decide_eq_false (fun q => hi q.symm)]
      generalize k.testBit i = b
      cases b <;> rfl
theorem setb_t {k t i : Nat} : tb (setb k t true) i ↔ i = t ∨ tb k i := by
  unfold tb
  rw [setb_tb]
  by_cases h : i = t
  · rw [if_pos h]; exact ⟨fun _ => Or.inl h, fun _ => rfl⟩
  · rw [if_neg h]; exact ⟨Or.inr, fun q => q.resolve_left h⟩
theorem setb_f {k t i : Nat} : tb (setb k t false) i ↔ i ≠ t ∧ tb k i := by
  unfold tb
  rw [setb_tb]
  by_cases h : i = t
  · rw [if_pos h]; exact ⟨fun q => (by cases q), fun q => absurd h q.1⟩
  · rw [if_neg h]; exact ⟨fun q => ⟨h, q⟩, fun q => q.2⟩
theorem setb_self (k t : Nat) : tb (setb k t true) t := setb_t.mpr (Or.inl rfl)
theorem setb_sub (k t : Nat) : sbt k (setb k t true) := fun _ h => setb_t.mpr (Or.inr h)
theorem setb_lt {k t n : Nat} {v : Bool} (h : k < 2 ^ n) (ht : t < n) : setb k t v < 2 ^ n := by
  refine lt_of_tb (fun i hi => ?_)
  unfold tb at hi
  rw [setb_tb] at hi
  by_cases hit : i = t
  · omega
  · rw [if_neg hit] at hi
    exact tb_lt h hi
theorem setb_has {k t : Nat} (h : tb k t) : setb k t true = k := if_pos h
theorem or_setb (k t : Nat) : k ||| 2 ^ t = setb k t true := by
  apply Nat.eq_of_testBit_eq
  intro i
  rw [Nat.testBit_or, Nat.testBit_two_pow, setb_tb]
  by_cases h : i = t
  · rw [if_pos h, decide_eq_true h.symm]
    generalize k.testBit i = b
    cases b <;> rfl
  · rw [if_neg h, decide_eq_false (fun q => h q.symm)]
    generalize k.testBit i = b
    cases b <;> rfl
/-! how many -/
def cnt (k : Nat) : Nat → Nat
  | 0 => 0
  | m + 1 => cnt k m + (k.testBit m).toNat
theorem btn_le (b : Bool) : b.toNat ≤ 1 := by cases b <;> decide
theorem cnt_le (k : Nat) : ∀ m, cnt k m ≤ m
  | 0 => Nat.le_refl 0
  | m + 1 => by
    have h1 := cnt_le k m
    have h2 := btn_le (k.testBit m)
    show cnt k m + (k.testBit m).toNat ≤ m + 1
    omega
theorem cnt_same {a c : Nat} : ∀ m, (∀ i, i < m → a.testBit i = c.testBit i) → cnt a m = cnt c m
  | 0, _ => rfl
  | m + 1, h => by
    show cnt a m + (a.testBit m).toNat = cnt c m + (c.testBit m).toNat
    rw [cnt_same m (fun i hi => h i (by omega)), h m (by omega)]
theorem cnt_sub {a c : Nat} (h : sbt a c) : ∀ m, cnt a m ≤ cnt c m
  | 0 => Nat.le_refl 0
  | m + 1 => by
    have h1 := cnt_sub h m
    have h2 : (a.testBit m).toNat ≤ (c.testBit m).toNat := by
      have h3 := h m
      unfold tb at h3
      revert h3
      generalize a.testBit m = x
      generalize c.testBit m = y
      cases x <;> cases y <;> simp
    show cnt a m + (a.testBit m).toNat ≤ cnt c m + (c.testBit m).toNat
    omega
theorem cnt_gap {a c t : Nat} (h : sbt a c) (ha : a.testBit t = false) (hc : tb c t) : ∀ m, t < m → cnt a m < cnt c m
  | 0, q => absurd q (by omega)
  | m + 1, q => by
    show cnt a m + (a.testBit m).toNat < cnt c m + (c.testBit m).toNat
    by_cases e : t = m
    · subst e
      have h1 := cnt_sub h t
      rw [ha, show c.testBit t = true from hc]
      simp
      omega
    · have h1 := cnt_gap h ha hc m (by omega)
      have h2 : (a.testBit m).toNat ≤ (c.testBit m).toNat := by
        have h3 := h m
        unfold tb at h3
        revert h3
        generalize a.testBit m = x
        generalize c.testBit m = y
        cases x <;> cases y <;> simp
      omega
theorem cnt_set {k t : Nat} (h : k.testBit t = false) : ∀ m, t < m → cnt (setb k t true) m = cnt k m + 1
  | 0, q => absurd q (by omega)
  | m + 1, q => by
    show cnt (setb k t true) m + ((setb k t true).testBit m).toNat = cnt k m + (k.testBit m).toNat + 1
    by_cases e : m = t
    · subst e
      rw [setb_tb, if_pos rfl, h, cnt_same (c := k) m (fun i hi => by rw [setb_tb, if_neg (by omega)])]
      rfl
    · rw [setb_tb, if_neg e, cnt_set h m (by omega)]
      omega
theorem cnt_lt {k t m : Nat} (ht : t < m) (h : k.testBit t = false) : cnt k m < m := by
  have h1 := cnt_le (setb k t true) m
  rw [cnt_set h m ht] at h1
  omega
theorem cnt_top {k n : Nat} (h : k < 2 ^ n) : ∀ m, n ≤ m → cnt k m = cnt k n
  | 0, q => by rw [show n = 0 by omega]
  | m + 1, q => by
    by_cases e : n = m + 1
    · rw [e]
    · show cnt k m + (k.testBit m).toNat = cnt k n
      rw [cnt_top h m (by omega), tb_out h (by omega)]
      rfl
theorem cnt_ne {a c m : Nat} (h : sbt a c) (hc : c < 2 ^ m) (hn : a ≠ c) : cnt a m < cnt c m := by
  rcases Nat.lt_or_ge (cnt a m) (cnt c m) with q | q
  · exact q
  · refine absurd (tb_ext (fun i => ⟨h i, fun hi => ?_⟩)) hn
    cases hb : a.testBit i with
    | true => exact hb
    | false => exact absurd (cnt_gap h hb hi m (tb_lt hc hi)) (by omega)
/-- counting by any test -/
def cntf (f : Nat → Bool) : Nat → Nat
  | 0 => 0
  | m + 1 => cntf f m + (f m).toNat
theorem cntf_le (f : Nat → Bool) : ∀ m, cntf f m ≤ m
  | 0 => Nat.le_refl 0
  | m + 1 => by
    have h1 := cntf_le f m
    have h2 := btn_le (f m)
    show cntf f m + (f m).toNat ≤ m + 1
    omega
theorem cntf_same {f g : Nat → Bool} : ∀ m, (∀ i, i < m → (f i = true ↔ g i = true)) → cntf f m = cntf g m
  | 0, _ => rfl
  | m + 1, h => by
    show cntf f m + (f m).toNat = cntf g m + (g m).toNat
    rw [cntf_same m (fun i hi => h i (by omega)), Bool.eq_iff_iff.mpr (h m (by omega))]
/-! PURE 2: terms and rules -/
def tOK (n : Nat) (S L R : Nat → Nat) : Prop := 8 ≤ n ∧ n ≤ 28 ∧ (∀ t, t < 8 → S t = 0) ∧ ∀ t, 8 ≤ t → t < n → (S t = 1 ∨ S t = 2) ∧ L t < n ∧ R t < n
def uOK (n : Nat) (L R U : Nat → Nat) : Prop := ∀ t, t < 28 → ∀ u, tb (U t) u ↔ (8 ≤ u ∧ u < n ∧ (L u = t ∨ R u = t))
theorem uOK_lt {n : Nat} {L R U : Nat → Nat} (hn : n ≤ 28) (h : uOK n L R U) {t : Nat} (ht : t < 28) : U t < 268435456 := by
  have h1 : U t < 2 ^ 28 := lt_of_tb (fun i hi => by
    have := (h t ht i).mp hi
    omega)
  exact h1
def cR (S L R : Nat → Nat) (k k' u : Nat) : Prop := (S u = 1 → tb k u → tb k' (L u) ∧ tb k' (R u)) ∧ (S u = 2 → tb k u → tb k (L u) → tb k' (R u)) ∧ (tb k (L u) → tb k (R u) → tb k' u)
theorem cR_mono {S L R : Nat → Nat} {a b c d u : Nat} (h : cR S L R b c u) (h1 : sbt a b) (h2 : sbt c d) : cR S L R a d u :=
  ⟨fun q w => ⟨h2 _ (h.1 q (h1 _ w)).1, h2 _ (h.1 q (h1 _ w)).2⟩, fun q w x => h2 _ (h.2.1 q (h1 _ w) (h1 _ x)), fun w x => h2 _ (h.2.2 (h1 _ w) (h1 _ x))⟩
def Clo (n : Nat) (S L R : Nat → Nat) (k : Nat) : Prop := ∀ u, 8 ≤ u → u < n → cR S L R k k u
theorem Clo_0 (n : Nat) (S L R : Nat → Nat) : Clo n S L R 0 := fun u _ _ => ⟨fun _ h => absurd h (tb_zero _), fun _ h => absurd h (tb_zero _), fun h => absurd h (tb_zero _)⟩
def snd_ (n : Nat) (S L R : Nat → Nat) (k k' : Nat) : Prop := ∀ c, Clo n S L R c → sbt k c → sbt k' c
theorem snd_rf (n : Nat) (S L R : Nat → Nat) (k : Nat) : snd_ n S L R k k := fun _ _ h => h
theorem snd_tr {n : Nat} {S L R : Nat → Nat} {a b c : Nat} (h1 : snd_ n S L R a b) (h2 : snd_ n S L R b c) : snd_ n S L R a c := fun x hx h => h2 x hx (h1 x hx h)
/-- one more term that every closed set has -/
theorem snd_set {n : Nat} {S L R : Nat → Nat} {k t : Nat} (h : ∀ c, Clo n S L R c → sbt k c → tb c t) : snd_ n S L R k (setb k t true) := by
  intro c hc hs i hi
  rcases setb_t.mp hi with e | e
  · rw [e]; exact h c hc hs
  · exact hs i e
/-- k is the closure of P -/
def isC (n : Nat) (S L R : Nat → Nat) (P : Nat → Prop) (k : Nat) : Prop := k < 2 ^ n ∧ (∀ i, P i → tb k i) ∧ Clo n S L R k ∧ ∀ c, Clo n S L R c → (∀ i, P i → tb c i) → sbt k c
/-- g follows from P -/
def der (n : Nat) (S L R : Nat → Nat) (P : Nat → Prop) (g : Nat) : Prop := ∀ c, Clo n S L R c → (∀ i, P i → tb c i) → tb c g
theorem isC_der {n : Nat} {S L R : Nat → Nat} {P : Nat → Prop} {k : Nat} (h : isC n S L R P k) (g : Nat) : tb k g ↔ der n S L R P g := ⟨fun q c hc hp => h.2.2.2 c hc hp g q, fun q => q k h.2.2.1 h.2.1⟩
theorem der_iff {n : Nat} {S L R : Nat → Nat} {P Q : Nat → Prop} {g : Nat} (h : ∀ i, P i ↔ Q i) : der n S L R P g ↔ der n S L R Q g :=
  ⟨fun q c hc hp => q c hc (fun i hi => hp i ((h i).mp hi)), fun q c hc hp => q c hc (fun i hi => hp i ((h i).mpr hi))⟩
theorem der_self {n : Nat} {S L R : Nat → Nat} {P : Nat → Prop} {g : Nat} (h : P g) : der n S L R P g := fun _ _ hp => hp g h
/-- what follows may be added -/
theorem der_cut {n : Nat} {S L R : Nat → Nat} {P Q : Nat → Prop} {g : Nat} (h : der n S L R Q g) (hq : ∀ i, Q i → der n S L R P i) : der n S L R P g := fun c hc hp => h c hc (fun i hi => hq i hi c hc hp)
theorem isC_unique {n : Nat} {S L R : Nat → Nat} {P Q : Nat → Prop} {k k' : Nat} (h : isC n S L R P k) (h' : isC n S L R Q k') (hpq : ∀ i, P i ↔ Q i) : k = k' :=
  tb_ext (fun i => ⟨h.2.2.2 k' h'.2.2.1 (fun j hj => h'.2.1 j ((hpq j).mp hj)) i, h'.2.2.2 k h.2.2.1 (fun j hj => h.2.1 j ((hpq j).mpr hj)) i⟩)
theorem isC_congr {n : Nat} {S L R : Nat → Nat} {P Q : Nat → Prop} {k : Nat} (h : isC n S L R P k) (hpq : ∀ i, P i ↔ Q i) : isC n S L R Q k :=
  ⟨h.1, fun i hi => h.2.1 i ((hpq i).mpr hi), h.2.2.1, fun c hc hp => h.2.2.2 c hc (fun i hi => hp i ((hpq i).mp hi))⟩
theorem isC_of {n : Nat} {S L R : Nat → Nat} {P : Nat → Prop} {k k' : Nat} (h : isC n S L R (tb k) k') (hP : ∀ i, P i → tb k i) (hs : ∀ c, Clo n S L R c → (∀ i, P i → tb c i) → sbt k c) : isC n S L R P k' :=
  ⟨h.1, fun i hi => h.2.1 i (hP i hi), h.2.2.1, fun c hc hp => h.2.2.2 c hc (hs c hc hp)⟩
/-- a closure taken further: from the closure of P, or from P itself -/
theorem isC_more {n : Nat} {S L R : Nat → Nat} {P E : Nat → Prop} {k k' : Nat} (h : isC n S L R P k) (h' : isC n S L R (fun i => tb k i ∨ E i) k') : isC n S L R (fun i => P i ∨ E i) k' :=
  ⟨h'.1, fun i hi => h'.2.1 i (hi.imp (h.2.1 i) id), h'.2.2.1, fun c hc hp => h'.2.2.2 c hc (fun i hi => hi.elim (h.2.2.2 c hc (fun j hj => hp j (Or.inl hj)) i) (fun q => hp i (Or.inr q)))⟩
/-! PURE 3: the work list -/
def ex0 (n k w : Nat) (st : Nat → Nat) (k' w' : Nat) (st' : Nat → Nat) : Prop :=
  sbt k k' ∧ k' < 2 ^ n ∧ w ≤ w' ∧ (∀ i, i < w → st' i = st i) ∧ (∀ x, tb k' x → tb k x ∨ ∃ i, w ≤ i ∧ i < w' ∧ st' i = x) ∧ (∀ i, w ≤ i → i < w' → st' i < n ∧ tb k' (st' i)) ∧ w' + cnt k 28 = w + cnt k' 28
theorem ex0_rf {n k w : Nat} {st : Nat → Nat} (hk : k < 2 ^ n) : ex0 n k w st k w st := ⟨sbt_rf k, hk, Nat.le_refl w, fun _ _ => rfl, fun _ h => Or.inl h, fun i h1 h2 => absurd h1 (by omega), rfl⟩
theorem ex0_tr {n k w k1 w1 k2 w2 : Nat} {st st1 st2 : Nat → Nat} (h1 : ex0 n k w st k1 w1 st1) (h2 : ex0 n k1 w1 st1 k2 w2 st2) : ex0 n k w st k2 w2 st2 := by
  obtain ⟨a1, a2, a3, a4, a5, a6, a7⟩ := h1
  obtain ⟨b1, b2, b3, b4, b5, b6, b7⟩ := h2
  refine ⟨sbt_tr a1 b1, b2, by omega, fun i hi => by rw [b4 i (by omega), a4 i hi], fun x hx => ?_, fun i h1 h2 => ?_, by omega⟩
  · rcases b5 x hx with q | ⟨i, q1, q2, q3⟩
    · rcases a5 x q with q | ⟨i, q1, q2, q3⟩
      · exact Or.inl q
      · exact Or.inr ⟨i, q1, by omega, by rw [b4 i q2]; exact q3⟩
    · exact Or.inr ⟨i, by omega, q2, q3⟩
  · rcases Nat.lt_or_ge i w1 with q | q
    · rw [b4 i q]
      exact ⟨(a6 i h1 q).1, b1 _ (a6 i h1 q).2⟩
    · exact b6 i q h2
def lW (k w t : Nat) : Nat := if k.testBit t = true then w else w + 1
def lS (k w : Nat) (st : Nat → Nat) (t : Nat) : Nat → Nat := if k.testBit t = true then st else va_up st w t
theorem ex0_learn {n k w t : Nat} {st : Nat → Nat} (hn : n ≤ 28) (hk : k < 2 ^ n) (ht : t < n) : ex0 n k w st (setb k t true) (lW k w t) (lS k w st t) := by
  cases hb : k.testBit t with
  | true =>
    rw [setb_has hb]
    unfold lW lS
    rw [if_pos hb, if_pos hb]
    exact ex0_rf hk
  | false =>
    unfold lW lS
    rw [if_neg (by rw [hb]; decide), if_neg (by rw [hb]; decide)]
    refine ⟨setb_sub k t, setb_lt hk ht, by omega, fun i hi => va_up_ne st t (by omega), fun x hx => ?_, fun i h1 h2 => ?_, ?_⟩
    · rcases setb_t.mp hx with e | e
      · exact Or.inr ⟨w, Nat.le_refl w, by omega, by rw [va_up_self, e]⟩
      · exact Or.inl e
    · have e : i = w := by omega
      rw [e, va_up_self]
      exact ⟨ht, setb_self k t⟩
    · rw [cnt_set hb 28 (by omega)]
      omega
theorem lW_lt {k w t : Nat} (ht : t < 28) (hw : w ≤ cnt k 28) (hb : k.testBit t = false) : w < 28 := by
  have := cnt_lt ht hb
  omega
theorem ex0_w {n k w k' w' : Nat} {st st' : Nat → Nat} (h : ex0 n k w st k' w' st') (hw : w ≤ cnt k 28) : w' ≤ cnt k' 28 := by
  have h1 := h.2.2.2.2.2.2
  have h2 := cnt_sub h.1 28
  omega
def lk (S L R : Nat → Nat) (k k' u : Nat) : Prop := (S u = 2 → tb k u → tb k (L u) → tb k' (R u)) ∧ (tb k (L u) → tb k (R u) → tb k' u)
theorem lk_mono {S L R : Nat → Nat} {a b c d u : Nat} (h : lk S L R b c u) (h1 : sbt a b) (h2 : sbt c d) : lk S L R a d u :=
  ⟨fun q w x => h2 _ (h.1 q (h1 _ w) (h1 _ x)), fun w x => h2 _ (h.2 (h1 _ w) (h1 _ x))⟩
/-- what lookAt(u) does -/
def lkA (n : Nat) (S L R : Nat → Nat) (k w : Nat) (st : Nat → Nat) (u k' w' : Nat) (st' : Nat → Nat) : Prop := ex0 n k w st k' w' st' ∧ snd_ n S L R k k' ∧ lk S L R k k' u
/-- what open(t) does -/
def opn (n : Nat) (S L R : Nat → Nat) (k w : Nat) (st : Nat → Nat) (t k' w' : Nat) (st' : Nat → Nat) : Prop :=
  ex0 n k w st k' w' st' ∧ snd_ n S L R k k' ∧ (S t = 1 → tb k' (L t) ∧ tb k' (R t)) ∧ (S t = 2 → tb k (L t) → tb k' (R t)) ∧ ∀ u, 8 ≤ u → u < n → (L u = t ∨ R u = t) → lk S L R k k' u
/-- a rule whose conclusion is wanting has a premise in P -/
def pnd (S L R : Nat → Nat) (k : Nat) (P : Nat → Prop) (u : Nat) : Prop := (S u = 1 → tb k u → (tb k (L u) ∧ tb k (R u)) ∨ P u) ∧ (S u = 2 → tb k u → tb k (L u) → tb k (R u) ∨ P u ∨ P (L u)) ∧ (tb k (L u) → tb k (R u) → tb k u ∨ P (L u) ∨ P (R u))
def spI (n : Nat) (S L R : Nat → Nat) (k w : Nat) (st : Nat → Nat) : Prop := k < 2 ^ n ∧ w ≤ cnt k 28 ∧ (∀ i, i < w → st i < n ∧ tb k (st i)) ∧ ∀ u, 8 ≤ u → u < n → pnd S L R k (fun x => ∃ i, i < w ∧ st i = x) u
theorem spI_ofR {n : Nat} {S L R : Nat → Nat} {k k1 w1 : Nat} {st st1 : Nat → Nat} (hc : ∀ u, 8 ≤ u → u < n → cR S L R k k1 u) (h : ex0 n k 0 st k1 w1 st1) : spI n S L R k1 w1 st1 := by
  obtain ⟨a1, a2, a3, a4, a5, a6, a7⟩ := h
  have hw : ∀ x, tb k1 x → tb k x ∨ ∃ i, i < w1 ∧ st1 i = x := fun x hx => (a5 x hx).imp id (fun ⟨i, _, q2, q3⟩ => ⟨i, q2, q3⟩)
  refine ⟨a2, by have := cnt_sub a1 28; omega, fun i hi => a6 i (Nat.zero_le i) hi, fun u h8 hu => ⟨fun hs h1 => ?_, fun hs h1 h2 => ?_, fun h1 h2 => ?_⟩⟩
  · rcases hw u h1 with q | q
    · exact Or.inl ((hc u h8 hu).1 hs q)
    · exact Or.inr q
  · rcases hw u h1 with q | q
    · rcases hw _ h2 with r | r
      · exact Or.inl ((hc u h8 hu).2.1 hs q r)
      · exact Or.inr (Or.inr r)
    · exact Or.inr (Or.inl q)
  · rcases hw _ h1 with q | q
    · rcases hw _ h2 with r | r
      · exact Or.inl ((hc u h8 hu).2.2 q r)
      · exact Or.inr (Or.inr r)
    · exact Or.inr (Or.inl q)
theorem spI_of {n : Nat} {S L R : Nat → Nat} {k k1 w1 : Nat} {st st1 : Nat → Nat} (hc : Clo n S L R k) (h : ex0 n k 0 st k1 w1 st1) : spI n S L R k1 w1 st1 :=
  spI_ofR (fun u h8 hu => cR_mono (hc u h8 hu) (sbt_rf k) h.1) h
theorem spI_clo {n : Nat} {S L R : Nat → Nat} {k : Nat} {st : Nat → Nat} (h : spI n S L R k 0 st) : Clo n S L R k := by
  intro u h8 hu
  obtain ⟨p1, p2, p3⟩ := h.2.2.2 u h8 hu
  have no : ∀ x, ¬ ∃ i, i < 0 ∧ st i = x := fun x ⟨i, q, _⟩ => absurd q (by omega)
  refine ⟨fun hs h1 => ?_, fun hs h1 h2 => ?_, fun h1 h2 => ?_⟩
  · exact (p1 hs h1).resolve_right (no _)
  · rcases p2 hs h1 h2 with q | q | q
    · exact q
    · exact absurd q (no _)
    · exact absurd q (no _)
  · rcases p3 h1 h2 with q | q | q
    · exact q
    · exact absurd q (no _)
    · exact absurd q (no _)
theorem sp_step {n : Nat} {S L R : Nat → Nat} {k w k' w' : Nat} {st st' : Nat → Nat} (hs : spI n S L R k (w + 1) st) (ho : opn n S L R k w st (st w) k' w' st') : spI n S L R k' w' st' := by
  obtain ⟨s1, s2, s3, s4⟩ := hs
  obtain ⟨⟨a1, a2, a3, a4, a5, a6, a7⟩, -, o1, o2, o3⟩ := ho
  have hm := cnt_sub a1 28
  have hin : ∀ x, tb k' x → tb k x ∨ ∃ i, i < w' ∧ st' i = x := fun x hx => (a5 x hx).imp id (fun ⟨i, _, q2, q3⟩ => ⟨i, q2, q3⟩)
  have hold : ∀ x, (∃ i, i < w + 1 ∧ st i = x) → x = st w ∨ ∃ i, i < w' ∧ st' i = x := by
    rintro x ⟨i, q1, q2⟩
    by_cases e : i = w
    · exact Or.inl (by rw [← q2, e])
    · exact Or.inr ⟨i, by omega, by rw [a4 i (by omega)]; exact q2⟩
  refine ⟨a2, by omega, fun i hi => ?_, fun u h8 hu => ?_⟩
  · rcases Nat.lt_or_ge i w with q | q
    · rw [a4 i q]
      exact ⟨(s3 i (by omega)).1, a1 _ (s3 i (by omega)).2⟩
    · exact a6 i q hi
  · obtain ⟨p1, p2, p3⟩ := s4 u h8 hu
    refine ⟨fun hsu h1 => ?_, fun hsu h1 h2 => ?_, fun h1 h2 => ?_⟩
    · rcases hin u h1 with q | q
      · rcases p1 hsu q with r | r
        · exact Or.inl ⟨a1 _ r.1, a1 _ r.2⟩
        · rcases hold u r with e | e
          · rw [← e] at o1
            exact Or.inl (o1 hsu)
          · exact Or.inr e
      · exact Or.inr q
    · rcases hin u h1 with q | q
      · rcases hin _ h2 with q2 | q2
        · rcases p2 hsu q q2 with r | r | r
          · exact Or.inl (a1 _ r)
          · rcases hold u r with e | e
            · rw [← e] at o2
              exact Or.inl (o2 hsu q2)
            · exact Or.inr (Or.inl e)
          · rcases hold _ r with e | e
            · exact Or.inl ((o3 u h8 hu (Or.inl e)).1 hsu q q2)
            · exact Or.inr (Or.inr e)
        · exact Or.inr (Or.inr q2)
      · exact Or.inr (Or.inl q)
    · rcases hin _ h1 with q | q
      · rcases hin _ h2 with q2 | q2
        · rcases p3 q q2 with r | r | r
          · exact Or.inl (a1 _ r)
          · rcases hold _ r with e | e
            · exact Or.inl ((o3 u h8 hu (Or.inl e)).2 q q2)
            · exact Or.inr (Or.inl e)
          · rcases hold _ r with e | e
            · exact Or.inl ((o3 u h8 hu (Or.inr e)).2 q q2)
            · exact Or.inr (Or.inr e)
        · exact Or.inr (Or.inr q2)
      · exact Or.inr (Or.inl q)
/-! PURE 4: one more term -/
theorem up_eq (f : Nat → Nat) (n v : Nat) {u : Nat} (h : u = n) : va_up f n v u = v := by rw [h, va_up_self]
theorem up_lt (f : Nat → Nat) {n v u : Nat} (h : u < n) : va_up f n v u = f u := va_up_ne f v (by omega)
theorem tOK_up {n s a b : Nat} {S L R : Nat → Nat} (h : tOK n S L R) (hn : n < 28) (hs : s = 1 ∨ s = 2) (ha : a < n) (hb : b < n) : tOK (n + 1) (va_up S n s) (va_up L n a) (va_up R n b) := by
  obtain ⟨h1, h2, h3, h4⟩ := h
  refine ⟨by omega, by omega, fun t ht => by rw [up_lt S (by omega)]; exact h3 t ht, fun t h8 ht => ?_⟩
  by_cases e : t = n
  · rw [up_eq S n s e, up_eq L n a e, up_eq R n b e]
    exact ⟨hs, by omega, by omega⟩
  · have hlt : t < n := by omega
    rw [up_lt S hlt, up_lt L hlt, up_lt R hlt]
    obtain ⟨q1, q2, q3⟩ := h4 t h8 hlt
    exact ⟨q1, by omega, by omega⟩
theorem up_or {U : Nat → Nat} {a n t u : Nat} : tb (va_up U a (U a ||| 2 ^ n) t) u ↔ tb (U t) u ∨ (t = a ∧ u = n) := by
  by_cases e : t = a
  · rw [up_eq U a _ e, or_setb, setb_t, e]
    exact ⟨fun q => q.elim (fun z => Or.inr ⟨rfl, z⟩) Or.inl, fun q => q.elim Or.inr (fun z => Or.inl z.2)⟩
  · rw [va_up_ne U _ e]
    exact ⟨Or.inl, fun q => q.elim id (fun z => absurd z.1 e)⟩
theorem uOK_up {n a b : Nat} {S L R U : Nat → Nat} (hO : tOK n S L R) (h : uOK n L R U) (hn : n < 28) (ha : a < n) (hb : b < n) :
    uOK (n + 1) (va_up L n a) (va_up R n b) (va_up (va_up U a (U a ||| 2 ^ n)) b ((va_up U a (U a ||| 2 ^ n)) b ||| 2 ^ n)) := by
  intro t ht u
  have h8 := hO.1
  rw [up_or, up_or, h t ht u]
  by_cases e : u = n
  · rw [up_eq L n a e, up_eq R n b e]
    constructor
    · rintro ((q | q) | q)
      · omega
      · exact ⟨by omega, by omega, Or.inl q.1.symm⟩
      · exact ⟨by omega, by omega, Or.inr q.1.symm⟩
    · rintro ⟨q1, q2, q3 | q3⟩
      · exact Or.inl (Or.inr ⟨q3.symm, e⟩)
      · exact Or.inr ⟨q3.symm, e⟩
  · constructor
    · rintro ((q | q) | q)
      · rw [up_lt L q.2.1, up_lt R q.2.1]
        exact ⟨q.1, by omega, q.2.2⟩
      · exact absurd q.2 e
      · exact absurd q.2 e
    · rintro ⟨q1, q2, q3⟩
      have hlt : u < n := by omega
      rw [up_lt L hlt, up_lt R hlt] at q3
      exact Or.inl (Or.inl ⟨q1, hlt, q3⟩)
theorem cR_up {n s a b k k' u : Nat} {S L R : Nat → Nat} (hu : u < n) : cR (va_up S n s) (va_up L n a) (va_up R n b) k k' u ↔ cR S L R k k' u := by
  unfold cR
  rw [up_lt S hu, up_lt L hu, up_lt R hu]
theorem Clo_dn {n s a b c : Nat} {S L R : Nat → Nat} (h : Clo (n + 1) (va_up S n s) (va_up L n a) (va_up R n b) c) : Clo n S L R c := fun u h8 hu => (cR_up hu).mp (h u h8 (by omega))
theorem cR_new {n s a b k k' : Nat} {S L R : Nat → Nat} (hk : k < 2 ^ n) (h : tb k a → tb k b → tb k' n) : cR (va_up S n s) (va_up L n a) (va_up R n b) k k' n := by
  have hn : ¬ tb k n := fun q => absurd (tb_lt hk q) (by omega)
  refine ⟨fun _ q => absurd q hn, fun _ q => absurd q hn, ?_⟩
  rw [va_up_self, va_up_self]
  exact h
/-- the new term is not known -/
theorem isC_upN {n s a b h k : Nat} {S L R : Nat → Nat} (hc : isC n S L R (tb h) k) (hab : ¬ (tb k a ∧ tb k b)) : isC (n + 1) (va_up S n s) (va_up L n a) (va_up R n b) (tb h) k := by
  obtain ⟨c1, c2, c3, c4⟩ := hc
  refine ⟨Nat.lt_of_lt_of_le c1 (Nat.pow_le_pow_right (by omega) (by omega)), c2, fun u h8 hu => ?_, fun c hc hp => c4 c (Clo_dn hc) hp⟩
  by_cases e : u = n
  · rw [e]
    exact cR_new c1 (fun q1 q2 => absurd ⟨q1, q2⟩ hab)
  · exact (cR_up (by omega)).mpr (c3 u h8 (by omega))
/-- the new term is known: it is learned, and spread -/
theorem spI_up {n s a b k w1 : Nat} {S L R st st1 : Nat → Nat} (hk : k < 2 ^ n) (hc : Clo n S L R k) (h : ex0 (n + 1) k 0 st (setb k n true) w1 st1) : spI (n + 1) (va_up S n s) (va_up L n a) (va_up R n b) (setb k n true) w1 st1 := by
  refine spI_ofR (fun u h8 hu => ?_) h
  by_cases e : u = n
  · rw [e]
    exact cR_new hk (fun _ _ => setb_self k n)
  · exact cR_mono ((cR_up (by omega)).mpr (hc u h8 (by omega))) (sbt_rf k) (setb_sub k n)
theorem isC_upY {n s a b h k k2 : Nat} {S L R : Nat → Nat} (h8 : 8 ≤ n) (hc : isC n S L R (tb h) k) (ha : tb k a) (hb : tb k b) (h2 : isC (n + 1) (va_up S n s) (va_up L n a) (va_up R n b) (tb (setb k n true)) k2) : isC (n + 1) (va_up S n s) (va_up L n a) (va_up R n b) (tb h) k2 := by
  obtain ⟨c1, c2, c3, c4⟩ := hc
  refine isC_of h2 (fun i hi => setb_t.mpr (Or.inr (c2 i hi))) (fun c hc hp => ?_)
  have hk := c4 c (Clo_dn hc) hp
  intro i hi
  rcases setb_t.mp hi with e | e
  · have hr := (hc n h8 (by omega)).2.2
    rw [va_up_self, va_up_self] at hr
    rw [e]
    exact hr (hk a ha) (hk b hb)
  · exact hk i e
def mt (S L R : Nat → Nat) (s a b t : Nat) : Prop := S t = s ∧ L t = a ∧ R t = b
/-- what a term's making answers, and the terms behind it -/
def mkR (n : Nat) (S L R : Nat → Nat) (s a b : Nat) (r : Int32) (n' : Nat) (S' L' R' : Nat → Nat) : Prop :=
  (∃ t, (8 ≤ t ∧ t < n ∧ mt S L R s a b t ∧ ∀ u, 8 ≤ u → u < t → ¬ mt S L R s a b u) ∧ r = nI t ∧ n' = n ∧ S' = S ∧ L' = L ∧ R' = R) ∨
  ((∀ u, 8 ≤ u → u < n → ¬ mt S L R s a b u) ∧ ((n = 28 ∧ r = -1 ∧ n' = n ∧ S' = S ∧ L' = L ∧ R' = R) ∨ (n < 28 ∧ r = nI n ∧ n' = n + 1 ∧ S' = va_up S n s ∧ L' = va_up L n a ∧ R' = va_up R n b)))
theorem mkR_fun {n : Nat} {S L R : Nat → Nat} {s a b : Nat} {r r2 : Int32} {n' n2 : Nat} {S' L' R' S2 L2 R2 : Nat → Nat} (h1 : mkR n S L R s a b r n' S' L' R') (h2 : mkR n S L R s a b r2 n2 S2 L2 R2) : r = r2 ∧ n' = n2 ∧ S' = S2 ∧ L' = L2 ∧ R' = R2 := by
  rcases h1 with ⟨t, ⟨t1, t2, t3, t4⟩, rfl, rfl, rfl, rfl, rfl⟩ | ⟨hn, h1⟩
  · rcases h2 with ⟨v, ⟨v1, v2, v3, v4⟩, rfl, rfl, rfl, rfl, rfl⟩ | ⟨hn, h2⟩
    · have e : t = v := by
        rcases Nat.lt_trichotomy t v with q | q | q
        · exact absurd t3 (v4 t t1 q)
        · exact q
        · exact absurd v3 (t4 v v1 q)
      rw [e]
      exact ⟨rfl, rfl, rfl, rfl, rfl⟩
    · exact absurd t3 (hn t t1 t2)
  · rcases h2 with ⟨v, ⟨v1, v2, v3, v4⟩, rfl, rfl, rfl, rfl, rfl⟩ | ⟨-, h2⟩
    · exact absurd v3 (hn v v1 v2)
    · rcases h1 with ⟨q1, rfl, rfl, rfl, rfl, rfl⟩ | ⟨q1, rfl, rfl, rfl, rfl, rfl⟩
      · rcases h2 with ⟨q2, rfl, rfl, rfl, rfl, rfl⟩ | ⟨q2, rfl, rfl, rfl, rfl, rfl⟩
        · exact ⟨rfl, rfl, rfl, rfl, rfl⟩
        · omega
      · rcases h2 with ⟨q2, rfl, rfl, rfl, rfl, rfl⟩ | ⟨q2, rfl, rfl, rfl, rfl, rfl⟩
        · omega
        · exact ⟨rfl, rfl, rfl, rfl, rfl⟩
def isT (n : Nat) (x : Int32) : Prop := ∃ j, j < n ∧ x = nI j
def mkP (n : Nat) (S L R : Nat → Nat) (s : Nat) (x y : Int32) (r : Int32) (n' : Nat) (S' L' R' : Nat → Nat) : Prop :=
  (¬ (isT n x ∧ isT n y) ∧ r = -1 ∧ n' = n ∧ S' = S ∧ L' = L ∧ R' = R) ∨ ∃ i j, i < n ∧ j < n ∧ x = nI i ∧ y = nI j ∧ mkR n S L R s i j r n' S' L' R'
theorem nI_inj {n i j : Nat} (hn : n ≤ 28) (hi : i < n) (hj : j < n) (h : nI i = nI j) : i = j := (nI_eq (by omega) (by omega)).mp h
theorem mkP_fun {n : Nat} {S L R : Nat → Nat} {s : Nat} {x y : Int32} {r r2 : Int32} {n' n2 : Nat} {S' L' R' S2 L2 R2 : Nat → Nat} (hn : n ≤ 28) (h1 : mkP n S L R s x y r n' S' L' R') (h2 : mkP n S L R s x y r2 n2 S2 L2 R2) : r = r2 ∧ n' = n2 ∧ S' = S2 ∧ L' = L2 ∧ R' = R2 := by
  rcases h1 with ⟨q1, rfl, rfl, rfl, rfl, rfl⟩ | ⟨i, j, hi, hj, ex, ey, h1⟩
  · rcases h2 with ⟨q2, rfl, rfl, rfl, rfl, rfl⟩ | ⟨i, j, hi, hj, ex, ey, h2⟩
    · exact ⟨rfl, rfl, rfl, rfl, rfl⟩
    · exact absurd ⟨⟨i, hi, ex⟩, ⟨j, hj, ey⟩⟩ q1
  · rcases h2 with ⟨q2, rfl, rfl, rfl, rfl, rfl⟩ | ⟨i2, j2, hi2, hj2, ex2, ey2, h2⟩
    · exact absurd ⟨⟨i, hi, ex⟩, ⟨j, hj, ey⟩⟩ q2
    · have e1 := nI_inj hn hi hi2 (ex.symm.trans ex2)
      have e2 := nI_inj hn hj hj2 (ey.symm.trans ey2)
      subst e1
      subst e2
      exact mkR_fun h1 h2
/-! PURE 5: the reference's rounds -/
def lr (n : Nat) (S L R : Nat → Nat) (k : Nat) (ch : Bool) (k' : Nat) (ch' : Bool) : Prop := sbt k k' ∧ k' < 2 ^ n ∧ snd_ n S L R k k' ∧ (ch' = false → ch = false ∧ k' = k) ∧ (ch' = true → ch = true ∨ cnt k 28 < cnt k' 28)
theorem lr_rf {n : Nat} {S L R : Nat → Nat} {k : Nat} (ch : Bool) (hk : k < 2 ^ n) : lr n S L R k ch k ch := ⟨sbt_rf k, hk, snd_rf n S L R k, fun h => ⟨h, rfl⟩, Or.inl⟩
theorem lr_tr {n : Nat} {S L R : Nat → Nat} {k k1 k2 : Nat} {c c1 c2 : Bool} (h1 : lr n S L R k c k1 c1) (h2 : lr n S L R k1 c1 k2 c2) : lr n S L R k c k2 c2 := by
  obtain ⟨a1, a2, a3, a4, a5⟩ := h1
  obtain ⟨b1, b2, b3, b4, b5⟩ := h2
  have m1 := cnt_sub a1 28
  have m2 := cnt_sub b1 28
  refine ⟨sbt_tr a1 b1, b2, snd_tr a3 b3, fun h => ⟨(a4 (b4 h).1).1, (b4 h).2.trans (a4 (b4 h).1).2⟩, fun h => ?_⟩
  rcases b5 h with q | q
  · rcases a5 q with q | q
    · exact Or.inl q
    · exact Or.inr (by omega)
  · exact Or.inr (by omega)
theorem lr_learn {n : Nat} {S L R : Nat → Nat} {k t : Nat} (ch : Bool) (hn : n ≤ 28) (hk : k < 2 ^ n) (ht : t < n) (hd : ∀ c, Clo n S L R c → sbt k c → tb c t) : lr n S L R k ch (setb k t true) (ch || !k.testBit t) := by
  refine ⟨setb_sub k t, setb_lt hk ht, snd_set hd, fun h => ?_, fun h => ?_⟩
  · cases hb : k.testBit t with
    | true =>
      rw [setb_has hb]
      rw [hb] at h
      revert h
      cases ch <;> simp
    | false =>
      rw [hb] at h
      revert h
      cases ch <;> simp
  · cases hb : k.testBit t with
    | true =>
      rw [hb] at h
      revert h
      cases ch <;> simp
    | false => exact Or.inr (by rw [cnt_set hb 28 (by omega)]; omega)
/-! PURE 6: what the questions answer -/
def lkR (n : Nat) (S L R : Nat → Nat) (h g : Nat) (r : Int32) : Prop := (der n S L R (tb h) g ∧ r = -2) ∨ (¬ der n S L R (tb h) g ∧ ∃ t, t ≤ g ∧ r = nI t ∧ der n S L R (fun i => tb h i ∨ i = t) g ∧ ∀ u, u < t → ¬ der n S L R (fun i => tb h i ∨ i = u) g)
theorem lkR_fun {n : Nat} {S L R : Nat → Nat} {h g : Nat} {r r2 : Int32} (h1 : lkR n S L R h g r) (h2 : lkR n S L R h g r2) : r = r2 := by
  rcases h1 with ⟨q1, rfl⟩ | ⟨q1, t, t1, rfl, t3, t4⟩
  · rcases h2 with ⟨q2, rfl⟩ | ⟨q2, -⟩
    · rfl
    · exact absurd q1 q2
  · rcases h2 with ⟨q2, rfl⟩ | ⟨q2, v, v1, rfl, v3, v4⟩
    · exact absurd q2 q1
    · rcases Nat.lt_trichotomy t v with q | q | q
      · exact absurd t3 (v4 t q)
      · rw [q]
      · exact absurd v3 (t4 v q)
def atR (n : Nat) (S L R : Nat → Nat) (h g : Nat) (r : Int32) : Prop := ∃ b, r = nI b ∧ b ≤ 8 ∧ (b = 8 ∨ ∃ e, e < 256 ∧ cnt e 8 = b ∧ der n S L R (fun i => tb h i ∨ tb e i) g) ∧ ∀ e, e < 256 → der n S L R (fun i => tb h i ∨ tb e i) g → b ≤ cnt e 8
theorem atR_fun {n : Nat} {S L R : Nat → Nat} {h g : Nat} {r r2 : Int32} (h1 : atR n S L R h g r) (h2 : atR n S L R h g r2) : r = r2 := by
  obtain ⟨b, rfl, b1, b2, b3⟩ := h1
  obtain ⟨c, rfl, c1, c2, c3⟩ := h2
  have e1 : b ≤ c := by
    rcases c2 with q | ⟨e, q1, q2, q3⟩
    · omega
    · have := b3 e q1 q3
      omega
  have e2 : c ≤ b := by
    rcases b2 with q | ⟨e, q1, q2, q3⟩
    · omega
    · have := c3 e q1 q3
      omega
  rw [show b = c by omega]
/-- atoms that are known may be left out -/
theorem at_less {n : Nat} {S L R : Nat → Nat} {h k g e : Nat} (hc : isC n S L R (tb h) k) (he : e < 256) (hd : der n S L R (fun i => tb h i ∨ tb e i) g) : (e ^^^ (e &&& k)) < 256 ∧ (e ^^^ (e &&& k)) &&& k = 0 ∧ cnt (e ^^^ (e &&& k)) 8 ≤ cnt e 8 ∧ der n S L R (fun i => tb h i ∨ tb (e ^^^ (e &&& k)) i) g := by
  have hb : ∀ i, tb (e ^^^ (e &&& k)) i ↔ tb e i ∧ ¬ tb k i := by
    intro i
    unfold tb
    rw [Nat.testBit_xor, Nat.testBit_and]
    generalize e.testBit i = x
    generalize k.testBit i = y
    cases x <;> cases y <;> simp
  have he8 : e < 2 ^ 8 := he
  refine ⟨?_, ?_, cnt_sub (fun i hi => ((hb i).mp hi).1) 8, ?_⟩
  · have h1 : (e ^^^ (e &&& k)) < 2 ^ 8 := lt_of_tb (fun i hi => tb_lt he8 ((hb i).mp hi).1)
    exact h1
  · apply tb_ext
    intro i
    constructor
    · intro q
      have q1 : ((e ^^^ (e &&& k)) &&& k).testBit i = true := q
      rw [Nat.testBit_and, Bool.and_eq_true] at q1
      exact absurd q1.2 ((hb i).mp q1.1).2
    · intro q
      exact absurd q (tb_zero i)
  · refine der_cut hd (fun i hi => ?_)
    rcases hi with q | q
    · exact der_self (Or.inl q)
    · by_cases hk : tb k i
      · exact der_cut ((isC_der hc i).mp hk) (fun j hj => der_self (Or.inl hj))
      · exact der_self (Or.inr ((hb i).mpr ⟨q, hk⟩))
/-- what is known already helps nothing new -/
theorem lk_known {n : Nat} {S L R : Nat → Nat} {h k g t : Nat} (hc : isC n S L R (tb h) k) (ht : tb k t) (hd : der n S L R (fun i => tb h i ∨ i = t) g) : der n S L R (tb h) g :=
  der_cut hd (fun i hi => hi.elim (fun q => der_self q) (fun q => by rw [q]; exact (isC_der hc t).mp ht))
noncomputable def spf (n : Nat) (S L R : Nat → Nat) (h : Nat) : Nat → Bool := fun t => @decide (tb h t ∧ der n S L R (fun i => i ≠ t ∧ tb h i) t) (Classical.propDecidable _)
theorem spf_iff (n : Nat) (S L R : Nat → Nat) (h t : Nat) : spf n S L R h t = true ↔ (tb h t ∧ der n S L R (fun i => i ≠ t ∧ tb h i) t) := by
  unfold spf
  exact @decide_eq_true_iff _ (Classical.propDecidable _)
/-- the closure without t is the whole one just if t is in it -/
theorem sp_eq {n : Nat} {S L R : Nat → Nat} {h k k' t : Nat} (hc : isC n S L R (tb h) k) (hc' : isC n S L R (fun i => i ≠ t ∧ tb h i) k') (ht : tb h t) : k' = k ↔ der n S L R (fun i => i ≠ t ∧ tb h i) t := by
  rw [← isC_der hc' t]
  constructor
  · intro e
    rw [e]
    exact hc.2.1 t ht
  · intro q
    refine tb_ext (fun i => ⟨hc'.2.2.2 k hc.2.2.1 (fun j hj => hc.2.1 j hj.2) i, hc.2.2.2 k' hc'.2.2.1 (fun j hj => ?_) i⟩)
    by_cases e : j = t
    · rw [e]; exact q
    · exact hc'.2.1 j ⟨e, hj⟩
end
section
/-! THE WALK: a judgement J over (world, pc, locals, stack); heap, written places and the locals' array are inside it -/
abbrev gJ : Type := va_W → Nat → List (Nat × Value) → List Value → Prop
def gj (p : Program) (l : Launch) (e : Env) (R : Room) (s : State) (m : MethodId) (args : Array Value) (below : List Frame) (meth : Method) (c : Code) (D : va_G) (cl : List vw_C) (A : Nat → Prop) (nL cells slots : Nat) (Q : State → Prop) : gJ := fun ws pc lv st =>
  ∀ (H : Heap) (locs : List Loc) (ls : Array Slot), va_P D cl ws H → va_D A ws → va_S A s.heap H locs → lv_has ls nL lv → W p l e R s m args below meth c H locs cells slots Q (F0 m pc ls st)
/-- what a walk knows of its method: bytes cc, nL locals, class own, fr frames and lo words of locals for its callees -/
def GC (J : gJ) (l : Launch) (D : va_G) (cl : List vw_C) (tys : List (ClassId × FieldType)) (cc : ByteArray) (nL : Nat) (own : String) (fr lo : Nat) : Prop :=
  ∃ (p : Program) (e : Env) (R : Room) (s : State) (m : MethodId) (args : Array Value) (below : List Frame) (meth : Method) (c : Code) (A : Nat → Prop) (cells slots : Nat) (Q : State → Prop),
    J = gj p l e R s m args below meth c D cl A nL cells slots Q ∧ p.tables.exec = Jvm.exec ∧ c.code = cc ∧ c.maxLocals = nL ∧ s.vm.findClass own = some m.cls ∧ (∀ w ∈ lw_all, w.before args s = true) ∧ va_K D cl tys s ∧ (∀ q : Nat, s.heap.size ≤ q → A q) ∧ R.frames = fr ∧ R.locals = lo ∧ cells ≤ R.cells ∧ slots ≤ R.slots
def gB (D : va_G) (cl : List vw_C) (tys : List (ClassId × FieldType)) (A : Nat → Prop) (u : va_W) (t : State) : Prop := va_P D cl u t.heap ∧ va_K D cl tys t ∧ va_D A u
/-- CONTRACTS: with the arguments As in the world W0 the method answers r and leaves the world u, post r u; nothing else changes, nothing is made -/
def GMi (l : Launch) (D : va_G) (cl : List vw_C) (tys : List (ClassId × FieldType)) (y : MethodName) (cc : ByteArray) (nL : Nat) (ret : Option FieldType) (fr lo : Nat) (As : List Value) (W0 : va_W) (post : Int32 → va_W → Prop) : Prop :=
  ∀ sz : Nat, Met l y (ws_ y cc nL ret) ({ frames := fr, cells := 0, slots := 0, locals := lo }) (va_Pc As (fun U => U.heap.size = sz ∧ va_P D cl W0 U.heap ∧ va_K D cl tys U ∧ va_D (fun _ => True) W0)) (va_Qi post (gB D cl tys (va_A W0 sz)) (va_A W0 sz)) 0 0 (va_A W0 sz)
def GMv (l : Launch) (D : va_G) (cl : List vw_C) (tys : List (ClassId × FieldType)) (y : MethodName) (cc : ByteArray) (nL : Nat) (fr lo : Nat) (As : List Value) (W0 : va_W) (post : va_W → Prop) : Prop :=
  ∀ sz : Nat, Met l y (ws_ y cc nL none) ({ frames := fr, cells := 0, slots := 0, locals := lo }) (va_Pc As (fun U => U.heap.size = sz ∧ va_P D cl W0 U.heap ∧ va_K D cl tys U ∧ va_D (fun _ => True) W0)) (va_Qv post (gB D cl tys (va_A W0 sz)) (va_A W0 sz)) 0 0 (va_A W0 sz)
theorem g_methI {own : String} {l : Launch} {D : va_G} {cl : List vw_C} {tys : List (ClassId × FieldType)} (y : MethodName) (cc : ByteArray) (nL : Nat) {ty : FieldType} {fr lo : Nat} {As : List Value} {W0 : va_W} {post : Int32 → va_W → Prop} (ho : y.cls = own) (hy : plainName y.cls = true) (hlen : (lg_sl As).length ≤ nL)
    (body : ∀ J : gJ, GC J l D cl tys cc nL own fr lo → (∀ (r : Int32) (u : va_W) (pc : Nat) (lv : List (Nat × Value)), decode cc pc = .ok (.ireturn, 1) → narrow ty (.int r) = .int r → post r u → J u pc lv [.int r]) → J W0 0 (lv_args 0 As) []) : GMi l D cl tys y cc nL (some ty) fr lo As W0 post := by
  intro sz
  refine Met.ofW (cc := cc) (maxL := nL) (ret := some ty) hy rfl ?_
  intro p e s m args below meth c s₁ B hml hv
  obtain ⟨rfl, hsz, hP, hK, hD0⟩ := hv
  have hts := atoms_spec (ws := ws_ y cc nL (some ty)) B.pre
  have hts : ∀ w ∈ lw_all, w.before As.toArray s = true := fun w h => hts w (List.mem_cons_of_mem _ h)
  have hown : s.vm.findClass own = some m.cls := ho ▸ findClass_of_methodNamed B.named
  have hlocks := B.notSynchronized
  subst hsz
  have hD := hD0.self (sz := s.heap.size)
  have hA : ∀ q : Nat, s.heap.size ≤ q → va_A W0 s.heap.size q := fun q h => Or.inr h
  have hl := lv_entry As (n := nL) hlen
  rw [lg_entry_eq]
  refine body (gj p l e (headSpec (ws_ y cc nL (some ty)) ({ frames := fr, cells := 0, slots := 0, locals := lo })).room s m As.toArray below meth c D cl (va_A W0 s.heap.size) nL 0 0 (MQ below (va_Qi post (gB D cl tys (va_A W0 s.heap.size)) (va_A W0 s.heap.size)) As.toArray s 0 0 (va_A W0 s.heap.size))) ⟨p, e, _, s, m, _, below, meth, c, _, 0, 0, _, rfl, B.exec, B.bytes, hml, hown, hts, hK, hA, rfl, rfl, Nat.zero_le _, Nat.zero_le _⟩ ?_ s.heap [] _ hP hD va_S.rf hl
  intro r u pc lv hd hn hp H locs ls hP2 hD2 hS2 hl2
  exact W.zret B.exec B.bytes B.returns hn (fun t ht hW => ⟨⟨r, u, rfl, hp, by rw [ht]; exact hP2, va_K.moved hW.alike hK, hD2⟩, hS2.F ht⟩) hS2.2.2 hd hlocks
theorem g_methV {own : String} {l : Launch} {D : va_G} {cl : List vw_C} {tys : List (ClassId × FieldType)} (y : MethodName) (cc : ByteArray) (nL : Nat) {fr lo : Nat} {As : List Value} {W0 : va_W} {post : va_W → Prop} (ho : y.cls = own) (hy : plainName y.cls = true) (hlen : (lg_sl As).length ≤ nL)
    (body : ∀ J : gJ, GC J l D cl tys cc nL own fr lo → (∀ (u : va_W) (pc : Nat) (lv : List (Nat × Value)), decode cc pc = .ok (.return_, 1) → post u → J u pc lv []) → J W0 0 (lv_args 0 As) []) : GMv l D cl tys y cc nL fr lo As W0 post := by
  intro sz
  refine Met.ofW (cc := cc) (maxL := nL) (ret := none) hy rfl ?_
  intro p e s m args below meth c s₁ B hml hv
  obtain ⟨rfl, hsz, hP, hK, hD0⟩ := hv
  have hts := atoms_spec (ws := ws_ y cc nL none) B.pre
  have hts : ∀ w ∈ lw_all, w.before As.toArray s = true := fun w h => hts w (List.mem_cons_of_mem _ h)
  have hown : s.vm.findClass own = some m.cls := ho ▸ findClass_of_methodNamed B.named
  have hlocks := B.notSynchronized
  subst hsz
  have hD := hD0.self (sz := s.heap.size)
  have hA : ∀ q : Nat, s.heap.size ≤ q → va_A W0 s.heap.size q := fun q h => Or.inr h
  have hl := lv_entry As (n := nL) hlen
  rw [lg_entry_eq]
  refine body (gj p l e (headSpec (ws_ y cc nL none) ({ frames := fr, cells := 0, slots := 0, locals := lo })).room s m As.toArray below meth c D cl (va_A W0 s.heap.size) nL 0 0 (MQ below (va_Qv post (gB D cl tys (va_A W0 s.heap.size)) (va_A W0 s.heap.size)) As.toArray s 0 0 (va_A W0 s.heap.size))) ⟨p, e, _, s, m, _, below, meth, c, _, 0, 0, _, rfl, B.exec, B.bytes, hml, hown, hts, hK, hA, rfl, rfl, Nat.zero_le _, Nat.zero_le _⟩ ?_ s.heap [] _ hP hD va_S.rf hl
  intro u pc lv hd hp H locs ls hP2 hD2 hS2 hl2
  exact W.vret B.exec B.bytes B.returns (fun t ht hW => ⟨⟨u, rfl, hp, by rw [ht]; exact hP2, va_K.moved hW.alike hK, hD2⟩, hS2.F ht⟩) hS2.2.2 hd hlocks
theorem g_free {A : Nat → Prop} {ws : va_W} {H0 H : Heap} {locs : List Loc} (hD : va_D A ws) (hS : va_S A H0 H locs) (hA : ∀ q : Nat, H0.size ≤ q → A q) : ∀ q, va_A ws H.size q → A q := by
  intro q h
  rcases h with ⟨k, e, h⟩ | h
  · exact hD.2 k (q, e) h
  · exact hA q (Nat.le_trans hS.1 h)
section GR
variable {J : gJ} {l : Launch} {D : va_G} {cl : List vw_C} {tys : List (ClassId × FieldType)} {cc : ByteArray} {nL : Nat} {own : String} {fr lo : Nat} {ws : va_W} {pc : Nat} {lv : List (Nat × Value)} {st : List Value}
theorem gi_iconst (C : GC J l D cl tys cc nL own fr lo) {n : Int} {v : Int32} (hd : decode cc pc = .ok (.iconst n, 1)) (hv : Int32.ofInt n = v) (k : J ws (pc + 1) lv (.int v :: st)) : J ws pc lv st := by
  obtain ⟨p, e, R, s, m, args, below, meth, c, A, cells, slots, Q, rfl, hx, hb, hml, hown, hts, hK, hA, hfr, hlo, hc1, hc2⟩ := C
  intro H locs ls hP hD hS hl
  exact lv_iconst hx hb hd hv (k H locs ls hP hD hS hl)
theorem gi_bipush (C : GC J l D cl tys cc nL own fr lo) {n : Int} {v : Int32} (hd : decode cc pc = .ok (.bipush n, 2)) (hv : (Int8.ofInt n).toInt32 = v) (k : J ws (pc + 2) lv (.int v :: st)) : J ws pc lv st := by
  obtain ⟨p, e, R, s, m, args, below, meth, c, A, cells, slots, Q, rfl, hx, hb, hml, hown, hts, hK, hA, hfr, hlo, hc1, hc2⟩ := C
  intro H locs ls hP hD hS hl
  exact lv_bipush hx hb hd hv (k H locs ls hP hD hS hl)
theorem gi_sipush (C : GC J l D cl tys cc nL own fr lo) {n : Int} {v : Int32} (hd : decode cc pc = .ok (.sipush n, 3)) (hv : (Int16.ofInt n).toInt32 = v) (k : J ws (pc + 3) lv (.int v :: st)) : J ws pc lv st := by
  obtain ⟨p, e, R, s, m, args, below, meth, c, A, cells, slots, Q, rfl, hx, hb, hml, hown, hts, hK, hA, hfr, hlo, hc1, hc2⟩ := C
  intro H locs ls hP hD hS hl
  exact lv_sipush hx hb hd hv (k H locs ls hP hD hS hl)
theorem gi_iload_n (C : GC J l D cl tys cc nL own fr lo) {i4 : Fin 4} {i : Nat} {x : Int32} (hd : decode cc pc = .ok (.iload_n i4, 1)) (hi : (i4 : Nat) = i) (q : Nat) (hq : lv[q]? = some (i, .int x)) (k : J ws (pc + 1) lv (.int x :: st)) : J ws pc lv st := by
  obtain ⟨p, e, R, s, m, args, below, meth, c, A, cells, slots, Q, rfl, hx, hb, hml, hown, hts, hK, hA, hfr, hlo, hc1, hc2⟩ := C
  intro H locs ls hP hD hS hl
  exact lv_iload_n hx hb hd hi (lv_at hl q hq) (k H locs ls hP hD hS hl)
theorem gi_iload (C : GC J l D cl tys cc nL own fr lo) {i : Nat} {x : Int32} (hd : decode cc pc = .ok (.iload i, 2)) (q : Nat) (hq : lv[q]? = some (i, .int x)) (k : J ws (pc + 2) lv (.int x :: st)) : J ws pc lv st := by
  obtain ⟨p, e, R, s, m, args, below, meth, c, A, cells, slots, Q, rfl, hx, hb, hml, hown, hts, hK, hA, hfr, hlo, hc1, hc2⟩ := C
  intro H locs ls hP hD hS hl
  exact lv_iload hx hb hd (lv_at hl q hq) (k H locs ls hP hD hS hl)
theorem gi_aload_n (C : GC J l D cl tys cc nL own fr lo) {i4 : Fin 4} {i : Nat} {x : Nat} (hd : decode cc pc = .ok (.aload_n i4, 1)) (hi : (i4 : Nat) = i) (q : Nat) (hq : lv[q]? = some (i, .ref x)) (k : J ws (pc + 1) lv (.ref x :: st)) : J ws pc lv st := by
  obtain ⟨p, e, R, s, m, args, below, meth, c, A, cells, slots, Q, rfl, hx, hb, hml, hown, hts, hK, hA, hfr, hlo, hc1, hc2⟩ := C
  intro H locs ls hP hD hS hl
  exact lv_aload_n hx hb hd hi (lv_at hl q hq) (k H locs ls hP hD hS hl)
theorem gi_istore_n (C : GC J l D cl tys cc nL own fr lo) {i4 : Fin 4} {i : Nat} {x : Int32} {lv' : List (Nat × Value)} (hd : decode cc pc = .ok (.istore_n i4, 1)) (hi : (i4 : Nat) = i) (hn : i < nL) (hq : (i, Value.int x) :: lv.filter (fun q => !(q.1 == i) && !(q.1 + 1 == i && q.2.category == 2)) = lv') (k : J ws (pc + 1) lv' st) : J ws pc lv (.int x :: st) := by
  obtain ⟨p, e, R, s, m, args, below, meth, c, A, cells, slots, Q, rfl, hx, hb, hml, hown, hts, hK, hA, hfr, hlo, hc1, hc2⟩ := C
  intro H locs ls hP hD hS hl
  exact lv_istore_n hx hb hd hi hl hn hq (fun ls2 hl2 => k H locs ls2 hP hD hS hl2)
theorem gi_istore (C : GC J l D cl tys cc nL own fr lo) {i : Nat} {x : Int32} {lv' : List (Nat × Value)} (hd : decode cc pc = .ok (.istore i, 2)) (hn : i < nL) (hq : (i, Value.int x) :: lv.filter (fun q => !(q.1 == i) && !(q.1 + 1 == i && q.2.category == 2)) = lv') (k : J ws (pc + 2) lv' st) : J ws pc lv (.int x :: st) := by
  obtain ⟨p, e, R, s, m, args, below, meth, c, A, cells, slots, Q, rfl, hx, hb, hml, hown, hts, hK, hA, hfr, hlo, hc1, hc2⟩ := C
  intro H locs ls hP hD hS hl
  exact lv_istore hx hb hd hl hn hq (fun ls2 hl2 => k H locs ls2 hP hD hS hl2)
theorem gi_iinc (C : GC J l D cl tys cc nL own fr lo) {i : Nat} {n : Int} {y x : Int32} {lv' : List (Nat × Value)} (hd : decode cc pc = .ok (.iinc i n, 3)) (q : Nat) (hk : lv[q]? = some (i, .int y)) (hv : y + Int32.ofInt n = x) (hn : i < nL) (hq : (i, Value.int x) :: lv.filter (fun q => !(q.1 == i) && !(q.1 + 1 == i && q.2.category == 2)) = lv') (k : J ws (pc + 3) lv' st) : J ws pc lv st := by
  obtain ⟨p, e, R, s, m, args, below, meth, c, A, cells, slots, Q, rfl, hx, hb, hml, hown, hts, hK, hA, hfr, hlo, hc1, hc2⟩ := C
  intro H locs ls hP hD hS hl
  exact lv_iinc hx hb hd hl (k := q) hk hv hn hq (fun ls2 hl2 => k H locs ls2 hP hD hS hl2)
theorem gi_sub (C : GC J l D cl tys cc nL own fr lo) (ks : List Nat) {lv' : List (Nat × Value)} (hq : lv_pick lv ks = lv') (k : J ws pc lv' st) : J ws pc lv st := by
  obtain ⟨p, e, R, s, m, args, below, meth, c, A, cells, slots, Q, rfl, hx, hb, hml, hown, hts, hK, hA, hfr, hlo, hc1, hc2⟩ := C
  intro H locs ls hP hD hS hl
  exact k H locs ls hP hD hS (lv_sub hl ks hq)
theorem gi_iadd (C : GC J l D cl tys cc nL own fr lo) {x y v : Int32} (hd : decode cc pc = .ok (.iadd, 1)) (hv : x + y = v) (k : J ws (pc + 1) lv (.int v :: st)) : J ws pc lv (.int y :: .int x :: st) := by
  obtain ⟨p, e, R, s, m, args, below, meth, c, A, cells, slots, Q, rfl, hx, hb, hml, hown, hts, hK, hA, hfr, hlo, hc1, hc2⟩ := C
  intro H locs ls hP hD hS hl
  subst hv
  exact lv_iadd hx hb hd (k H locs ls hP hD hS hl)
theorem gi_isub (C : GC J l D cl tys cc nL own fr lo) {x y v : Int32} (hd : decode cc pc = .ok (.isub, 1)) (hv : x - y = v) (k : J ws (pc + 1) lv (.int v :: st)) : J ws pc lv (.int y :: .int x :: st) := by
  obtain ⟨p, e, R, s, m, args, below, meth, c, A, cells, slots, Q, rfl, hx, hb, hml, hown, hts, hK, hA, hfr, hlo, hc1, hc2⟩ := C
  intro H locs ls hP hD hS hl
  subst hv
  exact lv_isub hx hb hd (k H locs ls hP hD hS hl)
theorem gi_iand (C : GC J l D cl tys cc nL own fr lo) {x y v : Int32} (hd : decode cc pc = .ok (.iand, 1)) (hv : x &&& y = v) (k : J ws (pc + 1) lv (.int v :: st)) : J ws pc lv (.int y :: .int x :: st) := by
  obtain ⟨p, e, R, s, m, args, below, meth, c, A, cells, slots, Q, rfl, hx, hb, hml, hown, hts, hK, hA, hfr, hlo, hc1, hc2⟩ := C
  intro H locs ls hP hD hS hl
  subst hv
  exact lv_iand hx hb hd (k H locs ls hP hD hS hl)
theorem gi_ior (C : GC J l D cl tys cc nL own fr lo) {x y v : Int32} (hd : decode cc pc = .ok (.ior, 1)) (hv : x ||| y = v) (k : J ws (pc + 1) lv (.int v :: st)) : J ws pc lv (.int y :: .int x :: st) := by
  obtain ⟨p, e, R, s, m, args, below, meth, c, A, cells, slots, Q, rfl, hx, hb, hml, hown, hts, hK, hA, hfr, hlo, hc1, hc2⟩ := C
  intro H locs ls hP hD hS hl
  subst hv
  exact lv_ior hx hb hd (k H locs ls hP hD hS hl)
theorem gi_ixor (C : GC J l D cl tys cc nL own fr lo) {x y v : Int32} (hd : decode cc pc = .ok (.ixor, 1)) (hv : x ^^^ y = v) (k : J ws (pc + 1) lv (.int v :: st)) : J ws pc lv (.int y :: .int x :: st) := by
  obtain ⟨p, e, R, s, m, args, below, meth, c, A, cells, slots, Q, rfl, hx, hb, hml, hown, hts, hK, hA, hfr, hlo, hc1, hc2⟩ := C
  intro H locs ls hP hD hS hl
  subst hv
  exact lv_ixor hx hb hd (k H locs ls hP hD hS hl)
theorem gi_ishl (C : GC J l D cl tys cc nL own fr lo) {x y v : Int32} (hd : decode cc pc = .ok (.ishl, 1)) (hv : x <<< (y &&& 31) = v) (k : J ws (pc + 1) lv (.int v :: st)) : J ws pc lv (.int y :: .int x :: st) := by
  obtain ⟨p, e, R, s, m, args, below, meth, c, A, cells, slots, Q, rfl, hx, hb, hml, hown, hts, hK, hA, hfr, hlo, hc1, hc2⟩ := C
  intro H locs ls hP hD hS hl
  subst hv
  exact lv_ishl hx hb hd (k H locs ls hP hD hS hl)
theorem gi_ishr (C : GC J l D cl tys cc nL own fr lo) {x y v : Int32} (hd : decode cc pc = .ok (.ishr, 1)) (hv : x >>> (y &&& 31) = v) (k : J ws (pc + 1) lv (.int v :: st)) : J ws pc lv (.int y :: .int x :: st) := by
  obtain ⟨p, e, R, s, m, args, below, meth, c, A, cells, slots, Q, rfl, hx, hb, hml, hown, hts, hK, hA, hfr, hlo, hc1, hc2⟩ := C
  intro H locs ls hP hD hS hl
  subst hv
  exact lv_ishr hx hb hd (k H locs ls hP hD hS hl)
theorem gi_iushr (C : GC J l D cl tys cc nL own fr lo) {x y v : Int32} (hd : decode cc pc = .ok (.iushr, 1)) (hv : (x.toUInt32 >>> (y.toUInt32 &&& Int32.toUInt32 31)).toInt32 = v) (k : J ws (pc + 1) lv (.int v :: st)) : J ws pc lv (.int y :: .int x :: st) := by
  obtain ⟨p, e, R, s, m, args, below, meth, c, A, cells, slots, Q, rfl, hx, hb, hml, hown, hts, hK, hA, hfr, hlo, hc1, hc2⟩ := C
  intro H locs ls hP hD hS hl
  exact lv_iushr hx hb hd hv (k H locs ls hP hD hS hl)
theorem gi_dup (C : GC J l D cl tys cc nL own fr lo) {v : Value} (hd : decode cc pc = .ok (.dup, 1)) (hv : v.category = 1) (k : J ws (pc + 1) lv (v :: v :: st)) : J ws pc lv (v :: st) := by
  obtain ⟨p, e, R, s, m, args, below, meth, c, A, cells, slots, Q, rfl, hx, hb, hml, hown, hts, hK, hA, hfr, hlo, hc1, hc2⟩ := C
  intro H locs ls hP hD hS hl
  exact lv_dup hx hb hd hv (k H locs ls hP hD hS hl)
theorem gi_dup2 (C : GC J l D cl tys cc nL own fr lo) {v w : Value} (hd : decode cc pc = .ok (.dup2, 1)) (hv : v.category = 1) (hw : w.category = 1) (k : J ws (pc + 1) lv (v :: w :: v :: w :: st)) : J ws pc lv (v :: w :: st) := by
  obtain ⟨p, e, R, s, m, args, below, meth, c, A, cells, slots, Q, rfl, hx, hb, hml, hown, hts, hK, hA, hfr, hlo, hc1, hc2⟩ := C
  intro H locs ls hP hD hS hl
  exact lv_dup2_11 hx hb hd hv hw (k H locs ls hP hD hS hl)
theorem gi_goto (C : GC J l D cl tys cc nL own fr lo) {off : Int} {tgt : Nat} (hd : decode cc pc = .ok (.goto off, 3)) (ht : (pc : Int) + off = (tgt : Int)) (k : J ws tgt lv st) : J ws pc lv st := by
  obtain ⟨p, e, R, s, m, args, below, meth, c, A, cells, slots, Q, rfl, hx, hb, hml, hown, hts, hK, hA, hfr, hlo, hc1, hc2⟩ := C
  intro H locs ls hP hD hS hl
  exact lv_goto hx hb hd ht (k H locs ls hP hD hS hl)
-- branches, raw
theorem gi_if_eq (C : GC J l D cl tys cc nL own fr lo) {x : Int32} {off : Int} {tgt : Nat} (hd : decode cc pc = .ok (.ifCond .eq off, 3)) (ht : (pc : Int) + off = (tgt : Int)) (kt : x = 0 → J ws tgt lv st) (kf : ¬ x = 0 → J ws (pc + 3) lv st) : J ws pc lv (.int x :: st) := by
  obtain ⟨p, e, R, s, m, args, below, meth, c, A, cells, slots, Q, rfl, hx, hb, hml, hown, hts, hK, hA, hfr, hlo, hc1, hc2⟩ := C
  intro H locs ls hP hD hS hl
  exact lv_if_eq hx hb hd ht (fun z => kt z H locs ls hP hD hS hl) (fun z => kf z H locs ls hP hD hS hl)
theorem gi_icmp_eq (C : GC J l D cl tys cc nL own fr lo) {x y : Int32} {off : Int} {tgt : Nat} (hd : decode cc pc = .ok (.if_icmp .eq off, 3)) (ht : (pc : Int) + off = (tgt : Int)) (kt : x = y → J ws tgt lv st) (kf : ¬ x = y → J ws (pc + 3) lv st) : J ws pc lv (.int y :: .int x :: st) := by
  obtain ⟨p, e, R, s, m, args, below, meth, c, A, cells, slots, Q, rfl, hx, hb, hml, hown, hts, hK, hA, hfr, hlo, hc1, hc2⟩ := C
  intro H locs ls hP hD hS hl
  exact lv_icmp_eq hx hb hd ht (fun z => kt z H locs ls hP hD hS hl) (fun z => kf z H locs ls hP hD hS hl)
theorem gi_if_ne (C : GC J l D cl tys cc nL own fr lo) {x : Int32} {off : Int} {tgt : Nat} (hd : decode cc pc = .ok (.ifCond .ne off, 3)) (ht : (pc : Int) + off = (tgt : Int)) (kt : ¬ x = 0 → J ws tgt lv st) (kf : x = 0 → J ws (pc + 3) lv st) : J ws pc lv (.int x :: st) := by
  obtain ⟨p, e, R, s, m, args, below, meth, c, A, cells, slots, Q, rfl, hx, hb, hml, hown, hts, hK, hA, hfr, hlo, hc1, hc2⟩ := C
  intro H locs ls hP hD hS hl
  exact lv_if_ne hx hb hd ht (fun z => kt z H locs ls hP hD hS hl) (fun z => kf z H locs ls hP hD hS hl)
theorem gi_icmp_ne (C : GC J l D cl tys cc nL own fr lo) {x y : Int32} {off : Int} {tgt : Nat} (hd : decode cc pc = .ok (.if_icmp .ne off, 3)) (ht : (pc : Int) + off = (tgt : Int)) (kt : ¬ x = y → J ws tgt lv st) (kf : x = y → J ws (pc + 3) lv st) : J ws pc lv (.int y :: .int x :: st) := by
  obtain ⟨p, e, R, s, m, args, below, meth, c, A, cells, slots, Q, rfl, hx, hb, hml, hown, hts, hK, hA, hfr, hlo, hc1, hc2⟩ := C
  intro H locs ls hP hD hS hl
  exact lv_icmp_ne hx hb hd ht (fun z => kt z H locs ls hP hD hS hl) (fun z => kf z H locs ls hP hD hS hl)
theorem gi_if_lt (C : GC J l D cl tys cc nL own fr lo) {x : Int32} {off : Int} {tgt : Nat} (hd : decode cc pc = .ok (.ifCond .lt off, 3)) (ht : (pc : Int) + off = (tgt : Int)) (kt : x < 0 → J ws tgt lv st) (kf : ¬ x < 0 → J ws (pc + 3) lv st) : J ws pc lv (.int x :: st) := by
  obtain ⟨p, e, R, s, m, args, below, meth, c, A, cells, slots, Q, rfl, hx, hb, hml, hown, hts, hK, hA, hfr, hlo, hc1, hc2⟩ := C
  intro H locs ls hP hD hS hl
  exact lv_if_lt hx hb hd ht (fun z => kt z H locs ls hP hD hS hl) (fun z => kf z H locs ls hP hD hS hl)
theorem gi_icmp_lt (C : GC J l D cl tys cc nL own fr lo) {x y : Int32} {off : Int} {tgt : Nat} (hd : decode cc pc = .ok (.if_icmp .lt off, 3)) (ht : (pc : Int) + off = (tgt : Int)) (kt : x < y → J ws tgt lv st) (kf : ¬ x < y → J ws (pc + 3) lv st) : J ws pc lv (.int y :: .int x :: st) := by
  obtain ⟨p, e, R, s, m, args, below, meth, c, A, cells, slots, Q, rfl, hx, hb, hml, hown, hts, hK, hA, hfr, hlo, hc1, hc2⟩ := C
  intro H locs ls hP hD hS hl
  exact lv_icmp_lt hx hb hd ht (fun z => kt z H locs ls hP hD hS hl) (fun z => kf z H locs ls hP hD hS hl)
theorem gi_if_le (C : GC J l D cl tys cc nL own fr lo) {x : Int32} {off : Int} {tgt : Nat} (hd : decode cc pc = .ok (.ifCond .le off, 3)) (ht : (pc : Int) + off = (tgt : Int)) (kt : x ≤ 0 → J ws tgt lv st) (kf : ¬ x ≤ 0 → J ws (pc + 3) lv st) : J ws pc lv (.int x :: st) := by
  obtain ⟨p, e, R, s, m, args, below, meth, c, A, cells, slots, Q, rfl, hx, hb, hml, hown, hts, hK, hA, hfr, hlo, hc1, hc2⟩ := C
  intro H locs ls hP hD hS hl
  exact lv_if_le hx hb hd ht (fun z => kt z H locs ls hP hD hS hl) (fun z => kf z H locs ls hP hD hS hl)
theorem gi_icmp_le (C : GC J l D cl tys cc nL own fr lo) {x y : Int32} {off : Int} {tgt : Nat} (hd : decode cc pc = .ok (.if_icmp .le off, 3)) (ht : (pc : Int) + off = (tgt : Int)) (kt : x ≤ y → J ws tgt lv st) (kf : ¬ x ≤ y → J ws (pc + 3) lv st) : J ws pc lv (.int y :: .int x :: st) := by
  obtain ⟨p, e, R, s, m, args, below, meth, c, A, cells, slots, Q, rfl, hx, hb, hml, hown, hts, hK, hA, hfr, hlo, hc1, hc2⟩ := C
  intro H locs ls hP hD hS hl
  exact lv_icmp_le hx hb hd ht (fun z => kt z H locs ls hP hD hS hl) (fun z => kf z H locs ls hP hD hS hl)
theorem gi_if_ge (C : GC J l D cl tys cc nL own fr lo) {x : Int32} {off : Int} {tgt : Nat} (hd : decode cc pc = .ok (.ifCond .ge off, 3)) (ht : (pc : Int) + off = (tgt : Int)) (kt : 0 ≤ x → J ws tgt lv st) (kf : ¬ 0 ≤ x → J ws (pc + 3) lv st) : J ws pc lv (.int x :: st) := by
  obtain ⟨p, e, R, s, m, args, below, meth, c, A, cells, slots, Q, rfl, hx, hb, hml, hown, hts, hK, hA, hfr, hlo, hc1, hc2⟩ := C
  intro H locs ls hP hD hS hl
  exact lv_if_ge hx hb hd ht (fun z => kt z H locs ls hP hD hS hl) (fun z => kf z H locs ls hP hD hS hl)
theorem gi_icmp_ge (C : GC J l D cl tys cc nL own fr lo) {x y : Int32} {off : Int} {tgt : Nat} (hd : decode cc pc = .ok (.if_icmp .ge off, 3)) (ht : (pc : Int) + off = (tgt : Int)) (kt : y ≤ x → J ws tgt lv st) (kf : ¬ y ≤ x → J ws (pc + 3) lv st) : J ws pc lv (.int y :: .int x :: st) := by
  obtain ⟨p, e, R, s, m, args, below, meth, c, A, cells, slots, Q, rfl, hx, hb, hml, hown, hts, hK, hA, hfr, hlo, hc1, hc2⟩ := C
  intro H locs ls hP hD hS hl
  exact lv_icmp_ge hx hb hd ht (fun z => kt z H locs ls hP hD hS hl) (fun z => kf z H locs ls hP hD hS hl)
theorem gi_if_gt (C : GC J l D cl tys cc nL own fr lo) {x : Int32} {off : Int} {tgt : Nat} (hd : decode cc pc = .ok (.ifCond .gt off, 3)) (ht : (pc : Int) + off = (tgt : Int)) (kt : 0 < x → J ws tgt lv st) (kf : ¬ 0 < x → J ws (pc + 3) lv st) : J ws pc lv (.int x :: st) := by
  obtain ⟨p, e, R, s, m, args, below, meth, c, A, cells, slots, Q, rfl, hx, hb, hml, hown, hts, hK, hA, hfr, hlo, hc1, hc2⟩ := C
  intro H locs ls hP hD hS hl
  exact lv_if_gt hx hb hd ht (fun z => kt z H locs ls hP hD hS hl) (fun z => kf z H locs ls hP hD hS hl)
theorem gi_icmp_gt (C : GC J l D cl tys cc nL own fr lo) {x y : Int32} {off : Int} {tgt : Nat} (hd : decode cc pc = .ok (.if_icmp .gt off, 3)) (ht : (pc : Int) + off = (tgt : Int)) (kt : y < x → J ws tgt lv st) (kf : ¬ y < x → J ws (pc + 3) lv st) : J ws pc lv (.int y :: .int x :: st) := by
  obtain ⟨p, e, R, s, m, args, below, meth, c, A, cells, slots, Q, rfl, hx, hb, hml, hown, hts, hK, hA, hfr, hlo, hc1, hc2⟩ := C
  intro H locs ls hP hD hS hl
  exact lv_icmp_gt hx hb hd ht (fun z => kt z H locs ls hP hD hS hl) (fun z => kf z H locs ls hP hD hS hl)
theorem gi_top {J : gJ} {ws : va_W} {pc : Nat} {lv : List (Nat × Value)} {st : List Value} {x y : Int32} (h : x = y) (k : J ws pc lv (.int y :: st)) : J ws pc lv (.int x :: st) := by rw [h]; exact k
theorem gi_ws {J : gJ} {ws ws' : va_W} {pc : Nat} {lv : List (Nat × Value)} {st : List Value} (h : ws = ws') (k : J ws' pc lv st) : J ws pc lv st := by rw [h]; exact k
theorem gi_get (C : GC J l D cl tys cc nL own fr lo) {ref Cn : String} {T : u_T} {N ci index a : Nat} (hin : ∀ w ∈ u_ws Cn T N, w ∈ lw_all) (q0 : Nat) {fs : List Value} (he : ws[q0]? = some (a, .inr (ci, fs))) (hc : cl[ci]? = some (Cn, T, N)) (kf : Nat) (hk : kf < N) (hlink : Cond.fieldLink own index ref (T kf).2.1 (T kf).2.2.1 ∈ lw_all) (hsame : (T kf).1 = ref) {v : Value} (hv : fs[kf]? = some v) (hd : decode cc pc = .ok (.getfield index, 3)) (k : J ws (pc + 3) lv (v :: st)) : J ws pc lv (.ref a :: st) := by
  obtain ⟨p, e, R, s, m, args, below, meth, c, A, cells, slots, Q, rfl, hx, hb, hml, hown, hts, hK, hA, hfr, hlo, hc1, hc2⟩ := C
  intro H locs ls hP hD hS hl
  exact va_get hx hb hts hin hown hK hP q0 he hc kf hk (hts _ hlink) (fun _ h9 => by rw [← hsame]; exact h9) hv hd (k H locs ls hP hD hS hl)
theorem gi_put (C : GC J l D cl tys cc nL own fr lo) {ref Cn : String} {T : u_T} {N ci index a : Nat} (hin : ∀ w ∈ u_ws Cn T N, w ∈ lw_all) (ty0 : Nat → FieldType) (hty : ∀ k, k < N → parseFieldDescriptor (T k).2.2.1 = some (ty0 k)) (hnm : ∀ a, a < N → ∀ b, b < N → a ≠ b → (T a).2.1 ≠ (T b).2.1) (q0 : Nat) {fs : List Value} (he : ws[q0]? = some (a, .inr (ci, fs))) (hc : cl[ci]? = some (Cn, T, N)) (kf : Nat) (hk : kf < N) (hlink : Cond.fieldLink own index ref (T kf).2.1 (T kf).2.2.1 ∈ lw_all) (hsame : (T kf).1 = ref) (hfin : (T kf).2.2.2 = false) {ty : FieldType} {v : Value} (hdd : parseFieldDescriptor (T kf).2.2.1 = some ty) (hn : narrow ty v = v) (hfit : fits ty v = true) (hlf : kf < fs.length) {ws' : va_W} (hw : ws.set q0 (a, .inr (ci, fs.set kf v)) = ws') (hd : decode cc pc = .ok (.putfield index, 3)) (k : J ws' (pc + 3) lv st) : J ws pc lv (v :: .ref a :: st) := by
  obtain ⟨p, e, R, s, m, args, below, meth, c, A, cells, slots, Q, rfl, hx, hb, hml, hown, hts, hK, hA, hfr, hlo, hc1, hc2⟩ := C
  intro H locs ls hP hD hS hl
  exact va_put hx hb hts hin ty0 hty hnm hown hK hP hD hS q0 he hc kf hk (hts _ hlink) (fun _ h9 => by rw [← hsame]; exact h9) hfin hdd hn hfit hlf hd (fun H1 locs1 hP1 hD1 hS1 => k H1 locs1 ls (hw ▸ hP1) (hw ▸ hD1) hS1 hl)
theorem gi_iald (C : GC J l D cl tys cc nL own fr lo) (q0 t0 : Nat) {cA : ClassId} {n a : Nat} {f : Nat → Int32} (ha : ws[q0]? = some (a, .inl (cA, n, .inl f))) (ht : tys[t0]? = some (cA, .int)) {j : Nat} (hj : j < n) (hn : n < 2 ^ 31) {v : Int32} (hv : f j = v) (hd : decode cc pc = .ok (.iaload, 1)) (k : J ws (pc + 1) lv (.int v :: st)) : J ws pc lv (.int (nI j) :: .ref a :: st) := by
  obtain ⟨p, e, R, s, m, args, below, meth, c, A, cells, slots, Q, rfl, hx, hb, hml, hown, hts, hK, hA, hfr, hlo, hc1, hc2⟩ := C
  intro H locs ls hP hD hS hl
  exact va_iald hx hb hK hP q0 t0 ha ht (vp_in_nI hj hn) hd (by rw [nI_clamp (by omega), hv]; exact k H locs ls hP hD hS hl)
theorem gi_zald (C : GC J l D cl tys cc nL own fr lo) (q0 t0 : Nat) {cA : ClassId} {n a : Nat} {f : Nat → Int32} (ha : ws[q0]? = some (a, .inl (cA, n, .inl f))) (ht : tys[t0]? = some (cA, .boolean)) {j : Nat} (hj : j < n) (hn : n < 2 ^ 31) {v : Int32} (hv : f j = v) (hd : decode cc pc = .ok (.baload, 1)) (k : J ws (pc + 1) lv (.int v :: st)) : J ws pc lv (.int (nI j) :: .ref a :: st) := by
  obtain ⟨p, e, R, s, m, args, below, meth, c, A, cells, slots, Q, rfl, hx, hb, hml, hown, hts, hK, hA, hfr, hlo, hc1, hc2⟩ := C
  intro H locs ls hP hD hS hl
  exact va_zald hx hb hK hP q0 t0 ha ht (vp_in_nI hj hn) hd (by rw [nI_clamp (by omega), hv]; exact k H locs ls hP hD hS hl)
theorem gi_iast (C : GC J l D cl tys cc nL own fr lo) (q0 t0 : Nat) {cA : ClassId} {n a : Nat} {f f' : Nat → Int32} (ha : ws[q0]? = some (a, .inl (cA, n, .inl f))) (ht : tys[t0]? = some (cA, .int)) {j : Nat} {x : Int32} (hj : j < n) (hn : n < 2 ^ 31) (hf : upd f j x = f') {ws' : va_W} (hw : ws.set q0 (a, .inl (cA, n, .inl f')) = ws') (hd : decode cc pc = .ok (.iastore, 1)) (k : J ws' (pc + 1) lv st) : J ws pc lv (.int x :: .int (nI j) :: .ref a :: st) := by
  obtain ⟨p, e, R, s, m, args, below, meth, c, A, cells, slots, Q, rfl, hx, hb, hml, hown, hts, hK, hA, hfr, hlo, hc1, hc2⟩ := C
  intro H locs ls hP hD hS hl
  exact va_iast hx hb hK hP hD hS q0 t0 ha ht (vp_in_nI hj hn) hd (fun H1 locs1 hP1 hD1 hS1 => by rw [nI_clamp (by omega), hf, hw] at hP1 hD1; exact k H1 locs1 ls hP1 hD1 hS1 hl)
theorem gi_zast (C : GC J l D cl tys cc nL own fr lo) (q0 t0 : Nat) {cA : ClassId} {n a : Nat} {f f' : Nat → Int32} (ha : ws[q0]? = some (a, .inl (cA, n, .inl f))) (ht : tys[t0]? = some (cA, .boolean)) {j : Nat} {x : Int32} (hj : j < n) (hn : n < 2 ^ 31) (hf : upd f j (vp_nar .boolean x) = f') {ws' : va_W} (hw : ws.set q0 (a, .inl (cA, n, .inl f')) = ws') (hd : decode cc pc = .ok (.bastore, 1)) (k : J ws' (pc + 1) lv st) : J ws pc lv (.int x :: .int (nI j) :: .ref a :: st) := by
  obtain ⟨p, e, R, s, m, args, below, meth, c, A, cells, slots, Q, rfl, hx, hb, hml, hown, hts, hK, hA, hfr, hlo, hc1, hc2⟩ := C
  intro H locs ls hP hD hS hl
  exact va_zast hx hb hK hP hD hS q0 t0 ha ht (vp_in_nI hj hn) hd (fun H1 locs1 hP1 hD1 hS1 => by rw [nI_clamp (by omega), hf, hw] at hP1 hD1; exact k H1 locs1 ls hP1 hD1 hS1 hl)
theorem gi_calli (C : GC J l D cl tys cc nL own fr lo) {y : MethodName} {bytes : ByteArray} {maxL fr' lo' n idx : Nat} {As rest : List Value} {ret : Option FieldType} {b : Nat} {post : Int32 → va_W → Prop} {Cn : String} {T : u_T} {N ci : Nat} {fs : List Value} (hM : GMi l D cl tys y bytes maxL ret fr' lo' (.ref b :: As) ws post) (hw : GoodIn lw_all (wsV own idx Cn y (ws_ y bytes maxL ret))) (hdy : y.cls = Cn ∧ y.cls ≠ "java/lang/invoke/MethodHandle" ∧ y.cls ≠ "java/lang/invoke/VarHandle" ∧ (parseMethodDescriptor y.desc).map (fun d => d.parameters.length) = some n) (hR : fr' + 1 ≤ fr ∧ 8 + (maxL + 11) + lo' ≤ lo) (q0 : Nat) (hc : cl[ci]? = some (Cn, T, N)) (he : ws[q0]? = some (b, .inr (ci, fs))) (hn : As.length = n) (hst : st = As.reverse ++ .ref b :: rest) (hcat : (rest.map fun v => v.category).sum ≤ 8) (hdg : decode cc pc = .ok (.invokevirtual idx, 3)) (k : ∀ (r : Int32) (u : va_W), post r u → J u (pc + 3) lv (.int r :: rest)) : J ws pc lv st := by
  obtain ⟨p, e, R, s, m, args, below, meth, c, A, cells, slots, Q, rfl, hx, hb, hml, hown, hts, hK, hA, hfr, hlo, hc1, hc2⟩ := C
  intro H locs ls hP hD hS hl
  subst hst
  have hFc := g_free hD hS hA
  refine va_calli (va_runV (As := As) (rest := rest) ⟨hx, hb, hml, hown, hts⟩ (hM H.size) (cwV n hts hw rfl rfl rfl hdy ⟨by rw [hfr]; exact hR.1, by rw [hlo]; exact hR.2⟩) ⟨fun a U g mk q => by obtain ⟨z0, z1, qP, qK, qD⟩ := q; exact ⟨z0, z1, qP, va_K.moved (u := U) (U := U.calling g mk a) (Vm.Alike.refl U.vm) qK, qD⟩, va_recv hK hP hc he, fun U hU hW => ⟨rfl, by rw [hU], by rw [hU]; exact hP, va_K.moved hW.alike hK, hD.weaken (fun _ _ _ _ => trivial)⟩⟩ rfl hn hl.1 rfl (lv_room hcat) hdg ⟨hc1, hc2⟩) hS (fun q _ h => hFc q h) hFc (fun r u t H1 locs1 ht hvm hw1 hB hz1 hk1 hS1 => ?_)
  obtain ⟨hP1, hK1, hD1⟩ := hB
  rw [ht] at hP1
  exact k r u hw1 H1 locs1 ls hP1 (hD1.weaken (fun _ _ _ h => hFc _ h)) hS1 hl
theorem gi_callv (C : GC J l D cl tys cc nL own fr lo) {y : MethodName} {bytes : ByteArray} {maxL fr' lo' n idx : Nat} {As rest : List Value}  {b : Nat} {post : va_W → Prop} {Cn : String} {T : u_T} {N ci : Nat} {fs : List Value} (hM : GMv l D cl tys y bytes maxL fr' lo' (.ref b :: As) ws post) (hw : GoodIn lw_all (wsV own idx Cn y (ws_ y bytes maxL none))) (hdy : y.cls = Cn ∧ y.cls ≠ "java/lang/invoke/MethodHandle" ∧ y.cls ≠ "java/lang/invoke/VarHandle" ∧ (parseMethodDescriptor y.desc).map (fun d => d.parameters.length) = some n) (hR : fr' + 1 ≤ fr ∧ 8 + (maxL + 11) + lo' ≤ lo) (q0 : Nat) (hc : cl[ci]? = some (Cn, T, N)) (he : ws[q0]? = some (b, .inr (ci, fs))) (hn : As.length = n) (hst : st = As.reverse ++ .ref b :: rest) (hcat : (rest.map fun v => v.category).sum ≤ 8) (hdg : decode cc pc = .ok (.invokevirtual idx, 3)) (k : ∀ u : va_W, post u → J u (pc + 3) lv rest) : J ws pc lv st := by
  obtain ⟨p, e, R, s, m, args, below, meth, c, A, cells, slots, Q, rfl, hx, hb, hml, hown, hts, hK, hA, hfr, hlo, hc1, hc2⟩ := C
  intro H locs ls hP hD hS hl
  subst hst
  have hFc := g_free hD hS hA
  refine va_callv (va_runV (As := As) (rest := rest) ⟨hx, hb, hml, hown, hts⟩ (hM H.size) (cwV n hts hw rfl rfl rfl hdy ⟨by rw [hfr]; exact hR.1, by rw [hlo]; exact hR.2⟩) ⟨fun a U g mk q => by obtain ⟨z0, z1, qP, qK, qD⟩ := q; exact ⟨z0, z1, qP, va_K.moved (u := U) (U := U.calling g mk a) (Vm.Alike.refl U.vm) qK, qD⟩, va_recv hK hP hc he, fun U hU hW => ⟨rfl, by rw [hU], by rw [hU]; exact hP, va_K.moved hW.alike hK, hD.weaken (fun _ _ _ _ => trivial)⟩⟩ rfl hn hl.1 rfl (lv_room hcat) hdg ⟨hc1, hc2⟩) hS (fun q _ h => hFc q h) hFc (fun u t H1 locs1 ht hvm hw1 hB hz1 hk1 hS1 => ?_)
  obtain ⟨hP1, hK1, hD1⟩ := hB
  rw [ht] at hP1
  exact k u hw1 H1 locs1 ls hP1 (hD1.weaken (fun _ _ _ h => hFc _ h)) hS1 hl
theorem gi_calls (C : GC J l D cl tys cc nL own fr lo) {y : MethodName} {bytes : ByteArray} {maxL fr' lo' n idx : Nat} {As rest : List Value} {ret : Option FieldType} {post : Int32 → va_W → Prop} (hM : GMi l D cl tys y bytes maxL ret fr' lo' As [] post) (hw : GoodIn lw_all (va_wsS own idx y (ws_ y bytes maxL ret))) (hdy : y.cls ≠ "java/lang/invoke/MethodHandle" ∧ y.cls ≠ "java/lang/invoke/VarHandle" ∧ (parseMethodDescriptor y.desc).map (fun d => d.parameters.length) = some n) (hR : fr' + 1 ≤ fr ∧ 8 + (maxL + 11) + lo' ≤ lo) (hn : As.length = n) (hst : st = As.reverse ++ rest) (hcat : (rest.map fun v => v.category).sum ≤ 8) (hdg : decode cc pc = .ok (.invokestatic idx, 3)) (k : ∀ (r : Int32) (u : va_W), post r u → J ws (pc + 3) lv (.int r :: rest)) : J ws pc lv st := by
  obtain ⟨p, e, R, s, m, args, below, meth, c, A, cells, slots, Q, rfl, hx, hb, hml, hown, hts, hK, hA, hfr, hlo, hc1, hc2⟩ := C
  intro H locs ls hP hD hS hl
  subst hst
  have hn0 : ∀ q, va_A [] H.size q → H.size ≤ q := fun q h => by
    rcases h with ⟨k, e, h⟩ | h
    · cases h
    · exact h
  have hFc : ∀ q, va_A [] H.size q → A q := fun q h => hA q (Nat.le_trans hS.1 (hn0 q h))
  refine va_calli (va_runS (As := As) (rest := rest) ⟨hx, hb, hml, hown, hts⟩ (hM H.size) (va_cwS n hts hw rfl rfl rfl hdy ⟨by rw [hfr]; exact hR.1, by rw [hlo]; exact hR.2⟩) ⟨fun a U g mk q => by obtain ⟨z0, z1, qP, qK, qD⟩ := q; exact ⟨z0, z1, qP, va_K.moved (u := U) (U := U.calling g mk a) (Vm.Alike.refl U.vm) qK, qD⟩, fun U hU hW => ⟨rfl, by rw [hU], fun k q h => (by cases h), va_K.moved hW.alike hK, ⟨fun i j p q h => (by cases h), fun k q h => (by cases h)⟩⟩⟩ rfl hn hl.1 rfl (lv_room hcat) hdg ⟨hc1, hc2⟩) hS (fun q _ h => hFc q h) hFc (fun r u t H1 locs1 ht hvm hw1 hB hz1 hk1 hS1 => ?_)
  exact k r u hw1 H1 locs1 ls (hP.kept (fun k q hk => hk1 q.1 (hP k q hk).lt (fun z => absurd (hn0 _ z) (Nat.not_le.mpr (hP k q hk).lt)))) hD hS1 hl
end GR
/-! NUMBERS: every int as nI of a Nat; a truth value as b2i -/
def b2i (b : Bool) : Int32 := nI b.toNat
theorem b2i_0 {b : Bool} : b2i b = 0 ↔ b = false := by cases b <;> decide
theorem b2i_1 {b : Bool} : b2i b = nI 1 ↔ b = true := by cases b <;> decide
theorem b2i_nar (b : Bool) : narrow .boolean (.int (b2i b)) = .int (b2i b) := by cases b <;> decide
theorem b2i_fit (b : Bool) : fits .boolean (.int (b2i b)) = true := by cases b <;> decide
theorem b2i_vp (b : Bool) : vp_nar .boolean (b2i b) = b2i b := by cases b <;> decide
theorem upd_nI (f : Nat → Nat) (j v : Nat) : upd (fun i => nI (f i)) j (nI v) = fun i => nI (va_up f j v i) := by
  funext i
  unfold upd va_up
  split <;> rfl
theorem upd_b2i (k j : Nat) (v : Bool) : upd (fun i => b2i (k.testBit i)) j (vp_nar .boolean (b2i v)) = fun i => b2i ((setb k j v).testBit i) := by
  funext i
  rw [b2i_vp, setb_tb]
  unfold upd
  split <;> rfl
theorem nx_and (a b : Nat) : nI a &&& nI b = nI (a &&& b) := by
  apply Int32.toBitVec_inj.1
  show BitVec.ofNat 32 a &&& BitVec.ofNat 32 b = BitVec.ofNat 32 (a &&& b)
  apply BitVec.eq_of_getLsbD_eq
  intro i hi
  simp [hi]
theorem nx_or (a b : Nat) : nI a ||| nI b = nI (a ||| b) := by
  apply Int32.toBitVec_inj.1
  show BitVec.ofNat 32 a ||| BitVec.ofNat 32 b = BitVec.ofNat 32 (a ||| b)
  apply BitVec.eq_of_getLsbD_eq
  intro i hi
  simp [hi]
theorem nx_shl : ∀ t, t < 31 → nI 1 <<< (nI t &&& 31) = nI (2 ^ t) := by decide +kernel
theorem s_l : ∀ n, n < 32 → ((nI n &&& 31).toBitVec.smod 32).toNat = n := by decide +kernel
theorem s_u : ∀ n, n < 32 → (((nI n).toUInt32 &&& Int32.toUInt32 31).toBitVec % 32).toNat = n := by decide +kernel
theorem nx_bit1 (a t : Nat) : nI (a / 2 ^ t) &&& nI 1 = b2i (a.testBit t) := by
  rw [nx_and, Nat.and_one_is_mod, Nat.testBit_eq_decide_div_mod_eq]
  unfold b2i
  rcases Nat.mod_two_eq_zero_or_one (a / 2 ^ t) with h | h
  · rw [h]; rfl
  · rw [h]; rfl
theorem nx_ushr {a t : Nat} (ha : a < 2 ^ 31) (ht : t < 31) : ((nI a).toUInt32 >>> ((nI t).toUInt32 &&& Int32.toUInt32 31)).toInt32 = nI (a / 2 ^ t) := pk_ushrN (by omega) (nI t) t (s_u t (by omega))
theorem nx_sshr {a t : Nat} (ha : a < 2 ^ 31) (ht : t < 31) : nI a >>> (nI t &&& 31) = nI (a / 2 ^ t) := pk_shrN ha (nI t &&& 31) t (s_l t (by omega))
theorem nx_clr {h t : Nat} (hh : h < 268435456) (ht : t < 28) : nI h &&& (nI (2 ^ t) ^^^ (-1)) = nI (setb h t false) := by
  apply Int32.toBitVec_inj.1
  show BitVec.ofNat 32 h &&& (BitVec.ofNat 32 (2 ^ t) ^^^ (-1 : Int32).toBitVec) = BitVec.ofNat 32 (setb h t false)
  have e1 : (-1 : Int32).toBitVec = BitVec.allOnes 32 := by decide
  rw [e1]
  apply BitVec.eq_of_getLsbD_eq
  intro i hi
  rw [BitVec.getLsbD_and, BitVec.getLsbD_xor, BitVec.getLsbD_ofNat, BitVec.getLsbD_ofNat, BitVec.getLsbD_ofNat, BitVec.getLsbD_allOnes, setb_tb, Nat.testBit_two_pow]
  by_cases e : i = t
  · subst e
    simp
  · have e2 : ¬ t = i := fun z => e z.symm
    simp [e, e2, hi]
section GN
variable {J : gJ} {l : Launch} {D : va_G} {cl : List vw_C} {tys : List (ClassId × FieldType)} {cc : ByteArray} {nL : Nat} {own : String} {fr lo : Nat} {ws : va_W} {pc : Nat} {lv : List (Nat × Value)} {st : List Value}
theorem gn_iadd (C : GC J l D cl tys cc nL own fr lo) {a b : Nat} (hd : decode cc pc = .ok (.iadd, 1)) (k : J ws (pc + 1) lv (.int (nI (a + b)) :: st)) : J ws pc lv (.int (nI b) :: .int (nI a) :: st) :=
  gi_iadd C hd (nI_add a b) k
theorem gn_isub (C : GC J l D cl tys cc nL own fr lo) {a b : Nat} (hd : decode cc pc = .ok (.isub, 1)) (hab : b ≤ a) (k : J ws (pc + 1) lv (.int (nI (a - b)) :: st)) : J ws pc lv (.int (nI b) :: .int (nI a) :: st) :=
  gi_isub C hd (pk_sub hab) k
theorem gn_iand (C : GC J l D cl tys cc nL own fr lo) {a b : Nat} (hd : decode cc pc = .ok (.iand, 1)) (k : J ws (pc + 1) lv (.int (nI (a &&& b)) :: st)) : J ws pc lv (.int (nI b) :: .int (nI a) :: st) :=
  gi_iand C hd (nx_and a b) k
theorem gn_ior (C : GC J l D cl tys cc nL own fr lo) {a t : Nat} (hd : decode cc pc = .ok (.ior, 1)) (k : J ws (pc + 1) lv (.int (nI (setb a t true)) :: st)) : J ws pc lv (.int (nI (2 ^ t)) :: .int (nI a) :: st) :=
  gi_ior C hd ((nx_or a (2 ^ t)).trans (congrArg nI (or_setb a t))) k
theorem gn_ishl (C : GC J l D cl tys cc nL own fr lo) {t : Nat} (hd : decode cc pc = .ok (.ishl, 1)) (ht : t < 31) (k : J ws (pc + 1) lv (.int (nI (2 ^ t)) :: st)) : J ws pc lv (.int (nI t) :: .int (nI 1) :: st) :=
  gi_ishl C hd (nx_shl t ht) k
theorem gn_bitU (C : GC J l D cl tys cc nL own fr lo) {a t : Nat} (d1 : decode cc pc = .ok (.iushr, 1)) (d2 : decode cc (pc + 1) = .ok (.iconst 1, 1)) (d3 : decode cc (pc + 1 + 1) = .ok (.iand, 1)) (ha : a < 2 ^ 31) (ht : t < 31) (k : J ws (pc + 1 + 1 + 1) lv (.int (b2i (a.testBit t)) :: st)) : J ws pc lv (.int (nI t) :: .int (nI a) :: st) :=
  gi_iushr C d1 (nx_ushr ha ht) (gi_iconst (v := nI 1) C d2 (by decide) (gi_iand C d3 (nx_bit1 a t) k))
theorem gn_bitS (C : GC J l D cl tys cc nL own fr lo) {a t : Nat} (d1 : decode cc pc = .ok (.ishr, 1)) (d2 : decode cc (pc + 1) = .ok (.iconst 1, 1)) (d3 : decode cc (pc + 1 + 1) = .ok (.iand, 1)) (ha : a < 2 ^ 31) (ht : t < 31) (k : J ws (pc + 1 + 1 + 1) lv (.int (b2i (a.testBit t)) :: st)) : J ws pc lv (.int (nI t) :: .int (nI a) :: st) :=
  gi_ishr C d1 (nx_sshr ha ht) (gi_iconst (v := nI 1) C d2 (by decide) (gi_iand C d3 (nx_bit1 a t) k))
theorem gb_ifeq (C : GC J l D cl tys cc nL own fr lo) {b : Bool} {off : Int} {tgt : Nat} (hd : decode cc pc = .ok (.ifCond .eq off, 3)) (ht : (pc : Int) + off = (tgt : Int)) (kt : b = false → J ws tgt lv st) (kf : b = true → J ws (pc + 3) lv st) : J ws pc lv (.int (b2i b) :: st) :=
  gi_if_eq C hd ht (fun z => kt (b2i_0.mp z)) (fun z => kf (by cases b with | true => rfl | false => exact absurd (b2i_0.mpr rfl) z))
theorem gb_ifne (C : GC J l D cl tys cc nL own fr lo) {b : Bool} {off : Int} {tgt : Nat} (hd : decode cc pc = .ok (.ifCond .ne off, 3)) (ht : (pc : Int) + off = (tgt : Int)) (kt : b = true → J ws tgt lv st) (kf : b = false → J ws (pc + 3) lv st) : J ws pc lv (.int (b2i b) :: st) :=
  gi_if_ne C hd ht (fun z => kt (by cases b with | true => rfl | false => exact absurd (b2i_0.mpr rfl) z)) (fun z => kf (b2i_0.mp z))
theorem gn_ifeq (C : GC J l D cl tys cc nL own fr lo) {a : Nat} (ha : a < 2 ^ 31) {off : Int} {tgt : Nat} (hd : decode cc pc = .ok (.ifCond .eq off, 3)) (ht : (pc : Int) + off = (tgt : Int)) (kt : a = 0 → J ws tgt lv st) (kf : a ≠ 0 → J ws (pc + 3) lv st) : J ws pc lv (.int (nI a) :: st) :=
  gi_if_eq C hd ht (fun z => kt ((nI_eq ha (by omega)).mp (z.trans nI_0.symm))) (fun z => kf (fun y => z (by rw [y]; exact nI_0)))
theorem gn_ifne (C : GC J l D cl tys cc nL own fr lo) {a : Nat} (ha : a < 2 ^ 31) {off : Int} {tgt : Nat} (hd : decode cc pc = .ok (.ifCond .ne off, 3)) (ht : (pc : Int) + off = (tgt : Int)) (kt : a ≠ 0 → J ws tgt lv st) (kf : a = 0 → J ws (pc + 3) lv st) : J ws pc lv (.int (nI a) :: st) :=
  gi_if_ne C hd ht (fun z => kt (fun y => z (by rw [y]; exact nI_0))) (fun z => kf ((nI_eq ha (by omega)).mp (z.trans nI_0.symm)))
theorem gn_ifle (C : GC J l D cl tys cc nL own fr lo) {a : Nat} (ha : a < 2 ^ 31) {off : Int} {tgt : Nat} (hd : decode cc pc = .ok (.ifCond .le off, 3)) (ht : (pc : Int) + off = (tgt : Int)) (kt : a = 0 → J ws tgt lv st) (kf : 0 < a → J ws (pc + 3) lv st) : J ws pc lv (.int (nI a) :: st) :=
  gi_if_le C hd ht (fun z => kt (by rcases Nat.eq_zero_or_pos a with y | y; exact y; exact absurd z (nI_nle y ha))) (fun z => kf (by rcases Nat.eq_zero_or_pos a with y | y; exact absurd (by rw [y]; decide) z; exact y))
theorem gn_icmp_ge (C : GC J l D cl tys cc nL own fr lo) {a b : Nat} (ha : a < 2 ^ 31) (hb : b < 2 ^ 31) {off : Int} {tgt : Nat} (hd : decode cc pc = .ok (.if_icmp .ge off, 3)) (ht : (pc : Int) + off = (tgt : Int)) (kt : b ≤ a → J ws tgt lv st) (kf : a < b → J ws (pc + 3) lv st) : J ws pc lv (.int (nI b) :: .int (nI a) :: st) :=
  gi_icmp_ge C hd ht (fun z => kt ((nI_leI hb ha).mp z)) (fun z => kf (Nat.not_le.mp (fun y => z ((nI_leI hb ha).mpr y))))
theorem gn_icmp_lt (C : GC J l D cl tys cc nL own fr lo) {a b : Nat} (ha : a < 2 ^ 31) (hb : b < 2 ^ 31) {off : Int} {tgt : Nat} (hd : decode cc pc = .ok (.if_icmp .lt off, 3)) (ht : (pc : Int) + off = (tgt : Int)) (kt : a < b → J ws tgt lv st) (kf : b ≤ a → J ws (pc + 3) lv st) : J ws pc lv (.int (nI b) :: .int (nI a) :: st) :=
  gi_icmp_lt C hd ht (fun z => kt ((nI_ltI ha hb).mp z)) (fun z => kf (Nat.not_lt.mp (fun y => z ((nI_ltI ha hb).mpr y))))
theorem gn_icmp_eq (C : GC J l D cl tys cc nL own fr lo) {a b : Nat} (ha : a < 2 ^ 31) (hb : b < 2 ^ 31) {off : Int} {tgt : Nat} (hd : decode cc pc = .ok (.if_icmp .eq off, 3)) (ht : (pc : Int) + off = (tgt : Int)) (kt : a = b → J ws tgt lv st) (kf : a ≠ b → J ws (pc + 3) lv st) : J ws pc lv (.int (nI b) :: .int (nI a) :: st) :=
  gi_icmp_eq C hd ht (fun z => kt ((nI_eq ha hb).mp z)) (fun z => kf (fun y => z (by rw [y])))
theorem gn_icmp_ne (C : GC J l D cl tys cc nL own fr lo) {a b : Nat} (ha : a < 2 ^ 31) (hb : b < 2 ^ 31) {off : Int} {tgt : Nat} (hd : decode cc pc = .ok (.if_icmp .ne off, 3)) (ht : (pc : Int) + off = (tgt : Int)) (kt : a ≠ b → J ws tgt lv st) (kf : a = b → J ws (pc + 3) lv st) : J ws pc lv (.int (nI b) :: .int (nI a) :: st) :=
  gi_icmp_ne C hd ht (fun z => kt (fun y => z (by rw [y]))) (fun z => kf ((nI_eq ha hb).mp z))
theorem gn_iinc (C : GC J l D cl tys cc nL own fr lo) {i : Nat} {a : Nat} {lv' : List (Nat × Value)} (hd : decode cc pc = .ok (.iinc i 1, 3)) (q : Nat) (hk : lv[q]? = some (i, .int (nI a))) (hn : i < nL) (hq : (i, Value.int (nI (a + 1))) :: lv.filter (fun q => !(q.1 == i) && !(q.1 + 1 == i && q.2.category == 2)) = lv') (k : J ws (pc + 3) lv' st) : J ws pc lv st :=
  gi_iinc C hd q hk (by rw [show Int32.ofInt 1 = nI 1 by decide]; exact nI_add a 1) hn hq k
end GN
end
section
/-! THE WORLDS. XW: TermSecrets and its five arrays; MW: TermSecretsModel and its five. ad: addresses, dd: the arrays' classes -/
abbrev vwCl : List vw_C := [(RX0, TX0, 9), (RX1, TX1, 7)]
def XW (ad : Nat → Nat) (dd : Nat → ClassId) (n : Nat) (S L R U : Nat → Nat) (h k w : Nat) (st : Nat → Nat) : va_W :=
  [(ad 0, .inr (0, [.int (nI n), .ref (ad 1), .ref (ad 2), .ref (ad 3), .ref (ad 4), .int (nI h), .int (nI k), .int (nI w), .ref (ad 5)])), (ad 1, .inl (dd 1, 28, .inl (fun i => nI (S i)))), (ad 2, .inl (dd 2, 28, .inl (fun i => nI (L i)))), (ad 3, .inl (dd 3, 28, .inl (fun i => nI (R i)))), (ad 4, .inl (dd 4, 28, .inl (fun i => nI (U i)))), (ad 5, .inl (dd 5, 28, .inl (fun i => nI (st i))))]
def xtys (dd : Nat → ClassId) : List (ClassId × FieldType) := [(dd 1, .int), (dd 2, .int), (dd 3, .int), (dd 4, .int), (dd 5, .int)]
def MW (ad : Nat → Nat) (dd : Nat → ClassId) (n : Nat) (S L R : Nat → Nat) (h k : Nat) (ch : Bool) : va_W :=
  [(ad 0, .inr (1, [.int (nI n), .ref (ad 1), .ref (ad 2), .ref (ad 3), .ref (ad 4), .ref (ad 5), .int (b2i ch)])), (ad 1, .inl (dd 1, 28, .inl (fun i => nI (S i)))), (ad 2, .inl (dd 2, 28, .inl (fun i => nI (L i)))), (ad 3, .inl (dd 3, 28, .inl (fun i => nI (R i)))), (ad 4, .inl (dd 4, 28, .inl (fun i => b2i (h.testBit i)))), (ad 5, .inl (dd 5, 28, .inl (fun i => b2i (k.testBit i))))]
def mtys (dd : Nat → ClassId) : List (ClassId × FieldType) := [(dd 1, .int), (dd 2, .int), (dd 3, .int), (dd 4, .boolean), (dd 5, .boolean)]
section XR
variable {J : gJ} {l : Launch} {D : va_G} {cc : ByteArray} {nL fr lo pc : Nat} {lv : List (Nat × Value)} {rest : List Value} {ad : Nat → Nat} {dd : Nat → ClassId} {n : Nat} {S L R U : Nat → Nat} {h k w : Nat} {st : Nat → Nat} {ch : Bool}
theorem xg0 (C : GC J l D vwCl (xtys dd) cc nL RX0 fr lo) (hd : decode cc pc = .ok (.getfield 25, 3)) (kk : J (XW ad dd n S L R U h k w st) (pc + 3) lv (.int (nI n) :: rest)) : J (XW ad dd n S L R U h k w st) pc lv (.ref (ad 0) :: rest) :=
  gi_get (T := TX0) (N := 9) C in_X0 0 rfl rfl 0 (by decide) q27 rfl rfl hd kk
theorem xg1 (C : GC J l D vwCl (xtys dd) cc nL RX0 fr lo) (hd : decode cc pc = .ok (.getfield 7, 3)) (kk : J (XW ad dd n S L R U h k w st) (pc + 3) lv (.ref (ad 1) :: rest)) : J (XW ad dd n S L R U h k w st) pc lv (.ref (ad 0) :: rest) :=
  gi_get (T := TX0) (N := 9) C in_X0 0 rfl rfl 1 (by decide) q28 rfl rfl hd kk
theorem xg2 (C : GC J l D vwCl (xtys dd) cc nL RX0 fr lo) (hd : decode cc pc = .ok (.getfield 13, 3)) (kk : J (XW ad dd n S L R U h k w st) (pc + 3) lv (.ref (ad 2) :: rest)) : J (XW ad dd n S L R U h k w st) pc lv (.ref (ad 0) :: rest) :=
  gi_get (T := TX0) (N := 9) C in_X0 0 rfl rfl 2 (by decide) q29 rfl rfl hd kk
theorem xg3 (C : GC J l D vwCl (xtys dd) cc nL RX0 fr lo) (hd : decode cc pc = .ok (.getfield 16, 3)) (kk : J (XW ad dd n S L R U h k w st) (pc + 3) lv (.ref (ad 3) :: rest)) : J (XW ad dd n S L R U h k w st) pc lv (.ref (ad 0) :: rest) :=
  gi_get (T := TX0) (N := 9) C in_X0 0 rfl rfl 3 (by decide) q30 rfl rfl hd kk
theorem xg4 (C : GC J l D vwCl (xtys dd) cc nL RX0 fr lo) (hd : decode cc pc = .ok (.getfield 19, 3)) (kk : J (XW ad dd n S L R U h k w st) (pc + 3) lv (.ref (ad 4) :: rest)) : J (XW ad dd n S L R U h k w st) pc lv (.ref (ad 0) :: rest) :=
  gi_get (T := TX0) (N := 9) C in_X0 0 rfl rfl 4 (by decide) q31 rfl rfl hd kk
theorem xg5 (C : GC J l D vwCl (xtys dd) cc nL RX0 fr lo) (hd : decode cc pc = .ok (.getfield 47, 3)) (kk : J (XW ad dd n S L R U h k w st) (pc + 3) lv (.int (nI h) :: rest)) : J (XW ad dd n S L R U h k w st) pc lv (.ref (ad 0) :: rest) :=
  gi_get (T := TX0) (N := 9) C in_X0 0 rfl rfl 5 (by decide) q32 rfl rfl hd kk
theorem xg6 (C : GC J l D vwCl (xtys dd) cc nL RX0 fr lo) (hd : decode cc pc = .ok (.getfield 50, 3)) (kk : J (XW ad dd n S L R U h k w st) (pc + 3) lv (.int (nI k) :: rest)) : J (XW ad dd n S L R U h k w st) pc lv (.ref (ad 0) :: rest) :=
  gi_get (T := TX0) (N := 9) C in_X0 0 rfl rfl 6 (by decide) q33 rfl rfl hd kk
theorem xg7 (C : GC J l D vwCl (xtys dd) cc nL RX0 fr lo) (hd : decode cc pc = .ok (.getfield 67, 3)) (kk : J (XW ad dd n S L R U h k w st) (pc + 3) lv (.int (nI w) :: rest)) : J (XW ad dd n S L R U h k w st) pc lv (.ref (ad 0) :: rest) :=
  gi_get (T := TX0) (N := 9) C in_X0 0 rfl rfl 7 (by decide) q34 rfl rfl hd kk
theorem xg8 (C : GC J l D vwCl (xtys dd) cc nL RX0 fr lo) (hd : decode cc pc = .ok (.getfield 22, 3)) (kk : J (XW ad dd n S L R U h k w st) (pc + 3) lv (.ref (ad 5) :: rest)) : J (XW ad dd n S L R U h k w st) pc lv (.ref (ad 0) :: rest) :=
  gi_get (T := TX0) (N := 9) C in_X0 0 rfl rfl 8 (by decide) q35 rfl rfl hd kk
theorem xp0 (C : GC J l D vwCl (xtys dd) cc nL RX0 fr lo) {v : Nat} (hd : decode cc pc = .ok (.putfield 25, 3)) (kk : J (XW ad dd v S L R U h k w st) (pc + 3) lv rest) : J (XW ad dd n S L R U h k w st) pc lv (.int (nI v) :: .ref (ad 0) :: rest) :=
  gi_put (T := TX0) (N := 9) (ty := .int) (ws' := (XW ad dd v S L R U h k w st)) C in_X0 tyX0 tyX0_ok nmX0 0 rfl rfl 0 (by decide) q27 rfl rfl (by decide +kernel) rfl rfl (Nat.le_of_ble_eq_true rfl) rfl hd kk
theorem xp5 (C : GC J l D vwCl (xtys dd) cc nL RX0 fr lo) {v : Nat} (hd : decode cc pc = .ok (.putfield 47, 3)) (kk : J (XW ad dd n S L R U v k w st) (pc + 3) lv rest) : J (XW ad dd n S L R U h k w st) pc lv (.int (nI v) :: .ref (ad 0) :: rest) :=
  gi_put (T := TX0) (N := 9) (ty := .int) (ws' := (XW ad dd n S L R U v k w st)) C in_X0 tyX0 tyX0_ok nmX0 0 rfl rfl 5 (by decide) q32 rfl rfl (by decide +kernel) rfl rfl (Nat.le_of_ble_eq_true rfl) rfl hd kk
theorem xp6 (C : GC J l D vwCl (xtys dd) cc nL RX0 fr lo) {v : Nat} (hd : decode cc pc = .ok (.putfield 50, 3)) (kk : J (XW ad dd n S L R U h v w st) (pc + 3) lv rest) : J (XW ad dd n S L R U h k w st) pc lv (.int (nI v) :: .ref (ad 0) :: rest) :=
  gi_put (T := TX0) (N := 9) (ty := .int) (ws' := (XW ad dd n S L R U h v w st)) C in_X0 tyX0 tyX0_ok nmX0 0 rfl rfl 6 (by decide) q33 rfl rfl (by decide +kernel) rfl rfl (Nat.le_of_ble_eq_true rfl) rfl hd kk
theorem xp7 (C : GC J l D vwCl (xtys dd) cc nL RX0 fr lo) {v : Nat} (hd : decode cc pc = .ok (.putfield 67, 3)) (kk : J (XW ad dd n S L R U h k v st) (pc + 3) lv rest) : J (XW ad dd n S L R U h k w st) pc lv (.int (nI v) :: .ref (ad 0) :: rest) :=
  gi_put (T := TX0) (N := 9) (ty := .int) (ws' := (XW ad dd n S L R U h k v st)) C in_X0 tyX0 tyX0_ok nmX0 0 rfl rfl 7 (by decide) q34 rfl rfl (by decide +kernel) rfl rfl (Nat.le_of_ble_eq_true rfl) rfl hd kk
theorem xa1 (C : GC J l D vwCl (xtys dd) cc nL RX0 fr lo) {j : Nat} (hd : decode cc pc = .ok (.iaload, 1)) (hj : j < 28) (kk : J (XW ad dd n S L R U h k w st) (pc + 1) lv (.int (nI (S j)) :: rest)) : J (XW ad dd n S L R U h k w st) pc lv (.int (nI j) :: .ref (ad 1) :: rest) :=
  gi_iald C 1 0 rfl rfl hj (by decide) rfl hd kk
theorem xs1 (C : GC J l D vwCl (xtys dd) cc nL RX0 fr lo) {j : Nat} {v : Nat} (hd : decode cc pc = .ok (.iastore, 1)) (hj : j < 28) (kk : J (XW ad dd n (va_up S j v) L R U h k w st) (pc + 1) lv rest) : J (XW ad dd n S L R U h k w st) pc lv (.int (nI v) :: .int (nI j) :: .ref (ad 1) :: rest) :=
  gi_iast C 1 0 rfl rfl hj (by decide) (upd_nI S j v) rfl hd kk
theorem xa2 (C : GC J l D vwCl (xtys dd) cc nL RX0 fr lo) {j : Nat} (hd : decode cc pc = .ok (.iaload, 1)) (hj : j < 28) (kk : J (XW ad dd n S L R U h k w st) (pc + 1) lv (.int (nI (L j)) :: rest)) : J (XW ad dd n S L R U h k w st) pc lv (.int (nI j) :: .ref (ad 2) :: rest) :=
  gi_iald C 2 1 rfl rfl hj (by decide) rfl hd kk
theorem xs2 (C : GC J l D vwCl (xtys dd) cc nL RX0 fr lo) {j : Nat} {v : Nat} (hd : decode cc pc = .ok (.iastore, 1)) (hj : j < 28) (kk : J (XW ad dd n S (va_up L j v) R U h k w st) (pc + 1) lv rest) : J (XW ad dd n S L R U h k w st) pc lv (.int (nI v) :: .int (nI j) :: .ref (ad 2) :: rest) :=
  gi_iast C 2 1 rfl rfl hj (by decide) (upd_nI L j v) rfl hd kk
theorem xa3 (C : GC J l D vwCl (xtys dd) cc nL RX0 fr lo) {j : Nat} (hd : decode cc pc = .ok (.iaload, 1)) (hj : j < 28) (kk : J (XW ad dd n S L R U h k w st) (pc + 1) lv (.int (nI (R j)) :: rest)) : J (XW ad dd n S L R U h k w st) pc lv (.int (nI j) :: .ref (ad 3) :: rest) :=
  gi_iald C 3 2 rfl rfl hj (by decide) rfl hd kk
theorem xs3 (C : GC J l D vwCl (xtys dd) cc nL RX0 fr lo) {j : Nat} {v : Nat} (hd : decode cc pc = .ok (.iastore, 1)) (hj : j < 28) (kk : J (XW ad dd n S L (va_up R j v) U h k w st) (pc + 1) lv rest) : J (XW ad dd n S L R U h k w st) pc lv (.int (nI v) :: .int (nI j) :: .ref (ad 3) :: rest) :=
  gi_iast C 3 2 rfl rfl hj (by decide) (upd_nI R j v) rfl hd kk
theorem xa4 (C : GC J l D vwCl (xtys dd) cc nL RX0 fr lo) {j : Nat} (hd : decode cc pc = .ok (.iaload, 1)) (hj : j < 28) (kk : J (XW ad dd n S L R U h k w st) (pc + 1) lv (.int (nI (U j)) :: rest)) : J (XW ad dd n S L R U h k w st) pc lv (.int (nI j) :: .ref (ad 4) :: rest) :=
  gi_iald C 4 3 rfl rfl hj (by decide) rfl hd kk
theorem xs4 (C : GC J l D vwCl (xtys dd) cc nL RX0 fr lo) {j : Nat} {v : Nat} (hd : decode cc pc = .ok (.iastore, 1)) (hj : j < 28) (kk : J (XW ad dd n S L R (va_up U j v) h k w st) (pc + 1) lv rest) : J (XW ad dd n S L R U h k w st) pc lv (.int (nI v) :: .int (nI j) :: .ref (ad 4) :: rest) :=
  gi_iast C 4 3 rfl rfl hj (by decide) (upd_nI U j v) rfl hd kk
theorem xa5 (C : GC J l D vwCl (xtys dd) cc nL RX0 fr lo) {j : Nat} (hd : decode cc pc = .ok (.iaload, 1)) (hj : j < 28) (kk : J (XW ad dd n S L R U h k w st) (pc + 1) lv (.int (nI (st j)) :: rest)) : J (XW ad dd n S L R U h k w st) pc lv (.int (nI j) :: .ref (ad 5) :: rest) :=
  gi_iald C 5 4 rfl rfl hj (by decide) rfl hd kk
theorem xs5 (C : GC J l D vwCl (xtys dd) cc nL RX0 fr lo) {j : Nat} {v : Nat} (hd : decode cc pc = .ok (.iastore, 1)) (hj : j < 28) (kk : J (XW ad dd n S L R U h k w (va_up st j v)) (pc + 1) lv rest) : J (XW ad dd n S L R U h k w st) pc lv (.int (nI v) :: .int (nI j) :: .ref (ad 5) :: rest) :=
  gi_iast C 5 4 rfl rfl hj (by decide) (upd_nI st j v) rfl hd kk
theorem mg0 (C : GC J l D vwCl (mtys dd) cc nL RX1 fr lo) (hd : decode cc pc = .ok (.getfield 7, 3)) (kk : J (MW ad dd n S L R h k ch) (pc + 3) lv (.int (nI n) :: rest)) : J (MW ad dd n S L R h k ch) pc lv (.ref (ad 0) :: rest) :=
  gi_get (T := TX1) (N := 7) C in_X1 0 rfl rfl 0 (by decide) q145 rfl rfl hd kk
theorem mg1 (C : GC J l D vwCl (mtys dd) cc nL RX1 fr lo) (hd : decode cc pc = .ok (.getfield 13, 3)) (kk : J (MW ad dd n S L R h k ch) (pc + 3) lv (.ref (ad 1) :: rest)) : J (MW ad dd n S L R h k ch) pc lv (.ref (ad 0) :: rest) :=
  gi_get (T := TX1) (N := 7) C in_X1 0 rfl rfl 1 (by decide) q146 rfl rfl hd kk
theorem mg2 (C : GC J l D vwCl (mtys dd) cc nL RX1 fr lo) (hd : decode cc pc = .ok (.getfield 17, 3)) (kk : J (MW ad dd n S L R h k ch) (pc + 3) lv (.ref (ad 2) :: rest)) : J (MW ad dd n S L R h k ch) pc lv (.ref (ad 0) :: rest) :=
  gi_get (T := TX1) (N := 7) C in_X1 0 rfl rfl 2 (by decide) q147 rfl rfl hd kk
theorem mg3 (C : GC J l D vwCl (mtys dd) cc nL RX1 fr lo) (hd : decode cc pc = .ok (.getfield 20, 3)) (kk : J (MW ad dd n S L R h k ch) (pc + 3) lv (.ref (ad 3) :: rest)) : J (MW ad dd n S L R h k ch) pc lv (.ref (ad 0) :: rest) :=
  gi_get (T := TX1) (N := 7) C in_X1 0 rfl rfl 3 (by decide) q148 rfl rfl hd kk
theorem mg4 (C : GC J l D vwCl (mtys dd) cc nL RX1 fr lo) (hd : decode cc pc = .ok (.getfield 23, 3)) (kk : J (MW ad dd n S L R h k ch) (pc + 3) lv (.ref (ad 4) :: rest)) : J (MW ad dd n S L R h k ch) pc lv (.ref (ad 0) :: rest) :=
  gi_get (T := TX1) (N := 7) C in_X1 0 rfl rfl 4 (by decide) q149 rfl rfl hd kk
theorem mg5 (C : GC J l D vwCl (mtys dd) cc nL RX1 fr lo) (hd : decode cc pc = .ok (.getfield 27, 3)) (kk : J (MW ad dd n S L R h k ch) (pc + 3) lv (.ref (ad 5) :: rest)) : J (MW ad dd n S L R h k ch) pc lv (.ref (ad 0) :: rest) :=
  gi_get (T := TX1) (N := 7) C in_X1 0 rfl rfl 5 (by decide) q150 rfl rfl hd kk
theorem mg6 (C : GC J l D vwCl (mtys dd) cc nL RX1 fr lo) (hd : decode cc pc = .ok (.getfield 38, 3)) (kk : J (MW ad dd n S L R h k ch) (pc + 3) lv (.int (b2i ch) :: rest)) : J (MW ad dd n S L R h k ch) pc lv (.ref (ad 0) :: rest) :=
  gi_get (T := TX1) (N := 7) C in_X1 0 rfl rfl 6 (by decide) q151 rfl rfl hd kk
theorem mp0 (C : GC J l D vwCl (mtys dd) cc nL RX1 fr lo) {v : Nat} (hd : decode cc pc = .ok (.putfield 7, 3)) (kk : J (MW ad dd v S L R h k ch) (pc + 3) lv rest) : J (MW ad dd n S L R h k ch) pc lv (.int (nI v) :: .ref (ad 0) :: rest) :=
  gi_put (T := TX1) (N := 7) (ty := .int) (ws' := (MW ad dd v S L R h k ch)) C in_X1 tyX1 tyX1_ok nmX1 0 rfl rfl 0 (by decide) q145 rfl rfl (by decide +kernel) rfl rfl (Nat.le_of_ble_eq_true rfl) rfl hd kk
theorem mp6 (C : GC J l D vwCl (mtys dd) cc nL RX1 fr lo) {v : Bool} (hd : decode cc pc = .ok (.putfield 38, 3)) (kk : J (MW ad dd n S L R h k v) (pc + 3) lv rest) : J (MW ad dd n S L R h k ch) pc lv (.int (b2i v) :: .ref (ad 0) :: rest) :=
  gi_put (T := TX1) (N := 7) (ty := .boolean) (ws' := (MW ad dd n S L R h k v)) C in_X1 tyX1 tyX1_ok nmX1 0 rfl rfl 6 (by decide) q151 rfl rfl (by decide +kernel) (b2i_nar v) (b2i_fit v) (Nat.le_of_ble_eq_true rfl) rfl hd kk
theorem ma1 (C : GC J l D vwCl (mtys dd) cc nL RX1 fr lo) {j : Nat} (hd : decode cc pc = .ok (.iaload, 1)) (hj : j < 28) (kk : J (MW ad dd n S L R h k ch) (pc + 1) lv (.int (nI (S j)) :: rest)) : J (MW ad dd n S L R h k ch) pc lv (.int (nI j) :: .ref (ad 1) :: rest) :=
  gi_iald C 1 0 rfl rfl hj (by decide) rfl hd kk
theorem ms1 (C : GC J l D vwCl (mtys dd) cc nL RX1 fr lo) {j : Nat} {v : Nat} (hd : decode cc pc = .ok (.iastore, 1)) (hj : j < 28) (kk : J (MW ad dd n (va_up S j v) L R h k ch) (pc + 1) lv rest) : J (MW ad dd n S L R h k ch) pc lv (.int (nI v) :: .int (nI j) :: .ref (ad 1) :: rest) :=
  gi_iast C 1 0 rfl rfl hj (by decide) (upd_nI S j v) rfl hd kk
theorem ma2 (C : GC J l D vwCl (mtys dd) cc nL RX1 fr lo) {j : Nat} (hd : decode cc pc = .ok (.iaload, 1)) (hj : j < 28) (kk : J (MW ad dd n S L R h k ch) (pc + 1) lv (.int (nI (L j)) :: rest)) : J (MW ad dd n S L R h k ch) pc lv (.int (nI j) :: .ref (ad 2) :: rest) :=
  gi_iald C 2 1 rfl rfl hj (by decide) rfl hd kk
theorem ms2 (C : GC J l D vwCl (mtys dd) cc nL RX1 fr lo) {j : Nat} {v : Nat} (hd : decode cc pc = .ok (.iastore, 1)) (hj : j < 28) (kk : J (MW ad dd n S (va_up L j v) R h k ch) (pc + 1) lv rest) : J (MW ad dd n S L R h k ch) pc lv (.int (nI v) :: .int (nI j) :: .ref (ad 2) :: rest) :=
  gi_iast C 2 1 rfl rfl hj (by decide) (upd_nI L j v) rfl hd kk
theorem ma3 (C : GC J l D vwCl (mtys dd) cc nL RX1 fr lo) {j : Nat} (hd : decode cc pc = .ok (.iaload, 1)) (hj : j < 28) (kk : J (MW ad dd n S L R h k ch) (pc + 1) lv (.int (nI (R j)) :: rest)) : J (MW ad dd n S L R h k ch) pc lv (.int (nI j) :: .ref (ad 3) :: rest) :=
  gi_iald C 3 2 rfl rfl hj (by decide) rfl hd kk
theorem ms3 (C : GC J l D vwCl (mtys dd) cc nL RX1 fr lo) {j : Nat} {v : Nat} (hd : decode cc pc = .ok (.iastore, 1)) (hj : j < 28) (kk : J (MW ad dd n S L (va_up R j v) h k ch) (pc + 1) lv rest) : J (MW ad dd n S L R h k ch) pc lv (.int (nI v) :: .int (nI j) :: .ref (ad 3) :: rest) :=
  gi_iast C 3 2 rfl rfl hj (by decide) (upd_nI R j v) rfl hd kk
theorem ma4 (C : GC J l D vwCl (mtys dd) cc nL RX1 fr lo) {j : Nat} (hd : decode cc pc = .ok (.baload, 1)) (hj : j < 28) (kk : J (MW ad dd n S L R h k ch) (pc + 1) lv (.int (b2i (h.testBit j)) :: rest)) : J (MW ad dd n S L R h k ch) pc lv (.int (nI j) :: .ref (ad 4) :: rest) :=
  gi_zald C 4 3 rfl rfl hj (by decide) rfl hd kk
theorem ms4 (C : GC J l D vwCl (mtys dd) cc nL RX1 fr lo) {j : Nat} {v : Bool} (hd : decode cc pc = .ok (.bastore, 1)) (hj : j < 28) (kk : J (MW ad dd n S L R (setb h j v) k ch) (pc + 1) lv rest) : J (MW ad dd n S L R h k ch) pc lv (.int (b2i v) :: .int (nI j) :: .ref (ad 4) :: rest) :=
  gi_zast C 4 3 rfl rfl hj (by decide) (upd_b2i h j v) rfl hd kk
theorem ma5 (C : GC J l D vwCl (mtys dd) cc nL RX1 fr lo) {j : Nat} (hd : decode cc pc = .ok (.baload, 1)) (hj : j < 28) (kk : J (MW ad dd n S L R h k ch) (pc + 1) lv (.int (b2i (k.testBit j)) :: rest)) : J (MW ad dd n S L R h k ch) pc lv (.int (nI j) :: .ref (ad 5) :: rest) :=
  gi_zald C 5 4 rfl rfl hj (by decide) rfl hd kk
theorem ms5 (C : GC J l D vwCl (mtys dd) cc nL RX1 fr lo) {j : Nat} {v : Bool} (hd : decode cc pc = .ok (.bastore, 1)) (hj : j < 28) (kk : J (MW ad dd n S L R h (setb k j v) ch) (pc + 1) lv rest) : J (MW ad dd n S L R h k ch) pc lv (.int (b2i v) :: .int (nI j) :: .ref (ad 5) :: rest) :=
  gi_zast C 5 4 rfl rfl hj (by decide) (upd_b2i k j v) rfl hd kk
end XR
end
section
/-! TermSecrets: its leaves -/
theorem isT_neg {n : Nat} {x : Int32} (hn : n ≤ 28) (h : x < 0) : ¬ isT n x := by
  rintro ⟨j, hj, rfl⟩
  exact absurd h (nI_pos (by omega))
theorem isT_ge {n : Nat} {x : Int32} (hn : n ≤ 28) (h : nI n ≤ x) : ¬ isT n x := by
  rintro ⟨j, hj, rfl⟩
  exact absurd h (nI_ge hj (by omega))
theorem isT_in {n : Nat} {x : Int32} (hn : n ≤ 28) (h1 : ¬ x < 0) (h2 : ¬ nI n ≤ x) : isT n x := by
  obtain ⟨j, hj, e, _⟩ := pk_mu h1 h2 (by omega)
  exact ⟨j, hj, e⟩
set_option maxRecDepth 100000 in
theorem mx_isTerm {l : Launch} {D : va_G} {ad : Nat → Nat} {dd : Nat → ClassId} {n : Nat} {S L R U : Nat → Nat} {h k w : Nat} {st : Nat → Nat} {x : Int32} (hn : n ≤ 28) : GMi l D vwCl (xtys dd) yX0_isTerm cX0_isTerm 2 (some .boolean) 0 0 [.ref (ad 0), .int x] (XW ad dd n S L R U h k w st) (fun r u => ∃ b : Bool, r = b2i b ∧ (b = true ↔ isT n x) ∧ u = (XW ad dd n S L R U h k w st)) := by
  refine g_methI (own := RX0) yX0_isTerm cX0_isTerm 2 rfl (by decide) (Nat.le_of_ble_eq_true rfl) (fun J C hret => ?_)
  change J (XW ad dd n S L R U h k w st) 0 [(0, .ref (ad 0)), (1, .int x)] []
  refine gi_iload_n C dX0_isTerm_0 rfl 1 rfl ?_
  refine gi_if_lt (tgt := 16) C dX0_isTerm_1 (by decide) (fun h1 => ?_) (fun h1 => ?_)
  · refine gi_iconst (v := nI 0) C dX0_isTerm_16 (by decide) ?_
    exact hret _ _ _ _ dX0_isTerm_17 (b2i_nar false) ⟨false, rfl, ⟨fun q => (by cases q), fun q => absurd q (isT_neg hn h1)⟩, rfl⟩
  · refine gi_iload_n C dX0_isTerm_4 rfl 1 rfl ?_
    refine gi_aload_n C dX0_isTerm_5 rfl 0 rfl ?_
    refine xg0 C dX0_isTerm_6 ?_
    refine gi_icmp_ge (tgt := 16) C dX0_isTerm_9 (by decide) (fun h2 => ?_) (fun h2 => ?_)
    · refine gi_iconst (v := nI 0) C dX0_isTerm_16 (by decide) ?_
      exact hret _ _ _ _ dX0_isTerm_17 (b2i_nar false) ⟨false, rfl, ⟨fun q => (by cases q), fun q => absurd q (isT_ge hn h2)⟩, rfl⟩
    · refine gi_iconst (v := nI 1) C dX0_isTerm_12 (by decide) ?_
      refine gi_goto (tgt := 17) C dX0_isTerm_13 (by decide) ?_
      exact hret _ _ _ _ dX0_isTerm_17 (b2i_nar true) ⟨true, rfl, ⟨fun _ => isT_in hn h1 h2, fun _ => rfl⟩, rfl⟩
theorem rx_isTerm {J : gJ} {cc : ByteArray} {nL fr lo pc : Nat} {lv : List (Nat × Value)} {rest : List Value} {l : Launch} {D : va_G} {ad : Nat → Nat} {dd : Nat → ClassId} {n : Nat} {S L R U : Nat → Nat} {h k w : Nat} {st : Nat → Nat} (C : GC J l D vwCl (xtys dd) cc nL RX0 fr lo) (hR : 0 + 1 ≤ fr ∧ 8 + (2 + 11) + 0 ≤ lo) {x : Int32} (hn : n ≤ 28) (hcat : (rest.map fun v => v.category).sum ≤ 8) (hdg : decode cc pc = .ok (.invokevirtual 29, 3)) (kk : ∀ (rr : Int32) (uu : va_W), (fun r u => ∃ b : Bool, r = b2i b ∧ (b = true ↔ isT n x) ∧ u = (XW ad dd n S L R U h k w st)) rr uu → J uu (pc + 3) lv (.int rr :: rest)) : J (XW ad dd n S L R U h k w st) pc lv (.int x :: .ref (ad 0) :: rest) :=
  gi_calli (n := 1) C (mx_isTerm hn) (lw_V q60 q62 qs0 q17 q63) (by decide +kernel) hR 0 rfl rfl rfl rfl hcat hdg kk
set_option maxRecDepth 100000 in
theorem mx_isKnown {l : Launch} {D : va_G} {ad : Nat → Nat} {dd : Nat → ClassId} {n : Nat} {S L R U : Nat → Nat} {h k w : Nat} {st : Nat → Nat} {j : Nat} (hj : j < 28) (hk8 : k < 268435456) : GMi l D vwCl (xtys dd) yX0_isKnown cX0_isKnown 2 (some .boolean) 0 0 [.ref (ad 0), .int (nI j)] (XW ad dd n S L R U h k w st) (fun r u => r = b2i (k.testBit j) ∧ u = (XW ad dd n S L R U h k w st)) := by
  refine g_methI (own := RX0) yX0_isKnown cX0_isKnown 2 rfl (by decide) (Nat.le_of_ble_eq_true rfl) (fun J C hret => ?_)
  change J (XW ad dd n S L R U h k w st) 0 [(0, .ref (ad 0)), (1, .int (nI j))] []
  refine gi_aload_n C dX0_isKnown_0 rfl 0 rfl ?_
  refine xg6 C dX0_isKnown_1 ?_
  refine gi_iload_n C dX0_isKnown_4 rfl 1 rfl ?_
  refine gn_bitU C dX0_isKnown_5 dX0_isKnown_6 dX0_isKnown_7 (by omega) (by omega) ?_
  refine gb_ifeq (tgt := 15) C dX0_isKnown_8 (by decide) (fun hb => ?_) (fun hb => ?_)
  · refine gi_iconst (v := nI 0) C dX0_isKnown_15 (by decide) ?_
    exact hret _ _ _ _ dX0_isKnown_16 (b2i_nar false) ⟨by rw [hb]; rfl, rfl⟩
  · refine gi_iconst (v := nI 1) C dX0_isKnown_11 (by decide) ?_
    refine gi_goto (tgt := 16) C dX0_isKnown_12 (by decide) ?_
    exact hret _ _ _ _ dX0_isKnown_16 (b2i_nar true) ⟨by rw [hb]; rfl, rfl⟩
theorem rx_isKnown {J : gJ} {cc : ByteArray} {nL fr lo pc : Nat} {lv : List (Nat × Value)} {rest : List Value} {l : Launch} {D : va_G} {ad : Nat → Nat} {dd : Nat → ClassId} {n : Nat} {S L R U : Nat → Nat} {h k w : Nat} {st : Nat → Nat} (C : GC J l D vwCl (xtys dd) cc nL RX0 fr lo) (hR : 0 + 1 ≤ fr ∧ 8 + (2 + 11) + 0 ≤ lo) {j : Nat} (hj : j < 28) (hk8 : k < 268435456) (hcat : (rest.map fun v => v.category).sum ≤ 8) (hdg : decode cc pc = .ok (.invokevirtual 37, 3)) (kk : J (XW ad dd n S L R U h k w st) (pc + 3) lv (.int (b2i (k.testBit j)) :: rest)) : J (XW ad dd n S L R U h k w st) pc lv (.int (nI j) :: .ref (ad 0) :: rest) :=
  gi_calli (n := 1) C (mx_isKnown hj hk8) (lw_V q68 q70 qs2 q17 q71) (by decide +kernel) hR 0 rfl rfl rfl rfl hcat hdg (fun r u hp => by obtain ⟨rfl, rfl⟩ := hp; exact kk)
set_option maxRecDepth 100000 in
theorem mx_size {l : Launch} {D : va_G} {dd : Nat → ClassId} {e : Nat} (he : e < 268435456) : GMi l D vwCl (xtys dd) yX0_size cX0_size 3 (some .int) 0 0 [.int (nI e)] [] (fun r _ => r = nI (cnt e 28)) := by
  refine g_methI (own := RX0) yX0_size cX0_size 3 rfl (by decide) (Nat.le_of_ble_eq_true rfl) (fun J C hret => ?_)
  change J [] 0 [(0, .int (nI e))] []
  have loop : ∀ d i : Nat, i + d = 28 → J [] 4 [(0, .int (nI e)), (1, .int (nI (cnt e i))), (2, .int (nI i))] [] := by
    intro d
    induction d with
    | zero =>
      intro i hi
      refine gi_iload_n C dX0_size_4 rfl 2 rfl ?_
      refine gi_bipush (v := nI 28) C dX0_size_5 (by decide) ?_
      refine gn_icmp_ge (tgt := 24) C (by omega) (by omega) dX0_size_7 (by decide) (fun h1 => ?_) (fun h1 => ?_)
      · have e28 : i = 28 := by omega
        subst e28
        refine gi_iload_n C dX0_size_24 rfl 1 rfl ?_
        exact hret _ _ _ _ dX0_size_25 rfl rfl
      · omega
    | succ d ih =>
      intro i hi
      refine gi_iload_n C dX0_size_4 rfl 2 rfl ?_
      refine gi_bipush (v := nI 28) C dX0_size_5 (by decide) ?_
      refine gn_icmp_ge (tgt := 24) C (by omega) (by omega) dX0_size_7 (by decide) (fun h1 => ?_) (fun h1 => ?_)
      · omega
      · refine gi_iload_n C dX0_size_10 rfl 1 rfl ?_
        refine gi_iload_n C dX0_size_11 rfl 0 rfl ?_
        refine gi_iload_n C dX0_size_12 rfl 2 rfl ?_
        refine gn_bitU C dX0_size_13 dX0_size_14 dX0_size_15 (by omega) (by omega) ?_
        refine gn_iadd C dX0_size_16 ?_
        refine gi_istore_n (lv' := [(1, _), (0, _), (2, _)]) C dX0_size_17 rfl (by decide) rfl ?_
        refine gn_iinc (lv' := [(2, _), (1, _), (0, _)]) C dX0_size_18 2 rfl (by decide) rfl ?_
        refine gi_goto (tgt := 4) C dX0_size_21 (by decide) ?_
        refine gi_sub (lv' := [(0, _), (1, _), (2, _)]) C [2, 1, 0] rfl ?_
        exact ih (i + 1) (by omega)
  refine gi_iconst (v := nI 0) C dX0_size_0 (by decide) ?_
  refine gi_istore_n (lv' := [(1, _), (0, _)]) C dX0_size_1 rfl (by decide) rfl ?_
  refine gi_iconst (v := nI 0) C dX0_size_2 (by decide) ?_
  refine gi_istore_n (lv' := [(2, _), (1, _), (0, _)]) C dX0_size_3 rfl (by decide) rfl ?_
  refine gi_sub (lv' := [(0, _), (1, _), (2, _)]) C [2, 1, 0] rfl ?_
  exact loop 28 0 rfl
theorem rx_size_s {J : gJ} {cc : ByteArray} {nL fr lo pc : Nat} {lv : List (Nat × Value)} {rest : List Value} {l : Launch} {D : va_G} {dd : Nat → ClassId} {ws : va_W} (C : GC J l D vwCl (xtys dd) cc nL RX0 fr lo) (hR : 0 + 1 ≤ fr ∧ 8 + (3 + 11) + 0 ≤ lo) {e : Nat} (he : e < 268435456) (hcat : (rest.map fun v => v.category).sum ≤ 8) (hdg : decode cc pc = .ok (.invokestatic 53, 3)) (kk : J ws (pc + 3) lv (.int (nI (cnt e 28)) :: rest)) : J ws pc lv (.int (nI e) :: rest) :=
  gi_calls (n := 1) C (mx_size he) (lw_S q96 q97 q17 q98) (by decide +kernel) hR rfl rfl hcat hdg (fun r u hp => by subst hp; exact kk)
set_option maxRecDepth 100000 in
theorem mx_learn {l : Launch} {D : va_G} {ad : Nat → Nat} {dd : Nat → ClassId} {n : Nat} {S L R U : Nat → Nat} {h k w : Nat} {st : Nat → Nat} {t : Nat} (ht : t < 28) (hk8 : k < 268435456) (hw : w ≤ cnt k 28) : GMv l D vwCl (xtys dd) yX0_learn cX0_learn 2 1 21 [.ref (ad 0), .int (nI t)] (XW ad dd n S L R U h k w st) (fun u => u = (XW ad dd n S L R U h (setb k t true) (lW k w t) (lS k w st t))) := by
  refine g_methV (own := RX0) yX0_learn cX0_learn 2 rfl (by decide) (Nat.le_of_ble_eq_true rfl) (fun J C hret => ?_)
  change J (XW ad dd n S L R U h k w st) 0 [(0, .ref (ad 0)), (1, .int (nI t))] []
  refine gi_aload_n C dX0_learn_0 rfl 0 rfl ?_
  refine gi_iload_n C dX0_learn_1 rfl 1 rfl ?_
  refine rx_isKnown C (by decide) ht hk8 (Nat.le_of_ble_eq_true rfl) dX0_learn_2 ?_
  refine gb_ifne (tgt := 40) C dX0_learn_5 (by decide) (fun hb => ?_) (fun hb => ?_)
  · exact hret _ _ _ dX0_learn_40 (by rw [setb_has hb]; unfold lW lS; rw [if_pos hb, if_pos hb])
  · refine gi_aload_n C dX0_learn_8 rfl 0 rfl ?_
    refine gi_dup C dX0_learn_9 rfl ?_
    refine xg6 C dX0_learn_10 ?_
    refine gi_iconst (v := nI 1) C dX0_learn_13 (by decide) ?_
    refine gi_iload_n C dX0_learn_14 rfl 1 rfl ?_
    refine gn_ishl C dX0_learn_15 (by omega) ?_
    refine gn_ior C dX0_learn_16 ?_
    refine xp6 C dX0_learn_17 ?_
    refine gi_aload_n C dX0_learn_20 rfl 0 rfl ?_
    refine xg8 C dX0_learn_21 ?_
    refine gi_aload_n C dX0_learn_24 rfl 0 rfl ?_
    refine xg7 C dX0_learn_25 ?_
    refine gi_iload_n C dX0_learn_28 rfl 1 rfl ?_
    refine xs5 C dX0_learn_29 (lW_lt ht hw hb) ?_
    refine gi_aload_n C dX0_learn_30 rfl 0 rfl ?_
    refine gi_dup C dX0_learn_31 rfl ?_
    refine xg7 C dX0_learn_32 ?_
    refine gi_iconst (v := nI 1) C dX0_learn_35 (by decide) ?_
    refine gn_iadd C dX0_learn_36 ?_
    refine xp7 C dX0_learn_37 ?_
    exact hret _ _ _ dX0_learn_40 (by unfold lW lS; rw [if_neg (by rw [hb]; decide), if_neg (by rw [hb]; decide)])
theorem rx_learn {J : gJ} {cc : ByteArray} {nL fr lo pc : Nat} {lv : List (Nat × Value)} {rest : List Value} {l : Launch} {D : va_G} {ad : Nat → Nat} {dd : Nat → ClassId} {n : Nat} {S L R U : Nat → Nat} {h k w : Nat} {st : Nat → Nat} (C : GC J l D vwCl (xtys dd) cc nL RX0 fr lo) (hR : 1 + 1 ≤ fr ∧ 8 + (2 + 11) + 21 ≤ lo) {t : Nat} (ht : t < 28) (hk8 : k < 268435456) (hw : w ≤ cnt k 28) (hcat : (rest.map fun v => v.category).sum ≤ 8) (hdg : decode cc pc = .ok (.invokevirtual 40, 3)) (kk : J (XW ad dd n S L R U h (setb k t true) (lW k w t) (lS k w st t)) (pc + 3) lv rest) : J (XW ad dd n S L R U h k w st) pc lv (.int (nI t) :: .ref (ad 0) :: rest) :=
  gi_callv (n := 1) C (mx_learn ht hk8 hw) (lw_V q72 q74 qs3 q17 q75) (by decide +kernel) hR 0 rfl rfl rfl rfl hcat hdg (fun u hp => by subst hp; exact kk)
end
section
/-! TermSecrets: the spreading -/
set_option maxRecDepth 100000 in
theorem mx_lookAt {l : Launch} {D : va_G} {ad : Nat → Nat} {dd : Nat → ClassId} {n : Nat} {S L R U : Nat → Nat} {h k w : Nat} {st : Nat → Nat} {u : Nat} (hO : tOK n S L R) (h8 : 8 ≤ u) (hu : u < n) (hk : k < 2 ^ n) (hw : w ≤ cnt k 28) : GMv l D vwCl (xtys dd) yX0_lookAt cX0_lookAt 2 2 42 [.ref (ad 0), .int (nI u)] (XW ad dd n S L R U h k w st) (fun v => ∃ k' w' st', v = (XW ad dd n S L R U h k' w' st') ∧ lkA n S L R k w st u k' w' st') := by
  refine g_methV (own := RX0) yX0_lookAt cX0_lookAt 2 rfl (by decide) (Nat.le_of_ble_eq_true rfl) (fun J C hret => ?_)
  change J (XW ad dd n S L R U h k w st) 0 [(0, .ref (ad 0)), (1, .int (nI u))] []
  have hn := hO.2.1
  have hk8 := p2_le hk hn
  obtain ⟨hS, hL, hR⟩ := hO.2.2.2 u h8 hu
  have same : lk S L R k k u → ∃ k' w' st', (XW ad dd n S L R U h k w st) = (XW ad dd n S L R U h k' w' st') ∧ lkA n S L R k w st u k' w' st' := fun q => ⟨k, w, st, rfl, ex0_rf hk, snd_rf n S L R k, q⟩
  have at34 : ¬ (tb k (L u) ∧ tb k (R u)) → J (XW ad dd n S L R U h k w st) 34 [(0, .ref (ad 0)), (1, .int (nI u))] [] := by
    intro hnot
    refine gi_aload_n C dX0_lookAt_34 rfl 0 rfl ?_
    refine xg1 C dX0_lookAt_35 ?_
    refine gi_iload_n C dX0_lookAt_38 rfl 1 rfl ?_
    refine xa1 C dX0_lookAt_39 (by omega) ?_
    refine gi_iconst (v := nI 1) C dX0_lookAt_40 (by decide) ?_
    refine gn_icmp_eq (tgt := 75) C (by omega) (by omega) dX0_lookAt_41 (by decide) (fun h1 => ?_) (fun h1 => ?_)
    · exact hret _ _ _ dX0_lookAt_75 (same ⟨fun q => absurd q (by omega), fun q1 q2 => absurd ⟨q1, q2⟩ hnot⟩)
    · refine gi_aload_n C dX0_lookAt_44 rfl 0 rfl ?_
      refine gi_iload_n C dX0_lookAt_45 rfl 1 rfl ?_
      refine rx_isKnown C (by decide) (by omega) hk8 (Nat.le_of_ble_eq_true rfl) dX0_lookAt_46 ?_
      refine gb_ifeq (tgt := 75) C dX0_lookAt_49 (by decide) (fun h2 => ?_) (fun h2 => ?_)
      · exact hret _ _ _ dX0_lookAt_75 (same ⟨fun _ q => absurd (h2.symm.trans q) (by decide), fun q1 q2 => absurd ⟨q1, q2⟩ hnot⟩)
      · refine gi_aload_n C dX0_lookAt_52 rfl 0 rfl ?_
        refine gi_aload_n C dX0_lookAt_53 rfl 0 rfl ?_
        refine xg2 C dX0_lookAt_54 ?_
        refine gi_iload_n C dX0_lookAt_57 rfl 1 rfl ?_
        refine xa2 C dX0_lookAt_58 (by omega) ?_
        refine rx_isKnown C (by decide) (by omega) hk8 (Nat.le_of_ble_eq_true rfl) dX0_lookAt_59 ?_
        refine gb_ifeq (tgt := 75) C dX0_lookAt_62 (by decide) (fun h3 => ?_) (fun h3 => ?_)
        · exact hret _ _ _ dX0_lookAt_75 (same ⟨fun _ _ q => absurd (h3.symm.trans q) (by decide), fun q1 q2 => absurd ⟨q1, q2⟩ hnot⟩)
        · refine gi_aload_n C dX0_lookAt_65 rfl 0 rfl ?_
          refine gi_aload_n C dX0_lookAt_66 rfl 0 rfl ?_
          refine xg3 C dX0_lookAt_67 ?_
          refine gi_iload_n C dX0_lookAt_70 rfl 1 rfl ?_
          refine xa3 C dX0_lookAt_71 (by omega) ?_
          refine rx_learn C (by decide) (by omega) hk8 hw (Nat.le_of_ble_eq_true rfl) dX0_lookAt_72 ?_
          exact hret _ _ _ dX0_lookAt_75 ⟨_, _, _, rfl, ex0_learn hn hk hR, snd_set (fun c hc hs => (hc u h8 hu).2.1 (by omega) (hs _ h2) (hs _ h3)), ⟨fun _ _ _ => setb_self _ _, fun q1 q2 => absurd ⟨q1, q2⟩ hnot⟩⟩
  refine gi_aload_n C dX0_lookAt_0 rfl 0 rfl ?_
  refine gi_aload_n C dX0_lookAt_1 rfl 0 rfl ?_
  refine xg2 C dX0_lookAt_2 ?_
  refine gi_iload_n C dX0_lookAt_5 rfl 1 rfl ?_
  refine xa2 C dX0_lookAt_6 (by omega) ?_
  refine rx_isKnown C (by decide) (by omega) hk8 (Nat.le_of_ble_eq_true rfl) dX0_lookAt_7 ?_
  refine gb_ifeq (tgt := 34) C dX0_lookAt_10 (by decide) (fun h1 => ?_) (fun h1 => ?_)
  · exact at34 (fun q => absurd (h1.symm.trans q.1) (by decide))
  · refine gi_aload_n C dX0_lookAt_13 rfl 0 rfl ?_
    refine gi_aload_n C dX0_lookAt_14 rfl 0 rfl ?_
    refine xg3 C dX0_lookAt_15 ?_
    refine gi_iload_n C dX0_lookAt_18 rfl 1 rfl ?_
    refine xa3 C dX0_lookAt_19 (by omega) ?_
    refine rx_isKnown C (by decide) (by omega) hk8 (Nat.le_of_ble_eq_true rfl) dX0_lookAt_20 ?_
    refine gb_ifeq (tgt := 34) C dX0_lookAt_23 (by decide) (fun h2 => ?_) (fun h2 => ?_)
    · exact at34 (fun q => absurd (h2.symm.trans q.2) (by decide))
    · refine gi_aload_n C dX0_lookAt_26 rfl 0 rfl ?_
      refine gi_iload_n C dX0_lookAt_27 rfl 1 rfl ?_
      refine rx_learn C (by decide) (by omega) hk8 hw (Nat.le_of_ble_eq_true rfl) dX0_lookAt_28 ?_
      refine gi_goto (tgt := 75) C dX0_lookAt_31 (by decide) ?_
      exact hret _ _ _ dX0_lookAt_75 ⟨_, _, _, rfl, ex0_learn hn hk hu, snd_set (fun c hc hs => (hc u h8 hu).2.2 (hs _ h1) (hs _ h2)), ⟨fun _ _ _ => setb_sub _ _ _ h2, fun _ _ => setb_self _ _⟩⟩
theorem rx_lookAt {J : gJ} {cc : ByteArray} {nL fr lo pc : Nat} {lv : List (Nat × Value)} {rest : List Value} {l : Launch} {D : va_G} {ad : Nat → Nat} {dd : Nat → ClassId} {n : Nat} {S L R U : Nat → Nat} {h k w : Nat} {st : Nat → Nat} (C : GC J l D vwCl (xtys dd) cc nL RX0 fr lo) (hR : 2 + 1 ≤ fr ∧ 8 + (2 + 11) + 42 ≤ lo) {u : Nat} (hO : tOK n S L R) (h8 : 8 ≤ u) (hu : u < n) (hk : k < 2 ^ n) (hw : w ≤ cnt k 28) (hcat : (rest.map fun v => v.category).sum ≤ 8) (hdg : decode cc pc = .ok (.invokevirtual 73, 3)) (kk : ∀ uu : va_W, (fun v => ∃ k' w' st', v = (XW ad dd n S L R U h k' w' st') ∧ lkA n S L R k w st u k' w' st') uu → J uu (pc + 3) lv rest) : J (XW ad dd n S L R U h k w st) pc lv (.int (nI u) :: .ref (ad 0) :: rest) :=
  gi_callv (n := 1) C (mx_lookAt hO h8 hu hk hw) (lw_V q84 q86 qs6 q17 q87) (by decide +kernel) hR 0 rfl rfl rfl rfl hcat hdg kk
set_option maxRecDepth 100000 in
theorem mx_open {l : Launch} {D : va_G} {ad : Nat → Nat} {dd : Nat → ClassId} {n : Nat} {S L R U : Nat → Nat} {h k w : Nat} {st : Nat → Nat} {t : Nat} (hO : tOK n S L R) (hU : uOK n L R U) (ht : t < n) (htk : tb k t) (hk : k < 2 ^ n) (hw : w ≤ cnt k 28) : GMv l D vwCl (xtys dd) yX0_open cX0_open 3 3 63 [.ref (ad 0), .int (nI t)] (XW ad dd n S L R U h k w st) (fun v => ∃ k' w' st', v = (XW ad dd n S L R U h k' w' st') ∧ opn n S L R k w st t k' w' st') := by
  refine g_methV (own := RX0) yX0_open cX0_open 3 rfl (by decide) (Nat.le_of_ble_eq_true rfl) (fun J C hret => ?_)
  change J (XW ad dd n S L R U h k w st) 0 [(0, .ref (ad 0)), (1, .int (nI t))] []
  have hn := hO.2.1
  have hk8 := p2_le hk hn
  have hUt := uOK_lt hn hU (show t < 28 by omega)
  have loop : ∀ (d i k1 w1 : Nat) (st1 : Nat → Nat), i + d = n → 8 ≤ i → ex0 n k w st k1 w1 st1 → snd_ n S L R k k1 → (S t = 1 → tb k1 (L t) ∧ tb k1 (R t)) → (S t = 2 → tb k (L t) → tb k1 (R t)) → (∀ u, 8 ≤ u → u < i → (L u = t ∨ R u = t) → lk S L R k k1 u) → J (XW ad dd n S L R U h k1 w1 st1) 68 [(0, .ref (ad 0)), (1, .int (nI t)), (2, .int (nI i))] [] := by
    intro d
    induction d with
    | zero =>
      intro i k1 w1 st1 hi h8 hx hs hp hl hu
      refine gi_iload_n C dX0_open_68 rfl 2 rfl ?_
      refine gi_aload_n C dX0_open_69 rfl 0 rfl ?_
      refine xg0 C dX0_open_70 ?_
      refine gn_icmp_ge (tgt := 100) C (by omega) (by omega) dX0_open_73 (by decide) (fun h1 => ?_) (fun h1 => ?_)
      · exact hret _ _ _ dX0_open_100 ⟨k1, w1, st1, rfl, hx, hs, hp, hl, fun u q1 q2 => hu u q1 (by omega)⟩
      · omega
    | succ d ih =>
      intro i k1 w1 st1 hi h8 hx hs hp hl hu
      refine gi_iload_n C dX0_open_68 rfl 2 rfl ?_
      refine gi_aload_n C dX0_open_69 rfl 0 rfl ?_
      refine xg0 C dX0_open_70 ?_
      refine gn_icmp_ge (tgt := 100) C (by omega) (by omega) dX0_open_73 (by decide) (fun h1 => ?_) (fun h1 => ?_)
      · omega
      · refine gi_aload_n C dX0_open_76 rfl 0 rfl ?_
        refine xg4 C dX0_open_77 ?_
        refine gi_iload_n C dX0_open_80 rfl 1 rfl ?_
        refine xa4 C dX0_open_81 (by omega) ?_
        refine gi_iload_n C dX0_open_82 rfl 2 rfl ?_
        refine gn_bitU C dX0_open_83 dX0_open_84 dX0_open_85 (by omega) (by omega) ?_
        refine gb_ifeq (tgt := 94) C dX0_open_86 (by decide) (fun h2 => ?_) (fun h2 => ?_)
        · refine gn_iinc (lv' := [(2, _), (0, _), (1, _)]) C dX0_open_94 2 rfl (by decide) rfl ?_
          refine gi_goto (tgt := 68) C dX0_open_97 (by decide) ?_
          refine gi_sub (lv' := [(0, _), (1, _), (2, _)]) C [1, 2, 0] rfl ?_
          refine ih (i + 1) k1 w1 st1 (by omega) (by omega) hx hs hp hl (fun u q1 q2 q3 => ?_)
          by_cases e : u = i
          · rw [e] at q3
            exact absurd (h2.symm.trans ((hU t (by omega) i).mpr ⟨h8, by omega, q3⟩)) (by decide)
          · exact hu u q1 (by omega) q3
        · refine gi_aload_n C dX0_open_89 rfl 0 rfl ?_
          refine gi_iload_n C dX0_open_90 rfl 2 rfl ?_
          refine rx_lookAt C (by decide) hO h8 (by omega) hx.2.1 (ex0_w hx hw) (Nat.le_of_ble_eq_true rfl) dX0_open_91 (fun v hv => ?_)
          obtain ⟨k2, w2, st2, rfl, hx2, hs2, hk2⟩ := hv
          refine gn_iinc (lv' := [(2, _), (0, _), (1, _)]) C dX0_open_94 2 rfl (by decide) rfl ?_
          refine gi_goto (tgt := 68) C dX0_open_97 (by decide) ?_
          refine gi_sub (lv' := [(0, _), (1, _), (2, _)]) C [1, 2, 0] rfl ?_
          refine ih (i + 1) k2 w2 st2 (by omega) (by omega) (ex0_tr hx hx2) (snd_tr hs hs2) (fun q => ⟨hx2.1 _ (hp q).1, hx2.1 _ (hp q).2⟩) (fun q1 q2 => hx2.1 _ (hl q1 q2)) (fun u q1 q2 q3 => ?_)
          by_cases e : u = i
          · rw [e]
            exact lk_mono hk2 hx.1 (sbt_rf k2)
          · exact lk_mono (hu u q1 (by omega) q3) (sbt_rf k) hx2.1
  have at65 : ∀ (k1 w1 : Nat) (st1 : Nat → Nat), ex0 n k w st k1 w1 st1 → snd_ n S L R k k1 → (S t = 1 → tb k1 (L t) ∧ tb k1 (R t)) → (S t = 2 → tb k (L t) → tb k1 (R t)) → J (XW ad dd n S L R U h k1 w1 st1) 65 [(0, .ref (ad 0)), (1, .int (nI t))] [] := by
    intro k1 w1 st1 hx hs hp hl
    refine gi_bipush (v := nI 8) C dX0_open_65 (by decide) ?_
    refine gi_istore_n (lv' := [(2, _), (0, _), (1, _)]) C dX0_open_67 rfl (by decide) rfl ?_
    refine gi_sub (lv' := [(0, _), (1, _), (2, _)]) C [1, 2, 0] rfl ?_
    exact loop (n - 8) 8 k1 w1 st1 (by have := hO.1; omega) (Nat.le_refl 8) hx hs hp hl (fun u q1 q2 => absurd q1 (by omega))
  have hS : S t < 3 := by
    rcases Nat.lt_or_ge t 8 with q | q
    · rw [hO.2.2.1 t q]; decide
    · rcases (hO.2.2.2 t q ht).1 with z | z <;> omega
  have h8t : S t ≠ 0 → 8 ≤ t := fun q => by
    rcases Nat.lt_or_ge t 8 with z | z
    · exact absurd (hO.2.2.1 t z) q
    · exact z
  refine gi_aload_n C dX0_open_0 rfl 0 rfl ?_
  refine xg1 C dX0_open_1 ?_
  refine gi_iload_n C dX0_open_4 rfl 1 rfl ?_
  refine xa1 C dX0_open_5 (by omega) ?_
  refine gi_iconst (v := nI 1) C dX0_open_6 (by decide) ?_
  refine gn_icmp_ne (tgt := 33) C (by omega) (by omega) dX0_open_7 (by decide) (fun h1 => ?_) (fun h1 => ?_)
  · refine gi_aload_n C dX0_open_33 rfl 0 rfl ?_
    refine xg1 C dX0_open_34 ?_
    refine gi_iload_n C dX0_open_37 rfl 1 rfl ?_
    refine xa1 C dX0_open_38 (by omega) ?_
    refine gn_ifeq (tgt := 65) C (by omega) dX0_open_39 (by decide) (fun h2 => ?_) (fun h2 => ?_)
    · exact at65 k w st (ex0_rf hk) (snd_rf n S L R k) (fun q => absurd q h1) (fun q => absurd q (by omega))
    · have h8 := h8t h2
      obtain ⟨hS2, hL, hR⟩ := hO.2.2.2 t h8 ht
      refine gi_aload_n C dX0_open_42 rfl 0 rfl ?_
      refine gi_aload_n C dX0_open_43 rfl 0 rfl ?_
      refine xg2 C dX0_open_44 ?_
      refine gi_iload_n C dX0_open_47 rfl 1 rfl ?_
      refine xa2 C dX0_open_48 (by omega) ?_
      refine rx_isKnown C (by decide) (by omega) hk8 (Nat.le_of_ble_eq_true rfl) dX0_open_49 ?_
      refine gb_ifeq (tgt := 65) C dX0_open_52 (by decide) (fun h3 => ?_) (fun h3 => ?_)
      · exact at65 k w st (ex0_rf hk) (snd_rf n S L R k) (fun q => absurd q h1) (fun _ q => absurd (h3.symm.trans q) (by decide))
      · refine gi_aload_n C dX0_open_55 rfl 0 rfl ?_
        refine gi_aload_n C dX0_open_56 rfl 0 rfl ?_
        refine xg3 C dX0_open_57 ?_
        refine gi_iload_n C dX0_open_60 rfl 1 rfl ?_
        refine xa3 C dX0_open_61 (by omega) ?_
        refine rx_learn C (by decide) (by omega) hk8 hw (Nat.le_of_ble_eq_true rfl) dX0_open_62 ?_
        exact at65 _ _ _ (ex0_learn hn hk hR) (snd_set (fun c hc hs => (hc t h8 ht).2.1 (by omega) (hs _ htk) (hs _ h3))) (fun q => absurd q h1) (fun _ _ => setb_self _ _)
  · have h8 := h8t (by omega)
    obtain ⟨hS2, hL, hR⟩ := hO.2.2.2 t h8 ht
    have x1 := ex0_learn (n := n) (w := w) (st := st) hn hk hL
    have s1 : snd_ n S L R k (setb k (L t) true) := snd_set (fun c hc hs => ((hc t h8 ht).1 h1 (hs _ htk)).1)
    refine gi_aload_n C dX0_open_10 rfl 0 rfl ?_
    refine gi_aload_n C dX0_open_11 rfl 0 rfl ?_
    refine xg2 C dX0_open_12 ?_
    refine gi_iload_n C dX0_open_15 rfl 1 rfl ?_
    refine xa2 C dX0_open_16 (by omega) ?_
    refine rx_learn C (by decide) (by omega) hk8 hw (Nat.le_of_ble_eq_true rfl) dX0_open_17 ?_
    refine gi_aload_n C dX0_open_20 rfl 0 rfl ?_
    refine gi_aload_n C dX0_open_21 rfl 0 rfl ?_
    refine xg3 C dX0_open_22 ?_
    refine gi_iload_n C dX0_open_25 rfl 1 rfl ?_
    refine xa3 C dX0_open_26 (by omega) ?_
    refine rx_learn C (by decide) (by omega) (p2_le x1.2.1 hn) (ex0_w x1 hw) (Nat.le_of_ble_eq_true rfl) dX0_open_27 ?_
    refine gi_goto (tgt := 65) C dX0_open_30 (by decide) ?_
    have x2 := ex0_learn (n := n) (w := lW k w (L t)) (st := lS k w st (L t)) hn x1.2.1 hR
    have s2 : snd_ n S L R (setb k (L t) true) (setb (setb k (L t) true) (R t) true) := snd_set (fun c hc hs => ((hc t h8 ht).1 h1 (hs _ (setb_sub _ _ _ htk))).2)
    exact at65 _ _ _ (ex0_tr x1 x2) (snd_tr s1 s2) (fun _ => ⟨x2.1 _ (setb_self _ _), setb_self _ _⟩) (fun q => absurd q (by omega))
theorem rx_open {J : gJ} {cc : ByteArray} {nL fr lo pc : Nat} {lv : List (Nat × Value)} {rest : List Value} {l : Launch} {D : va_G} {ad : Nat → Nat} {dd : Nat → ClassId} {n : Nat} {S L R U : Nat → Nat} {h k w : Nat} {st : Nat → Nat} (C : GC J l D vwCl (xtys dd) cc nL RX0 fr lo) (hR : 3 + 1 ≤ fr ∧ 8 + (3 + 11) + 63 ≤ lo) {t : Nat} (hO : tOK n S L R) (hU : uOK n L R U) (ht : t < n) (htk : tb k t) (hk : k < 2 ^ n) (hw : w ≤ cnt k 28) (hcat : (rest.map fun v => v.category).sum ≤ 8) (hdg : decode cc pc = .ok (.invokevirtual 70, 3)) (kk : ∀ uu : va_W, (fun v => ∃ k' w' st', v = (XW ad dd n S L R U h k' w' st') ∧ opn n S L R k w st t k' w' st') uu → J uu (pc + 3) lv rest) : J (XW ad dd n S L R U h k w st) pc lv (.int (nI t) :: .ref (ad 0) :: rest) :=
  gi_callv (n := 1) C (mx_open hO hU ht htk hk hw) (lw_V q80 q82 qs5 q17 q83) (by decide +kernel) hR 0 rfl rfl rfl rfl hcat hdg kk
set_option maxRecDepth 100000 in
theorem mx_spread {l : Launch} {D : va_G} {ad : Nat → Nat} {dd : Nat → ClassId} {n : Nat} {S L R U : Nat → Nat} {h k w : Nat} {st : Nat → Nat} (hO : tOK n S L R) (hU : uOK n L R U) (hI : spI n S L R k w st) : GMv l D vwCl (xtys dd) yX0_spread cX0_spread 2 4 85 [.ref (ad 0)] (XW ad dd n S L R U h k w st) (fun v => ∃ k' st', v = (XW ad dd n S L R U h k' 0 st') ∧ isC n S L R (tb k) k') := by
  refine g_methV (own := RX0) yX0_spread cX0_spread 2 rfl (by decide) (Nat.le_of_ble_eq_true rfl) (fun J C hret => ?_)
  change J (XW ad dd n S L R U h k w st) 0 [(0, .ref (ad 0))] []
  have hn := hO.2.1
  have fin : ∀ (k1 : Nat) (st1 : Nat → Nat), spI n S L R k1 0 st1 → sbt k k1 → snd_ n S L R k k1 → ∃ k' st', (XW ad dd n S L R U h k1 0 st1) = (XW ad dd n S L R U h k' 0 st') ∧ isC n S L R (tb k) k' := fun k1 st1 hI1 hs hd => ⟨k1, st1, rfl, hI1.1, hs, spI_clo hI1, fun c hc hp => hd c hc hp⟩
  have loop : ∀ (d i k1 w1 : Nat) (st1 : Nat → Nat), i + d = 28 → spI n S L R k1 w1 st1 → sbt k k1 → snd_ n S L R k k1 → w1 + i ≤ cnt k1 28 → J (XW ad dd n S L R U h k1 w1 st1) 2 [(0, .ref (ad 0)), (1, .int (nI i))] [] := by
    intro d
    induction d with
    | zero =>
      intro i k1 w1 st1 hi hI1 hs hd hc
      refine gi_iload_n C dX0_spread_2 rfl 1 rfl ?_
      refine gi_bipush (v := nI 28) C dX0_spread_3 (by decide) ?_
      refine gn_icmp_ge (tgt := 44) C (by omega) (by omega) dX0_spread_5 (by decide) (fun h1 => ?_) (fun h1 => ?_)
      · have e0 : w1 = 0 := by have := cnt_le k1 28; omega
        subst e0
        exact hret _ _ _ dX0_spread_44 (fin k1 st1 hI1 hs hd)
      · omega
    | succ d ih =>
      intro i k1 w1 st1 hi hI1 hs hd hc
      have h28 := cnt_le k1 28
      refine gi_iload_n C dX0_spread_2 rfl 1 rfl ?_
      refine gi_bipush (v := nI 28) C dX0_spread_3 (by decide) ?_
      refine gn_icmp_ge (tgt := 44) C (by omega) (by omega) dX0_spread_5 (by decide) (fun h1 => ?_) (fun h1 => ?_)
      · omega
      · refine gi_aload_n C dX0_spread_8 rfl 0 rfl ?_
        refine xg7 C dX0_spread_9 ?_
        refine gn_ifle (tgt := 44) C (by omega) dX0_spread_12 (by decide) (fun h2 => ?_) (fun h2 => ?_)
        · subst h2
          exact hret _ _ _ dX0_spread_44 (fin k1 st1 hI1 hs hd)
        · obtain ⟨w2, rfl⟩ : ∃ z, w1 = z + 1 := ⟨w1 - 1, by omega⟩
          obtain ⟨hst1, hst2⟩ := hI1.2.2.1 w2 (by omega)
          refine gi_aload_n C dX0_spread_15 rfl 0 rfl ?_
          refine gi_dup C dX0_spread_16 rfl ?_
          refine xg7 C dX0_spread_17 ?_
          refine gi_iconst (v := nI 1) C dX0_spread_20 (by decide) ?_
          refine gn_isub C dX0_spread_21 (by omega) ?_
          refine gi_top (y := nI w2) (by rw [Nat.add_sub_cancel]) ?_
          refine xp7 C dX0_spread_22 ?_
          refine gi_aload_n C dX0_spread_25 rfl 0 rfl ?_
          refine gi_aload_n C dX0_spread_26 rfl 0 rfl ?_
          refine xg8 C dX0_spread_27 ?_
          refine gi_aload_n C dX0_spread_30 rfl 0 rfl ?_
          refine xg7 C dX0_spread_31 ?_
          refine xa5 C dX0_spread_34 (by omega) ?_
          refine rx_open C (by decide) hO hU hst1 hst2 hI1.1 (by omega) (Nat.le_of_ble_eq_true rfl) dX0_spread_35 (fun v hv => ?_)
          obtain ⟨k2, w3, st3, rfl, hv⟩ := hv
          refine gn_iinc (lv' := [(1, _), (0, _)]) C dX0_spread_38 1 rfl (by decide) rfl ?_
          refine gi_goto (tgt := 2) C dX0_spread_41 (by decide) ?_
          refine gi_sub (lv' := [(0, _), (1, _)]) C [1, 0] rfl ?_
          have hz := hv.1.2.2.2.2.2.2
          exact ih (i + 1) k2 w3 st3 (by omega) (sp_step hI1 hv) (sbt_tr hs hv.1.1) (snd_tr hd hv.2.1) (by omega)
  refine gi_iconst (v := nI 0) C dX0_spread_0 (by decide) ?_
  refine gi_istore_n (lv' := [(1, _), (0, _)]) C dX0_spread_1 rfl (by decide) rfl ?_
  refine gi_sub (lv' := [(0, _), (1, _)]) C [1, 0] rfl ?_
  exact loop 28 0 k w st rfl hI (sbt_rf k) (snd_rf n S L R k) hI.2.1
theorem rx_spread {J : gJ} {cc : ByteArray} {nL fr lo pc : Nat} {lv : List (Nat × Value)} {rest : List Value} {l : Launch} {D : va_G} {ad : Nat → Nat} {dd : Nat → ClassId} {n : Nat} {S L R U : Nat → Nat} {h k w : Nat} {st : Nat → Nat} (C : GC J l D vwCl (xtys dd) cc nL RX0 fr lo) (hR : 4 + 1 ≤ fr ∧ 8 + (2 + 11) + 85 ≤ lo) (hO : tOK n S L R) (hU : uOK n L R U) (hI : spI n S L R k w st) (hcat : (rest.map fun v => v.category).sum ≤ 8) (hdg : decode cc pc = .ok (.invokevirtual 44, 3)) (kk : ∀ uu : va_W, (fun v => ∃ k' st', v = (XW ad dd n S L R U h k' 0 st') ∧ isC n S L R (tb k) k') uu → J uu (pc + 3) lv rest) : J (XW ad dd n S L R U h k w st) pc lv (.ref (ad 0) :: rest) :=
  gi_callv (n := 0) C (mx_spread hO hU hI) (lw_V q76 q78 qs4 q17 q79) (by decide +kernel) hR 0 rfl rfl rfl rfl hcat hdg kk
end
section
/-! TermSecrets: closures -/
set_option maxRecDepth 100000 in
theorem mx_learnAll {l : Launch} {D : va_G} {ad : Nat → Nat} {dd : Nat → ClassId} {n : Nat} {S L R U : Nat → Nat} {h k : Nat} {st : Nat → Nat} {e : Nat} (hO : tOK n S L R) (hU : uOK n L R U) (hk : k < 2 ^ n) (hc : Clo n S L R k) (he : e < 268435456) : GMv l D vwCl (xtys dd) yX0_learnAll cX0_learnAll 3 5 106 [.ref (ad 0), .int (nI e)] (XW ad dd n S L R U h k 0 st) (fun v => ∃ k' st', v = (XW ad dd n S L R U h k' 0 st') ∧ isC n S L R (fun i => tb k i ∨ (i < n ∧ tb e i)) k') := by
  refine g_methV (own := RX0) yX0_learnAll cX0_learnAll 3 rfl (by decide) (Nat.le_of_ble_eq_true rfl) (fun J C hret => ?_)
  change J (XW ad dd n S L R U h k 0 st) 0 [(0, .ref (ad 0)), (1, .int (nI e))] []
  have hn := hO.2.1
  have loop : ∀ (d i k1 w1 : Nat) (st1 : Nat → Nat), i + d = n → ex0 n k 0 st k1 w1 st1 → (∀ x, tb k1 x ↔ (tb k x ∨ (x < i ∧ tb e x))) → J (XW ad dd n S L R U h k1 w1 st1) 2 [(0, .ref (ad 0)), (1, .int (nI e)), (2, .int (nI i))] [] := by
    intro d
    induction d with
    | zero =>
      intro i k1 w1 st1 hi hx hb
      refine gi_iload_n C dX0_learnAll_2 rfl 2 rfl ?_
      refine gi_aload_n C dX0_learnAll_3 rfl 0 rfl ?_
      refine xg0 C dX0_learnAll_4 ?_
      refine gn_icmp_ge (tgt := 29) C (by omega) (by omega) dX0_learnAll_7 (by decide) (fun h1 => ?_) (fun h1 => ?_)
      · have e1 : i = n := by omega
        subst e1
        refine gi_aload_n C dX0_learnAll_29 rfl 0 rfl ?_
        refine rx_spread C (by decide) hO hU (spI_of hc hx) (Nat.le_of_ble_eq_true rfl) dX0_learnAll_30 (fun v hv => ?_)
        obtain ⟨k2, st2, rfl, hv⟩ := hv
        exact hret _ _ _ dX0_learnAll_33 ⟨k2, st2, rfl, isC_congr hv hb⟩
      · omega
    | succ d ih =>
      intro i k1 w1 st1 hi hx hb
      refine gi_iload_n C dX0_learnAll_2 rfl 2 rfl ?_
      refine gi_aload_n C dX0_learnAll_3 rfl 0 rfl ?_
      refine xg0 C dX0_learnAll_4 ?_
      refine gn_icmp_ge (tgt := 29) C (by omega) (by omega) dX0_learnAll_7 (by decide) (fun h1 => ?_) (fun h1 => ?_)
      · omega
      · refine gi_iload_n C dX0_learnAll_10 rfl 1 rfl ?_
        refine gi_iload_n C dX0_learnAll_11 rfl 2 rfl ?_
        refine gn_bitU C dX0_learnAll_12 dX0_learnAll_13 dX0_learnAll_14 (by omega) (by omega) ?_
        refine gb_ifeq (tgt := 23) C dX0_learnAll_15 (by decide) (fun h2 => ?_) (fun h2 => ?_)
        · refine gn_iinc (lv' := [(2, _), (0, _), (1, _)]) C dX0_learnAll_23 2 rfl (by decide) rfl ?_
          refine gi_goto (tgt := 2) C dX0_learnAll_26 (by decide) ?_
          refine gi_sub (lv' := [(0, _), (1, _), (2, _)]) C [1, 2, 0] rfl ?_
          refine ih (i + 1) k1 w1 st1 (by omega) hx (fun x => ?_)
          rw [hb x]
          constructor
          · exact fun q => q.imp id (fun q => ⟨by omega, q.2⟩)
          · rintro (q | ⟨q1, q2⟩)
            · exact Or.inl q
            · by_cases ex : x = i
              · rw [ex] at q2; exact absurd (h2.symm.trans q2) (by decide)
              · exact Or.inr ⟨by omega, q2⟩
        · refine gi_aload_n C dX0_learnAll_18 rfl 0 rfl ?_
          refine gi_iload_n C dX0_learnAll_19 rfl 2 rfl ?_
          refine rx_learn C (by decide) (by omega) (p2_le hx.2.1 hn) (ex0_w hx (Nat.zero_le _)) (Nat.le_of_ble_eq_true rfl) dX0_learnAll_20 ?_
          refine gn_iinc (lv' := [(2, _), (0, _), (1, _)]) C dX0_learnAll_23 2 rfl (by decide) rfl ?_
          refine gi_goto (tgt := 2) C dX0_learnAll_26 (by decide) ?_
          refine gi_sub (lv' := [(0, _), (1, _), (2, _)]) C [1, 2, 0] rfl ?_
          refine ih (i + 1) _ _ _ (by omega) (ex0_tr hx (ex0_learn hn hx.2.1 (by omega))) (fun x => ?_)
          rw [setb_t, hb x]
          constructor
          · rintro (q | q | ⟨q1, q2⟩)
            · rw [q]; exact Or.inr ⟨by omega, h2⟩
            · exact Or.inl q
            · exact Or.inr ⟨by omega, q2⟩
          · rintro (q | ⟨q1, q2⟩)
            · exact Or.inr (Or.inl q)
            · by_cases ex : x = i
              · exact Or.inl ex
              · exact Or.inr (Or.inr ⟨by omega, q2⟩)
  refine gi_iconst (v := nI 0) C dX0_learnAll_0 (by decide) ?_
  refine gi_istore_n (lv' := [(2, _), (0, _), (1, _)]) C dX0_learnAll_1 rfl (by decide) rfl ?_
  refine gi_sub (lv' := [(0, _), (1, _), (2, _)]) C [1, 2, 0] rfl ?_
  exact loop n 0 k 0 st (by omega) (ex0_rf hk) (fun x => ⟨Or.inl, fun q => q.elim id (fun z => absurd z.1 (by omega))⟩)
theorem rx_learnAll {J : gJ} {cc : ByteArray} {nL fr lo pc : Nat} {lv : List (Nat × Value)} {rest : List Value} {l : Launch} {D : va_G} {ad : Nat → Nat} {dd : Nat → ClassId} {n : Nat} {S L R U : Nat → Nat} {h k : Nat} {st : Nat → Nat} (C : GC J l D vwCl (xtys dd) cc nL RX0 fr lo) (hR : 5 + 1 ≤ fr ∧ 8 + (3 + 11) + 106 ≤ lo) {e : Nat} (hO : tOK n S L R) (hU : uOK n L R U) (hk : k < 2 ^ n) (hc : Clo n S L R k) (he : e < 268435456) (hcat : (rest.map fun v => v.category).sum ≤ 8) (hdg : decode cc pc = .ok (.invokevirtual 64, 3)) (kk : ∀ uu : va_W, (fun v => ∃ k' st', v = (XW ad dd n S L R U h k' 0 st') ∧ isC n S L R (fun i => tb k i ∨ (i < n ∧ tb e i)) k') uu → J uu (pc + 3) lv rest) : J (XW ad dd n S L R U h k 0 st) pc lv (.int (nI e) :: .ref (ad 0) :: rest) :=
  gi_callv (n := 1) C (mx_learnAll hO hU hk hc he) (lw_V q107 q109 qs8 q17 q110) (by decide +kernel) hR 0 rfl rfl rfl rfl hcat hdg kk
set_option maxRecDepth 100000 in
theorem mx_closureOf {l : Launch} {D : va_G} {ad : Nat → Nat} {dd : Nat → ClassId} {n : Nat} {S L R U : Nat → Nat} {h k : Nat} {st : Nat → Nat} {e : Nat} (hO : tOK n S L R) (hU : uOK n L R U) (he : e < 268435456) : GMi l D vwCl (xtys dd) yX0_closureOf cX0_closureOf 2 (some .int) 6 128 [.ref (ad 0), .int (nI e)] (XW ad dd n S L R U h k 0 st) (fun r v => ∃ k' st', r = nI k' ∧ v = (XW ad dd n S L R U h k' 0 st') ∧ isC n S L R (fun i => i < n ∧ tb e i) k') := by
  refine g_methI (own := RX0) yX0_closureOf cX0_closureOf 2 rfl (by decide) (Nat.le_of_ble_eq_true rfl) (fun J C hret => ?_)
  change J (XW ad dd n S L R U h k 0 st) 0 [(0, .ref (ad 0)), (1, .int (nI e))] []
  refine gi_aload_n C dX0_closureOf_0 rfl 0 rfl ?_
  refine gi_iconst (v := nI 0) C dX0_closureOf_1 (by decide) ?_
  refine xp6 C dX0_closureOf_2 ?_
  refine gi_aload_n C dX0_closureOf_5 rfl 0 rfl ?_
  refine gi_iload_n C dX0_closureOf_6 rfl 1 rfl ?_
  refine rx_learnAll C (by decide) hO hU (Nat.two_pow_pos n) (Clo_0 n S L R) he (Nat.le_of_ble_eq_true rfl) dX0_closureOf_7 (fun v hv => ?_)
  obtain ⟨k2, st2, rfl, hv⟩ := hv
  refine gi_aload_n C dX0_closureOf_10 rfl 0 rfl ?_
  refine xg6 C dX0_closureOf_11 ?_
  exact hret _ _ _ _ dX0_closureOf_14 rfl ⟨k2, st2, rfl, rfl, isC_congr hv (fun i => ⟨fun q => q.elim (fun z => absurd z (tb_zero i)) id, Or.inr⟩)⟩
theorem rx_closureOf {J : gJ} {cc : ByteArray} {nL fr lo pc : Nat} {lv : List (Nat × Value)} {rest : List Value} {l : Launch} {D : va_G} {ad : Nat → Nat} {dd : Nat → ClassId} {n : Nat} {S L R U : Nat → Nat} {h k : Nat} {st : Nat → Nat} (C : GC J l D vwCl (xtys dd) cc nL RX0 fr lo) (hR : 6 + 1 ≤ fr ∧ 8 + (2 + 11) + 128 ≤ lo) {e : Nat} (hO : tOK n S L R) (hU : uOK n L R U) (he : e < 268435456) (hcat : (rest.map fun v => v.category).sum ≤ 8) (hdg : decode cc pc = .ok (.invokevirtual 57, 3)) (kk : ∀ (rr : Int32) (uu : va_W), (fun r v => ∃ k' st', r = nI k' ∧ v = (XW ad dd n S L R U h k' 0 st') ∧ isC n S L R (fun i => i < n ∧ tb e i) k') rr uu → J uu (pc + 3) lv (.int rr :: rest)) : J (XW ad dd n S L R U h k 0 st) pc lv (.int (nI e) :: .ref (ad 0) :: rest) :=
  gi_calli (n := 1) C (mx_closureOf hO hU he) (lw_V q103 q105 qs7 q17 q106) (by decide +kernel) hR 0 rfl rfl rfl rfl hcat hdg kk
set_option maxRecDepth 100000 in
theorem mx_reveals {l : Launch} {D : va_G} {ad : Nat → Nat} {dd : Nat → ClassId} {n : Nat} {S L R U : Nat → Nat} {h k : Nat} {st : Nat → Nat} {e g : Nat} (hO : tOK n S L R) (hU : uOK n L R U) (hk : k < 2 ^ n) (hc : Clo n S L R k) (he : e < 268435456) (hg : g < n) : GMi l D vwCl (xtys dd) yX0_reveals cX0_reveals 5 (some .boolean) 6 128 [.ref (ad 0), .int (nI e), .int (nI g)] (XW ad dd n S L R U h k 0 st) (fun r v => ∃ k' st', r = b2i (k'.testBit g) ∧ v = (XW ad dd n S L R U h k 0 st') ∧ isC n S L R (fun i => tb k i ∨ (i < n ∧ tb e i)) k') := by
  refine g_methI (own := RX0) yX0_reveals cX0_reveals 5 rfl (by decide) (Nat.le_of_ble_eq_true rfl) (fun J C hret => ?_)
  change J (XW ad dd n S L R U h k 0 st) 0 [(0, .ref (ad 0)), (1, .int (nI e)), (2, .int (nI g))] []
  have hn := hO.2.1
  refine gi_aload_n C dX0_reveals_0 rfl 0 rfl ?_
  refine xg6 C dX0_reveals_1 ?_
  refine gi_istore_n (lv' := [(3, _), (0, _), (1, _), (2, _)]) C dX0_reveals_4 rfl (by decide) rfl ?_
  refine gi_aload_n C dX0_reveals_5 rfl 1 rfl ?_
  refine gi_iload_n C dX0_reveals_6 rfl 2 rfl ?_
  refine rx_learnAll C (by decide) hO hU hk hc he (Nat.le_of_ble_eq_true rfl) dX0_reveals_7 (fun v hv => ?_)
  obtain ⟨k2, st2, rfl, hv⟩ := hv
  refine gi_aload_n C dX0_reveals_10 rfl 1 rfl ?_
  refine gi_iload_n C dX0_reveals_11 rfl 3 rfl ?_
  refine rx_isKnown C (by decide) (by omega) (p2_le hv.1 hn) (Nat.le_of_ble_eq_true rfl) dX0_reveals_12 ?_
  refine gi_istore (lv' := [(4, _), (3, _), (0, _), (1, _), (2, _)]) C dX0_reveals_15 (by decide) rfl ?_
  refine gi_aload_n C dX0_reveals_17 rfl 2 rfl ?_
  refine gi_iload_n C dX0_reveals_18 rfl 1 rfl ?_
  refine xp6 C dX0_reveals_19 ?_
  refine gi_iload C dX0_reveals_22 0 rfl ?_
  exact hret _ _ _ _ dX0_reveals_24 (b2i_nar _) ⟨k2, st2, rfl, rfl, hv⟩
theorem rx_reveals {J : gJ} {cc : ByteArray} {nL fr lo pc : Nat} {lv : List (Nat × Value)} {rest : List Value} {l : Launch} {D : va_G} {ad : Nat → Nat} {dd : Nat → ClassId} {n : Nat} {S L R U : Nat → Nat} {h k : Nat} {st : Nat → Nat} (C : GC J l D vwCl (xtys dd) cc nL RX0 fr lo) (hR : 6 + 1 ≤ fr ∧ 8 + (5 + 11) + 128 ≤ lo) {e g : Nat} (hO : tOK n S L R) (hU : uOK n L R U) (hk : k < 2 ^ n) (hc : Clo n S L R k) (he : e < 268435456) (hg : g < n) (hcat : (rest.map fun v => v.category).sum ≤ 8) (hdg : decode cc pc = .ok (.invokevirtual 60, 3)) (kk : ∀ (rr : Int32) (uu : va_W), (fun r v => ∃ k' st', r = b2i (k'.testBit g) ∧ v = (XW ad dd n S L R U h k 0 st') ∧ isC n S L R (fun i => tb k i ∨ (i < n ∧ tb e i)) k') rr uu → J uu (pc + 3) lv (.int rr :: rest)) : J (XW ad dd n S L R U h k 0 st) pc lv (.int (nI g) :: .int (nI e) :: .ref (ad 0) :: rest) :=
  gi_calli (n := 2) C (mx_reveals hO hU hk hc he hg) (lw_V q123 q125 qs9 q17 q126) (by decide +kernel) hR 0 rfl rfl rfl rfl hcat hdg kk
end
section
/-! TermSecrets: terms -/
def XI (n : Nat) (S L R U : Nat → Nat) (h k : Nat) : Prop := tOK n S L R ∧ uOK n L R U ∧ h < 2 ^ n ∧ isC n S L R (tb h) k
set_option maxRecDepth 100000 in
theorem mx_termOf {l : Launch} {D : va_G} {ad : Nat → Nat} {dd : Nat → ClassId} {n : Nat} {S L R U : Nat → Nat} {h k : Nat} {st : Nat → Nat} {s a b : Nat} (hI : XI n S L R U h k) (hs : s = 1 ∨ s = 2) (ha : a < n) (hb : b < n) : GMi l D vwCl (xtys dd) yX0_termOf cX0_termOf 6 (some .int) 5 106 [.ref (ad 0), .int (nI s), .int (nI a), .int (nI b)] (XW ad dd n S L R U h k 0 st) (fun r v => ∃ n' S' L' R' U' k' st', v = (XW ad dd n' S' L' R' U' h k' 0 st') ∧ mkR n S L R s a b r n' S' L' R' ∧ XI n' S' L' R' U' h k') := by
  refine g_methI (own := RX0) yX0_termOf cX0_termOf 6 rfl (by decide) (Nat.le_of_ble_eq_true rfl) (fun J C hret => ?_)
  change J (XW ad dd n S L R U h k 0 st) 0 [(0, .ref (ad 0)), (1, .int (nI s)), (2, .int (nI a)), (3, .int (nI b))] []
  obtain ⟨hO, hU, hh, hC⟩ := id hI
  have hn := hO.2.1
  have h8n := hO.1
  have hUa := uOK_lt hn hU (show a < 28 by omega)
  have hUb := uOK_lt hn hU (show b < 28 by omega)
  have hab : U a &&& U b < 2 ^ 31 := Nat.lt_of_le_of_lt Nat.and_le_left (by omega)
  have at80 : (∀ u, 8 ≤ u → u < n → ¬ mt S L R s a b u) → J (XW ad dd n S L R U h k 0 st) 80 [(0, .ref (ad 0)), (1, .int (nI s)), (2, .int (nI a)), (3, .int (nI b)), (4, .int (nI (U a &&& U b))), (5, .int (nI n))] [] := by
    intro hno
    refine gi_aload_n C dX0_termOf_80 rfl 0 rfl ?_
    refine xg0 C dX0_termOf_81 ?_
    refine gi_bipush (v := nI 28) C dX0_termOf_84 (by decide) ?_
    refine gn_icmp_lt (tgt := 91) C (by omega) (by omega) dX0_termOf_86 (by decide) (fun h1 => ?_) (fun h1 => ?_)
    · have hO2 := tOK_up hO h1 hs ha hb
      have hU2 := uOK_up hO hU h1 ha hb
      have hmk : mkR n S L R s a b (nI n) (n + 1) (va_up S n s) (va_up L n a) (va_up R n b) := Or.inr ⟨hno, Or.inr ⟨h1, rfl, rfl, rfl, rfl, rfl⟩⟩
      have hh2 : h < 2 ^ (n + 1) := Nat.lt_of_lt_of_le hh (Nat.pow_le_pow_right (by omega) (by omega))
      have hk2 : k < 2 ^ (n + 1) := Nat.lt_of_lt_of_le hC.1 (Nat.pow_le_pow_right (by omega) (by omega))
      have hk8 := p2_le hC.1 hn
      have last : ∀ (k' : Nat) (st' : Nat → Nat), isC (n + 1) (va_up S n s) (va_up L n a) (va_up R n b) (tb h) k' → J (XW ad dd (n + 1) (va_up S n s) (va_up L n a) (va_up R n b) (va_up (va_up U a (U a ||| 2 ^ n)) b ((va_up U a (U a ||| 2 ^ n)) b ||| 2 ^ n)) h k' 0 st') 183 [(5, .int (nI n)), (0, .ref (ad 0)), (1, .int (nI s)), (2, .int (nI a)), (3, .int (nI b)), (4, .int (nI (U a &&& U b)))] [] := by
        intro k' st' hc'
        refine gi_iload C dX0_termOf_183 0 rfl ?_
        exact hret _ _ _ _ dX0_termOf_185 rfl ⟨n + 1, _, _, _, _, k', st', rfl, hmk, hO2, hU2, hh2, hc'⟩
      refine gi_aload_n C dX0_termOf_91 rfl 0 rfl ?_
      refine xg0 C dX0_termOf_92 ?_
      refine gi_istore (lv' := [(5, _), (0, _), (1, _), (2, _), (3, _), (4, _)]) C dX0_termOf_95 (by decide) rfl ?_
      refine gi_aload_n C dX0_termOf_97 rfl 1 rfl ?_
      refine gi_dup C dX0_termOf_98 rfl ?_
      refine xg0 C dX0_termOf_99 ?_
      refine gi_iconst (v := nI 1) C dX0_termOf_102 (by decide) ?_
      refine gn_iadd C dX0_termOf_103 ?_
      refine xp0 C dX0_termOf_104 ?_
      refine gi_aload_n C dX0_termOf_107 rfl 1 rfl ?_
      refine xg1 C dX0_termOf_108 ?_
      refine gi_iload C dX0_termOf_111 0 rfl ?_
      refine gi_iload_n C dX0_termOf_113 rfl 2 rfl ?_
      refine xs1 C dX0_termOf_114 (by omega) ?_
      refine gi_aload_n C dX0_termOf_115 rfl 1 rfl ?_
      refine xg2 C dX0_termOf_116 ?_
      refine gi_iload C dX0_termOf_119 0 rfl ?_
      refine gi_iload_n C dX0_termOf_121 rfl 3 rfl ?_
      refine xs2 C dX0_termOf_122 (by omega) ?_
      refine gi_aload_n C dX0_termOf_123 rfl 1 rfl ?_
      refine xg3 C dX0_termOf_124 ?_
      refine gi_iload C dX0_termOf_127 0 rfl ?_
      refine gi_iload_n C dX0_termOf_129 rfl 4 rfl ?_
      refine xs3 C dX0_termOf_130 (by omega) ?_
      refine gi_aload_n C dX0_termOf_131 rfl 1 rfl ?_
      refine xg4 C dX0_termOf_132 ?_
      refine gi_iload_n C dX0_termOf_135 rfl 3 rfl ?_
      refine gi_dup2 C dX0_termOf_136 rfl rfl ?_
      refine xa4 C dX0_termOf_137 (by omega) ?_
      refine gi_iconst (v := nI 1) C dX0_termOf_138 (by decide) ?_
      refine gi_iload C dX0_termOf_139 0 rfl ?_
      refine gn_ishl C dX0_termOf_141 (by omega) ?_
      refine gi_ior C dX0_termOf_142 (nx_or _ _) ?_
      refine xs4 C dX0_termOf_143 (by omega) ?_
      refine gi_aload_n C dX0_termOf_144 rfl 1 rfl ?_
      refine xg4 C dX0_termOf_145 ?_
      refine gi_iload_n C dX0_termOf_148 rfl 4 rfl ?_
      refine gi_dup2 C dX0_termOf_149 rfl rfl ?_
      refine xa4 C dX0_termOf_150 (by omega) ?_
      refine gi_iconst (v := nI 1) C dX0_termOf_151 (by decide) ?_
      refine gi_iload C dX0_termOf_152 0 rfl ?_
      refine gn_ishl C dX0_termOf_154 (by omega) ?_
      refine gi_ior C dX0_termOf_155 (nx_or _ _) ?_
      refine xs4 C dX0_termOf_156 (by omega) ?_
      refine gi_aload_n C dX0_termOf_157 rfl 1 rfl ?_
      refine gi_iload_n C dX0_termOf_158 rfl 3 rfl ?_
      refine rx_isKnown C (by decide) (by omega) hk8 (Nat.le_of_ble_eq_true rfl) dX0_termOf_159 ?_
      refine gb_ifeq (tgt := 183) C dX0_termOf_162 (by decide) (fun h2 => ?_) (fun h2 => ?_)
      · exact last k st (isC_upN hC (fun q => absurd (h2.symm.trans q.1) (by decide)))
      · refine gi_aload_n C dX0_termOf_165 rfl 1 rfl ?_
        refine gi_iload_n C dX0_termOf_166 rfl 4 rfl ?_
        refine rx_isKnown C (by decide) (by omega) hk8 (Nat.le_of_ble_eq_true rfl) dX0_termOf_167 ?_
        refine gb_ifeq (tgt := 183) C dX0_termOf_170 (by decide) (fun h3 => ?_) (fun h3 => ?_)
        · exact last k st (isC_upN hC (fun q => absurd (h3.symm.trans q.2) (by decide)))
        · refine gi_aload_n C dX0_termOf_173 rfl 1 rfl ?_
          refine gi_iload C dX0_termOf_174 0 rfl ?_
          refine rx_learn C (by decide) (by omega) hk8 (Nat.zero_le _) (Nat.le_of_ble_eq_true rfl) dX0_termOf_176 ?_
          refine gi_aload_n C dX0_termOf_179 rfl 1 rfl ?_
          refine rx_spread C (by decide) hO2 hU2 (spI_up hC.1 hC.2.2.1 (ex0_learn (by omega) hk2 (by omega))) (Nat.le_of_ble_eq_true rfl) dX0_termOf_180 (fun v hv => ?_)
          obtain ⟨k2, st2, rfl, hv⟩ := hv
          exact last k2 st2 (isC_upY h8n hC h2 h3 hv)
    · refine gi_iconst (v := -1) C dX0_termOf_89 (by decide) ?_
      exact hret _ _ _ _ dX0_termOf_90 rfl ⟨n, S, L, R, U, k, st, rfl, Or.inr ⟨hno, Or.inl ⟨by omega, rfl, rfl, rfl, rfl, rfl⟩⟩, hI⟩
  have loop : ∀ (d i : Nat), i + d = n → 8 ≤ i → (∀ u, 8 ≤ u → u < i → ¬ mt S L R s a b u) → J (XW ad dd n S L R U h k 0 st) 19 [(0, .ref (ad 0)), (1, .int (nI s)), (2, .int (nI a)), (3, .int (nI b)), (4, .int (nI (U a &&& U b))), (5, .int (nI i))] [] := by
    intro d
    induction d with
    | zero =>
      intro i hi h8 hno
      refine gi_iload C dX0_termOf_19 5 rfl ?_
      refine gi_aload_n C dX0_termOf_21 rfl 0 rfl ?_
      refine xg0 C dX0_termOf_22 ?_
      refine gn_icmp_ge (tgt := 80) C (by omega) (by omega) dX0_termOf_25 (by decide) (fun h1 => ?_) (fun h1 => ?_)
      · have e1 : i = n := by omega
        subst e1
        exact at80 hno
      · omega
    | succ d ih =>
      intro i hi h8 hno
      have hin : i < n := by omega
      obtain ⟨hSi, hLi, hRi⟩ := hO.2.2.2 i h8 hin
      have next : ¬ mt S L R s a b i → J (XW ad dd n S L R U h k 0 st) 74 [(0, .ref (ad 0)), (1, .int (nI s)), (2, .int (nI a)), (3, .int (nI b)), (4, .int (nI (U a &&& U b))), (5, .int (nI i))] [] := by
        intro hni
        refine gn_iinc (lv' := [(5, _), (0, _), (1, _), (2, _), (3, _), (4, _)]) C dX0_termOf_74 5 rfl (by decide) rfl ?_
        refine gi_goto (tgt := 19) C dX0_termOf_77 (by decide) ?_
        refine gi_sub (lv' := [(0, _), (1, _), (2, _), (3, _), (4, _), (5, _)]) C [1, 2, 3, 4, 5, 0] rfl ?_
        refine ih (i + 1) (by omega) (by omega) (fun u q1 q2 => ?_)
        by_cases e : u = i
        · rw [e]; exact hni
        · exact hno u q1 (by omega)
      refine gi_iload C dX0_termOf_19 5 rfl ?_
      refine gi_aload_n C dX0_termOf_21 rfl 0 rfl ?_
      refine xg0 C dX0_termOf_22 ?_
      refine gn_icmp_ge (tgt := 80) C (by omega) (by omega) dX0_termOf_25 (by decide) (fun h1 => ?_) (fun h1 => ?_)
      · omega
      · refine gi_iload C dX0_termOf_28 4 rfl ?_
        refine gi_iload C dX0_termOf_30 5 rfl ?_
        refine gn_bitU C dX0_termOf_32 dX0_termOf_33 dX0_termOf_34 (by omega) (by omega) ?_
        refine gb_ifeq (tgt := 74) C dX0_termOf_35 (by decide) (fun h2 => ?_) (fun h2 => ?_)
        · refine next (fun q => ?_)
          have q1 := (hU a (by omega) i).mpr ⟨h8, hin, Or.inl q.2.1⟩
          have q2 := (hU b (by omega) i).mpr ⟨h8, hin, Or.inr q.2.2⟩
          rw [Nat.testBit_and, show (U a).testBit i = true from q1, show (U b).testBit i = true from q2] at h2
          exact absurd h2 (by decide)
        · refine gi_aload_n C dX0_termOf_38 rfl 0 rfl ?_
          refine xg1 C dX0_termOf_39 ?_
          refine gi_iload C dX0_termOf_42 5 rfl ?_
          refine xa1 C dX0_termOf_44 (by omega) ?_
          refine gi_iload_n C dX0_termOf_45 rfl 1 rfl ?_
          refine gn_icmp_ne (tgt := 74) C (by omega) (by omega) dX0_termOf_46 (by decide) (fun h3 => ?_) (fun h3 => ?_)
          · exact next (fun q => h3 q.1)
          · refine gi_aload_n C dX0_termOf_49 rfl 0 rfl ?_
            refine xg2 C dX0_termOf_50 ?_
            refine gi_iload C dX0_termOf_53 5 rfl ?_
            refine xa2 C dX0_termOf_55 (by omega) ?_
            refine gi_iload_n C dX0_termOf_56 rfl 2 rfl ?_
            refine gn_icmp_ne (tgt := 74) C (by omega) (by omega) dX0_termOf_57 (by decide) (fun h4 => ?_) (fun h4 => ?_)
            · exact next (fun q => h4 q.2.1)
            · refine gi_aload_n C dX0_termOf_60 rfl 0 rfl ?_
              refine xg3 C dX0_termOf_61 ?_
              refine gi_iload C dX0_termOf_64 5 rfl ?_
              refine xa3 C dX0_termOf_66 (by omega) ?_
              refine gi_iload_n C dX0_termOf_67 rfl 3 rfl ?_
              refine gn_icmp_ne (tgt := 74) C (by omega) (by omega) dX0_termOf_68 (by decide) (fun h5 => ?_) (fun h5 => ?_)
              · exact next (fun q => h5 q.2.2)
              · refine gi_iload C dX0_termOf_71 5 rfl ?_
                exact hret _ _ _ _ dX0_termOf_73 rfl ⟨n, S, L, R, U, k, st, rfl, Or.inl ⟨i, ⟨h8, hin, ⟨h3, h4, h5⟩, hno⟩, rfl, rfl, rfl, rfl, rfl⟩, hI⟩
  refine gi_aload_n C dX0_termOf_0 rfl 0 rfl ?_
  refine xg4 C dX0_termOf_1 ?_
  refine gi_iload_n C dX0_termOf_4 rfl 2 rfl ?_
  refine xa4 C dX0_termOf_5 (by omega) ?_
  refine gi_aload_n C dX0_termOf_6 rfl 0 rfl ?_
  refine xg4 C dX0_termOf_7 ?_
  refine gi_iload_n C dX0_termOf_10 rfl 3 rfl ?_
  refine xa4 C dX0_termOf_11 (by omega) ?_
  refine gn_iand C dX0_termOf_12 ?_
  refine gi_istore (lv' := [(4, _), (0, _), (1, _), (2, _), (3, _)]) C dX0_termOf_13 (by decide) rfl ?_
  refine gi_bipush (v := nI 8) C dX0_termOf_15 (by decide) ?_
  refine gi_istore (lv' := [(5, _), (4, _), (0, _), (1, _), (2, _), (3, _)]) C dX0_termOf_17 (by decide) rfl ?_
  refine gi_sub (lv' := [(0, _), (1, _), (2, _), (3, _), (4, _), (5, _)]) C [2, 3, 4, 5, 1, 0] rfl ?_
  exact loop (n - 8) 8 (by omega) (Nat.le_refl 8) (fun u q1 q2 => absurd q1 (by omega))
theorem rx_termOf {J : gJ} {cc : ByteArray} {nL fr lo pc : Nat} {lv : List (Nat × Value)} {rest : List Value} {l : Launch} {D : va_G} {ad : Nat → Nat} {dd : Nat → ClassId} {n : Nat} {S L R U : Nat → Nat} {h k : Nat} {st : Nat → Nat} (C : GC J l D vwCl (xtys dd) cc nL RX0 fr lo) (hR : 5 + 1 ≤ fr ∧ 8 + (6 + 11) + 106 ≤ lo) {s a b : Nat} (hI : XI n S L R U h k) (hs : s = 1 ∨ s = 2) (ha : a < n) (hb : b < n) (hcat : (rest.map fun v => v.category).sum ≤ 8) (hdg : decode cc pc = .ok (.invokevirtual 33, 3)) (kk : ∀ (rr : Int32) (uu : va_W), (fun r v => ∃ n' S' L' R' U' k' st', v = (XW ad dd n' S' L' R' U' h k' 0 st') ∧ mkR n S L R s a b r n' S' L' R' ∧ XI n' S' L' R' U' h k') rr uu → J uu (pc + 3) lv (.int rr :: rest)) : J (XW ad dd n S L R U h k 0 st) pc lv (.int (nI b) :: .int (nI a) :: .int (nI s) :: .ref (ad 0) :: rest) :=
  gi_calli (n := 3) C (mx_termOf hI hs ha hb) (lw_V q64 q66 qs1 q17 q67) (by decide +kernel) hR 0 rfl rfl rfl rfl hcat hdg kk
set_option maxRecDepth 100000 in
theorem mx_pair {l : Launch} {D : va_G} {ad : Nat → Nat} {dd : Nat → ClassId} {n : Nat} {S L R U : Nat → Nat} {h k : Nat} {st : Nat → Nat} {x y : Int32} (hI : XI n S L R U h k) : GMi l D vwCl (xtys dd) yX0_pair cX0_pair 3 (some .int) 6 131 [.ref (ad 0), .int x, .int y] (XW ad dd n S L R U h k 0 st) (fun r v => ∃ n' S' L' R' U' k' st', v = (XW ad dd n' S' L' R' U' h k' 0 st') ∧ mkP n S L R 1 x y r n' S' L' R' ∧ XI n' S' L' R' U' h k') := by
  refine g_methI (own := RX0) yX0_pair cX0_pair 3 rfl (by decide) (Nat.le_of_ble_eq_true rfl) (fun J C hret => ?_)
  change J (XW ad dd n S L R U h k 0 st) 0 [(0, .ref (ad 0)), (1, .int x), (2, .int y)] []
  have hn := hI.1.2.1
  refine gi_aload_n C dX0_pair_0 rfl 0 rfl ?_
  refine gi_iload_n C dX0_pair_1 rfl 1 rfl ?_
  refine rx_isTerm C (by decide) hn (Nat.le_of_ble_eq_true rfl) dX0_pair_2 (fun r v hv => ?_)
  obtain ⟨b1, rfl, hb1, rfl⟩ := hv
  refine gb_ifeq (tgt := 26) C dX0_pair_5 (by decide) (fun h1 => ?_) (fun h1 => ?_)
  · refine gi_iconst (v := -1) C dX0_pair_26 (by decide) ?_
    exact hret _ _ _ _ dX0_pair_27 rfl ⟨n, S, L, R, U, k, st, rfl, Or.inl ⟨fun q => absurd (h1.symm.trans (hb1.mpr q.1)) (by decide), rfl, rfl, rfl, rfl, rfl⟩, hI⟩
  · refine gi_aload_n C dX0_pair_8 rfl 0 rfl ?_
    refine gi_iload_n C dX0_pair_9 rfl 2 rfl ?_
    refine rx_isTerm C (by decide) hn (Nat.le_of_ble_eq_true rfl) dX0_pair_10 (fun r v hv => ?_)
    obtain ⟨b2, rfl, hb2, rfl⟩ := hv
    refine gb_ifeq (tgt := 26) C dX0_pair_13 (by decide) (fun h2 => ?_) (fun h2 => ?_)
    · refine gi_iconst (v := -1) C dX0_pair_26 (by decide) ?_
      exact hret _ _ _ _ dX0_pair_27 rfl ⟨n, S, L, R, U, k, st, rfl, Or.inl ⟨fun q => absurd (h2.symm.trans (hb2.mpr q.2)) (by decide), rfl, rfl, rfl, rfl, rfl⟩, hI⟩
    · obtain ⟨i, hi, rfl⟩ := hb1.mp h1
      obtain ⟨j, hj, rfl⟩ := hb2.mp h2
      refine gi_aload_n C dX0_pair_16 rfl 0 rfl ?_
      refine gi_iconst (v := nI 1) C dX0_pair_17 (by decide) ?_
      refine gi_iload_n C dX0_pair_18 rfl 1 rfl ?_
      refine gi_iload_n C dX0_pair_19 rfl 2 rfl ?_
      refine rx_termOf C (by decide) hI (by decide) hi hj (Nat.le_of_ble_eq_true rfl) dX0_pair_20 (fun r v hv => ?_)
      obtain ⟨n', S', L', R', U', k', st', rfl, hm, hx⟩ := hv
      refine gi_goto (tgt := 27) C dX0_pair_23 (by decide) ?_
      exact hret _ _ _ _ dX0_pair_27 rfl ⟨n', S', L', R', U', k', st', rfl, Or.inr ⟨i, j, hi, hj, rfl, rfl, hm⟩, hx⟩
set_option maxRecDepth 100000 in
theorem mx_lock {l : Launch} {D : va_G} {ad : Nat → Nat} {dd : Nat → ClassId} {n : Nat} {S L R U : Nat → Nat} {h k : Nat} {st : Nat → Nat} {x y : Int32} (hI : XI n S L R U h k) : GMi l D vwCl (xtys dd) yX0_lock cX0_lock 3 (some .int) 6 131 [.ref (ad 0), .int x, .int y] (XW ad dd n S L R U h k 0 st) (fun r v => ∃ n' S' L' R' U' k' st', v = (XW ad dd n' S' L' R' U' h k' 0 st') ∧ mkP n S L R 2 x y r n' S' L' R' ∧ XI n' S' L' R' U' h k') := by
  refine g_methI (own := RX0) yX0_lock cX0_lock 3 rfl (by decide) (Nat.le_of_ble_eq_true rfl) (fun J C hret => ?_)
  change J (XW ad dd n S L R U h k 0 st) 0 [(0, .ref (ad 0)), (1, .int x), (2, .int y)] []
  have hn := hI.1.2.1
  refine gi_aload_n C dX0_lock_0 rfl 0 rfl ?_
  refine gi_iload_n C dX0_lock_1 rfl 1 rfl ?_
  refine rx_isTerm C (by decide) hn (Nat.le_of_ble_eq_true rfl) dX0_lock_2 (fun r v hv => ?_)
  obtain ⟨b1, rfl, hb1, rfl⟩ := hv
  refine gb_ifeq (tgt := 26) C dX0_lock_5 (by decide) (fun h1 => ?_) (fun h1 => ?_)
  · refine gi_iconst (v := -1) C dX0_lock_26 (by decide) ?_
    exact hret _ _ _ _ dX0_lock_27 rfl ⟨n, S, L, R, U, k, st, rfl, Or.inl ⟨fun q => absurd (h1.symm.trans (hb1.mpr q.1)) (by decide), rfl, rfl, rfl, rfl, rfl⟩, hI⟩
  · refine gi_aload_n C dX0_lock_8 rfl 0 rfl ?_
    refine gi_iload_n C dX0_lock_9 rfl 2 rfl ?_
    refine rx_isTerm C (by decide) hn (Nat.le_of_ble_eq_true rfl) dX0_lock_10 (fun r v hv => ?_)
    obtain ⟨b2, rfl, hb2, rfl⟩ := hv
    refine gb_ifeq (tgt := 26) C dX0_lock_13 (by decide) (fun h2 => ?_) (fun h2 => ?_)
    · refine gi_iconst (v := -1) C dX0_lock_26 (by decide) ?_
      exact hret _ _ _ _ dX0_lock_27 rfl ⟨n, S, L, R, U, k, st, rfl, Or.inl ⟨fun q => absurd (h2.symm.trans (hb2.mpr q.2)) (by decide), rfl, rfl, rfl, rfl, rfl⟩, hI⟩
    · obtain ⟨i, hi, rfl⟩ := hb1.mp h1
      obtain ⟨j, hj, rfl⟩ := hb2.mp h2
      refine gi_aload_n C dX0_lock_16 rfl 0 rfl ?_
      refine gi_iconst (v := nI 2) C dX0_lock_17 (by decide) ?_
      refine gi_iload_n C dX0_lock_18 rfl 1 rfl ?_
      refine gi_iload_n C dX0_lock_19 rfl 2 rfl ?_
      refine rx_termOf C (by decide) hI (by decide) hi hj (Nat.le_of_ble_eq_true rfl) dX0_lock_20 (fun r v hv => ?_)
      obtain ⟨n', S', L', R', U', k', st', rfl, hm, hx⟩ := hv
      refine gi_goto (tgt := 27) C dX0_lock_23 (by decide) ?_
      exact hret _ _ _ _ dX0_lock_27 rfl ⟨n', S', L', R', U', k', st', rfl, Or.inr ⟨i, j, hi, hj, rfl, rfl, hm⟩, hx⟩
end
section
/-! TermSecrets: hearing and questions -/
theorem p2_lt {i : Nat} (h : i < 28) : 2 ^ i < 268435456 := Nat.pow_lt_pow_right (a := 2) (n := 28) (m := i) (by decide) h
theorem tb_two {i t : Nat} : tb (2 ^ i) t ↔ t = i := by
  unfold tb
  rw [Nat.testBit_two_pow]
  exact ⟨fun q => (of_decide_eq_true q).symm, fun q => decide_eq_true q.symm⟩
theorem isC_hear {n : Nat} {S L R : Nat → Nat} {h k j k2 : Nat} (hC : isC n S L R (tb h) k) (hv : isC n S L R (tb (setb k j true)) k2) : isC n S L R (tb (setb h j true)) k2 :=
  isC_of hv (fun i q => setb_t.mpr ((setb_t.mp q).imp id (hC.2.1 i))) (fun c hc hp i q => (setb_t.mp q).elim (fun z => hp i (setb_t.mpr (Or.inl z))) (hC.2.2.2 c hc (fun x hx => hp x (setb_t.mpr (Or.inr hx))) i))
theorem isC_drop {n : Nat} {S L R : Nat → Nat} {h k2 : Nat} (hh : h < 2 ^ n) (hv : isC n S L R (fun i => i < n ∧ tb h i) k2) : isC n S L R (tb h) k2 := isC_congr hv (fun i => ⟨fun q => q.2, fun q => ⟨tb_lt hh q, q⟩⟩)
theorem isC_one {n : Nat} {S L R : Nat → Nat} {h k j k2 : Nat} (hj : j < n) (hC : isC n S L R (tb h) k) (hv : isC n S L R (fun t => tb k t ∨ (t < n ∧ tb (2 ^ j) t)) k2) : isC n S L R (fun t => tb h t ∨ t = j) k2 :=
  isC_congr (isC_more hC hv) (fun t => ⟨fun q => q.imp id (fun z => tb_two.mp z.2), fun q => q.imp id (fun z => ⟨by omega, tb_two.mpr z⟩)⟩)
theorem isC_set {n : Nat} {S L R : Nat → Nat} {h k e k2 : Nat} (h8 : 8 ≤ n) (he : e < 256) (hC : isC n S L R (tb h) k) (hv : isC n S L R (fun t => tb k t ∨ (t < n ∧ tb e t)) k2) : isC n S L R (fun t => tb h t ∨ tb e t) k2 :=
  isC_congr (isC_more hC hv) (fun t => ⟨fun q => q.imp id (fun z => z.2), fun q => q.imp id (fun z => ⟨Nat.lt_of_lt_of_le (tb_lt (n := 8) he z) h8, z⟩)⟩)
theorem tb_f {k i : Nat} (h : k.testBit i = false) : ¬ tb k i := fun q => absurd (h.symm.trans q) (by decide)
theorem setb_fh {h j : Nat} (hb : h.testBit j = false) : setb h j false = h := if_pos hb
set_option maxRecDepth 100000 in
theorem mx_hear {l : Launch} {D : va_G} {ad : Nat → Nat} {dd : Nat → ClassId} {n : Nat} {S L R U : Nat → Nat} {h k : Nat} {st : Nat → Nat} {x : Int32} (hI : XI n S L R U h k) : GMi l D vwCl (xtys dd) yX0_hear cX0_hear 2 (some .int) 5 106 [.ref (ad 0), .int x] (XW ad dd n S L R U h k 0 st) (fun r v => ∃ h' k' st', v = (XW ad dd n S L R U h' k' 0 st') ∧ XI n S L R U h' k' ∧ ((¬ isT n x ∧ r = -1 ∧ h' = h) ∨ ∃ j, j < n ∧ x = nI j ∧ h' = setb h j true ∧ r = nI (cnt k' 28))) := by
  refine g_methI (own := RX0) yX0_hear cX0_hear 2 rfl (by decide) (Nat.le_of_ble_eq_true rfl) (fun J C hret => ?_)
  change J (XW ad dd n S L R U h k 0 st) 0 [(0, .ref (ad 0)), (1, .int x)] []
  obtain ⟨hO, hU, hh, hC⟩ := id hI
  have hn := hO.2.1
  have hk8 := p2_le hC.1 hn
  have hh8 := p2_le hh hn
  refine gi_aload_n C dX0_hear_0 rfl 0 rfl ?_
  refine gi_iload_n C dX0_hear_1 rfl 1 rfl ?_
  refine rx_isTerm C (by decide) hn (Nat.le_of_ble_eq_true rfl) dX0_hear_2 (fun r v hv => ?_)
  obtain ⟨b1, rfl, hb1, rfl⟩ := hv
  refine gb_ifne (tgt := 10) C dX0_hear_5 (by decide) (fun h1 => ?_) (fun h1 => ?_)
  · obtain ⟨j, hj, rfl⟩ := hb1.mp h1
    refine gi_aload_n C dX0_hear_10 rfl 0 rfl ?_
    refine gi_dup C dX0_hear_11 rfl ?_
    refine xg5 C dX0_hear_12 ?_
    refine gi_iconst (v := nI 1) C dX0_hear_15 (by decide) ?_
    refine gi_iload_n C dX0_hear_16 rfl 1 rfl ?_
    refine gn_ishl C dX0_hear_17 (by omega) ?_
    refine gn_ior C dX0_hear_18 ?_
    refine xp5 C dX0_hear_19 ?_
    refine gi_aload_n C dX0_hear_22 rfl 0 rfl ?_
    refine gi_iload_n C dX0_hear_23 rfl 1 rfl ?_
    refine rx_learn C (by decide) (by omega) hk8 (Nat.zero_le _) (Nat.le_of_ble_eq_true rfl) dX0_hear_24 ?_
    refine gi_aload_n C dX0_hear_27 rfl 0 rfl ?_
    refine rx_spread C (by decide) hO hU (spI_of hC.2.2.1 (ex0_learn hn hC.1 hj)) (Nat.le_of_ble_eq_true rfl) dX0_hear_28 (fun v hv => ?_)
    obtain ⟨k2, st2, rfl, hv⟩ := hv
    refine gi_aload_n C dX0_hear_31 rfl 0 rfl ?_
    refine xg6 C dX0_hear_32 ?_
    refine rx_size_s C (by decide) (p2_le hv.1 hn) (Nat.le_of_ble_eq_true rfl) dX0_hear_35 ?_
    exact hret _ _ _ _ dX0_hear_38 rfl ⟨_, k2, st2, rfl, ⟨hO, hU, setb_lt hh hj, isC_hear hC hv⟩, Or.inr ⟨j, hj, rfl, rfl, rfl⟩⟩
  · refine gi_iconst (v := -1) C dX0_hear_8 (by decide) ?_
    exact hret _ _ _ _ dX0_hear_9 rfl ⟨h, k, st, rfl, hI, Or.inl ⟨fun q => absurd (h1.symm.trans (hb1.mpr q)) (by decide), rfl, rfl⟩⟩
set_option maxRecDepth 100000 in
theorem mx_unhear {l : Launch} {D : va_G} {ad : Nat → Nat} {dd : Nat → ClassId} {n : Nat} {S L R U : Nat → Nat} {h k : Nat} {st : Nat → Nat} {x : Int32} (hI : XI n S L R U h k) : GMi l D vwCl (xtys dd) yX0_unhear cX0_unhear 2 (some .int) 7 149 [.ref (ad 0), .int x] (XW ad dd n S L R U h k 0 st) (fun r v => ∃ h' k' st', v = (XW ad dd n S L R U h' k' 0 st') ∧ XI n S L R U h' k' ∧ ((¬ isT n x ∧ r = -1 ∧ h' = h) ∨ ∃ j, j < n ∧ x = nI j ∧ h' = setb h j false ∧ r = nI (cnt k' 28))) := by
  refine g_methI (own := RX0) yX0_unhear cX0_unhear 2 rfl (by decide) (Nat.le_of_ble_eq_true rfl) (fun J C hret => ?_)
  change J (XW ad dd n S L R U h k 0 st) 0 [(0, .ref (ad 0)), (1, .int x)] []
  obtain ⟨hO, hU, hh, hC⟩ := id hI
  have hn := hO.2.1
  have hk8 := p2_le hC.1 hn
  have hh8 := p2_le hh hn
  refine gi_aload_n C dX0_unhear_0 rfl 0 rfl ?_
  refine gi_iload_n C dX0_unhear_1 rfl 1 rfl ?_
  refine rx_isTerm C (by decide) hn (Nat.le_of_ble_eq_true rfl) dX0_unhear_2 (fun r v hv => ?_)
  obtain ⟨b1, rfl, hb1, rfl⟩ := hv
  refine gb_ifne (tgt := 10) C dX0_unhear_5 (by decide) (fun h1 => ?_) (fun h1 => ?_)
  · obtain ⟨j, hj, rfl⟩ := hb1.mp h1
    refine gi_aload_n C dX0_unhear_10 rfl 0 rfl ?_
    refine xg5 C dX0_unhear_11 ?_
    refine gi_iload_n C dX0_unhear_14 rfl 1 rfl ?_
    refine gn_bitU C dX0_unhear_15 dX0_unhear_16 dX0_unhear_17 (by omega) (by omega) ?_
    refine gb_ifeq (tgt := 47) C dX0_unhear_18 (by decide) (fun h2 => ?_) (fun h2 => ?_)
    · refine gi_aload_n C dX0_unhear_47 rfl 0 rfl ?_
      refine xg6 C dX0_unhear_48 ?_
      refine rx_size_s C (by decide) hk8 (Nat.le_of_ble_eq_true rfl) dX0_unhear_51 ?_
      exact hret _ _ _ _ dX0_unhear_54 rfl ⟨h, k, st, rfl, hI, Or.inr ⟨j, hj, rfl, (setb_fh h2).symm, rfl⟩⟩
    · refine gi_aload_n C dX0_unhear_21 rfl 0 rfl ?_
      refine gi_dup C dX0_unhear_22 rfl ?_
      refine xg5 C dX0_unhear_23 ?_
      refine gi_iconst (v := nI 1) C dX0_unhear_26 (by decide) ?_
      refine gi_iload_n C dX0_unhear_27 rfl 1 rfl ?_
      refine gn_ishl C dX0_unhear_28 (by omega) ?_
      refine gi_iconst (v := -1) C dX0_unhear_29 (by decide) ?_
      refine gi_ixor C dX0_unhear_30 rfl ?_
      refine gi_iand C dX0_unhear_31 rfl ?_
      refine gi_top (y := nI (setb h j false)) (nx_clr hh8 (by omega)) ?_
      have hs := setb_lt (v := false) hh hj
      refine xp5 C dX0_unhear_32 ?_
      refine gi_aload_n C dX0_unhear_35 rfl 0 rfl ?_
      refine gi_aload_n C dX0_unhear_36 rfl 0 rfl ?_
      refine gi_aload_n C dX0_unhear_37 rfl 0 rfl ?_
      refine xg5 C dX0_unhear_38 ?_
      refine rx_closureOf C (by decide) hO hU (p2_le hs hn) (Nat.le_of_ble_eq_true rfl) dX0_unhear_41 (fun r v hv => ?_)
      obtain ⟨k2, st2, rfl, rfl, hv⟩ := hv
      refine xp6 C dX0_unhear_44 ?_
      refine gi_aload_n C dX0_unhear_47 rfl 0 rfl ?_
      refine xg6 C dX0_unhear_48 ?_
      refine rx_size_s C (by decide) (p2_le hv.1 hn) (Nat.le_of_ble_eq_true rfl) dX0_unhear_51 ?_
      exact hret _ _ _ _ dX0_unhear_54 rfl ⟨_, k2, st2, rfl, ⟨hO, hU, hs, isC_drop hs hv⟩, Or.inr ⟨j, hj, rfl, rfl, rfl⟩⟩
  · refine gi_iconst (v := -1) C dX0_unhear_8 (by decide) ?_
    exact hret _ _ _ _ dX0_unhear_9 rfl ⟨h, k, st, rfl, hI, Or.inl ⟨fun q => absurd (h1.symm.trans (hb1.mpr q)) (by decide), rfl, rfl⟩⟩
set_option maxRecDepth 100000 in
theorem mx_knows {l : Launch} {D : va_G} {ad : Nat → Nat} {dd : Nat → ClassId} {n : Nat} {S L R U : Nat → Nat} {h k : Nat} {st : Nat → Nat} {x : Int32} (hI : XI n S L R U h k) : GMi l D vwCl (xtys dd) yX0_knows cX0_knows 2 (some .int) 1 21 [.ref (ad 0), .int x] (XW ad dd n S L R U h k 0 st) (fun r v => v = (XW ad dd n S L R U h k 0 st) ∧ ((¬ isT n x ∧ r = -1) ∨ ∃ j, j < n ∧ x = nI j ∧ r = b2i (k.testBit j))) := by
  refine g_methI (own := RX0) yX0_knows cX0_knows 2 rfl (by decide) (Nat.le_of_ble_eq_true rfl) (fun J C hret => ?_)
  change J (XW ad dd n S L R U h k 0 st) 0 [(0, .ref (ad 0)), (1, .int x)] []
  obtain ⟨hO, hU, hh, hC⟩ := id hI
  have hn := hO.2.1
  have hk8 := p2_le hC.1 hn
  have hh8 := p2_le hh hn
  refine gi_aload_n C dX0_knows_0 rfl 0 rfl ?_
  refine gi_iload_n C dX0_knows_1 rfl 1 rfl ?_
  refine rx_isTerm C (by decide) hn (Nat.le_of_ble_eq_true rfl) dX0_knows_2 (fun r v hv => ?_)
  obtain ⟨b1, rfl, hb1, rfl⟩ := hv
  refine gb_ifne (tgt := 10) C dX0_knows_5 (by decide) (fun h1 => ?_) (fun h1 => ?_)
  · obtain ⟨j, hj, rfl⟩ := hb1.mp h1
    refine gi_aload_n C dX0_knows_10 rfl 0 rfl ?_
    refine gi_iload_n C dX0_knows_11 rfl 1 rfl ?_
    refine rx_isKnown C (by decide) (by omega) hk8 (Nat.le_of_ble_eq_true rfl) dX0_knows_12 ?_
    refine gb_ifeq (tgt := 22) C dX0_knows_15 (by decide) (fun h2 => ?_) (fun h2 => ?_)
    · refine gi_iconst (v := nI 0) C dX0_knows_22 (by decide) ?_
      exact hret _ _ _ _ dX0_knows_23 rfl ⟨rfl, Or.inr ⟨j, hj, rfl, by rw [h2]; rfl⟩⟩
    · refine gi_iconst (v := nI 1) C dX0_knows_18 (by decide) ?_
      refine gi_goto (tgt := 23) C dX0_knows_19 (by decide) ?_
      exact hret _ _ _ _ dX0_knows_23 rfl ⟨rfl, Or.inr ⟨j, hj, rfl, by rw [h2]; rfl⟩⟩
  · refine gi_iconst (v := -1) C dX0_knows_8 (by decide) ?_
    exact hret _ _ _ _ dX0_knows_9 rfl ⟨rfl, Or.inl ⟨fun q => absurd (h1.symm.trans (hb1.mpr q)) (by decide), rfl⟩⟩
set_option maxRecDepth 100000 in
theorem mx_known {l : Launch} {D : va_G} {ad : Nat → Nat} {dd : Nat → ClassId} {n : Nat} {S L R U : Nat → Nat} {h k : Nat} {st : Nat → Nat} (hI : XI n S L R U h k) : GMi l D vwCl (xtys dd) yX0_known cX0_known 1 (some .int) 1 22 [.ref (ad 0)] (XW ad dd n S L R U h k 0 st) (fun r v => v = (XW ad dd n S L R U h k 0 st) ∧ r = nI (cnt k 28)) := by
  refine g_methI (own := RX0) yX0_known cX0_known 1 rfl (by decide) (Nat.le_of_ble_eq_true rfl) (fun J C hret => ?_)
  change J (XW ad dd n S L R U h k 0 st) 0 [(0, .ref (ad 0))] []
  refine gi_aload_n C dX0_known_0 rfl 0 rfl ?_
  refine xg6 C dX0_known_1 ?_
  refine rx_size_s C (by decide) (p2_le hI.2.2.2.1 hI.1.2.1) (Nat.le_of_ble_eq_true rfl) dX0_known_4 ?_
  exact hret _ _ _ _ dX0_known_7 rfl ⟨rfl, rfl⟩
set_option maxRecDepth 100000 in
theorem mx_would {l : Launch} {D : va_G} {ad : Nat → Nat} {dd : Nat → ClassId} {n : Nat} {S L R U : Nat → Nat} {h k : Nat} {st : Nat → Nat} {x y : Int32} (hI : XI n S L R U h k) : GMi l D vwCl (xtys dd) yX0_would cX0_would 3 (some .int) 7 152 [.ref (ad 0), .int x, .int y] (XW ad dd n S L R U h k 0 st) (fun r v => ∃ st', v = (XW ad dd n S L R U h k 0 st') ∧ ((¬ (isT n x ∧ isT n y) ∧ r = -1) ∨ ∃ i j k', i < n ∧ j < n ∧ x = nI i ∧ y = nI j ∧ isC n S L R (fun t => tb h t ∨ t = i) k' ∧ r = b2i (k'.testBit j))) := by
  refine g_methI (own := RX0) yX0_would cX0_would 3 rfl (by decide) (Nat.le_of_ble_eq_true rfl) (fun J C hret => ?_)
  change J (XW ad dd n S L R U h k 0 st) 0 [(0, .ref (ad 0)), (1, .int x), (2, .int y)] []
  obtain ⟨hO, hU, hh, hC⟩ := id hI
  have hn := hO.2.1
  have hk8 := p2_le hC.1 hn
  have hh8 := p2_le hh hn
  refine gi_aload_n C dX0_would_0 rfl 0 rfl ?_
  refine gi_iload_n C dX0_would_1 rfl 1 rfl ?_
  refine rx_isTerm C (by decide) hn (Nat.le_of_ble_eq_true rfl) dX0_would_2 (fun r v hv => ?_)
  obtain ⟨b1, rfl, hb1, rfl⟩ := hv
  refine gb_ifeq (tgt := 16) C dX0_would_5 (by decide) (fun h1 => ?_) (fun h1 => ?_)
  · refine gi_iconst (v := -1) C dX0_would_16 (by decide) ?_
    exact hret _ _ _ _ dX0_would_17 rfl ⟨st, rfl, Or.inl ⟨fun q => absurd (h1.symm.trans (hb1.mpr q.1)) (by decide), rfl⟩⟩
  · refine gi_aload_n C dX0_would_8 rfl 0 rfl ?_
    refine gi_iload_n C dX0_would_9 rfl 2 rfl ?_
    refine rx_isTerm C (by decide) hn (Nat.le_of_ble_eq_true rfl) dX0_would_10 (fun r v hv => ?_)
    obtain ⟨b2, rfl, hb2, rfl⟩ := hv
    refine gb_ifne (tgt := 18) C dX0_would_13 (by decide) (fun h2 => ?_) (fun h2 => ?_)
    · obtain ⟨i, hi, rfl⟩ := hb1.mp h1
      obtain ⟨j, hj, rfl⟩ := hb2.mp h2
      refine gi_aload_n C dX0_would_18 rfl 0 rfl ?_
      refine gi_iconst (v := nI 1) C dX0_would_19 (by decide) ?_
      refine gi_iload_n C dX0_would_20 rfl 1 rfl ?_
      refine gn_ishl C dX0_would_21 (by omega) ?_
      refine gi_iload_n C dX0_would_22 rfl 2 rfl ?_
      refine rx_reveals C (by decide) hO hU hC.1 hC.2.2.1 (p2_lt (by omega)) hj (Nat.le_of_ble_eq_true rfl) dX0_would_23 (fun r v hv => ?_)
      obtain ⟨k2, st2, rfl, rfl, hv⟩ := hv
      refine gb_ifeq (tgt := 33) C dX0_would_26 (by decide) (fun h3 => ?_) (fun h3 => ?_)
      · refine gi_iconst (v := nI 0) C dX0_would_33 (by decide) ?_
        exact hret _ _ _ _ dX0_would_34 rfl ⟨st2, rfl, Or.inr ⟨i, j, k2, hi, hj, rfl, rfl, isC_one hi hC hv, by rw [h3]; rfl⟩⟩
      · refine gi_iconst (v := nI 1) C dX0_would_29 (by decide) ?_
        refine gi_goto (tgt := 34) C dX0_would_30 (by decide) ?_
        exact hret _ _ _ _ dX0_would_34 rfl ⟨st2, rfl, Or.inr ⟨i, j, k2, hi, hj, rfl, rfl, isC_one hi hC hv, by rw [h3]; rfl⟩⟩
    · refine gi_iconst (v := -1) C dX0_would_16 (by decide) ?_
      exact hret _ _ _ _ dX0_would_17 rfl ⟨st, rfl, Or.inl ⟨fun q => absurd (h2.symm.trans (hb2.mpr q.2)) (by decide), rfl⟩⟩
end
section
/-! TermSecrets: leak, atomsFor, spare -/
set_option maxRecDepth 100000 in
theorem mx_leak {l : Launch} {D : va_G} {ad : Nat → Nat} {dd : Nat → ClassId} {n : Nat} {S L R U : Nat → Nat} {h k : Nat} {st : Nat → Nat} {x : Int32} (hI : XI n S L R U h k) : GMi l D vwCl (xtys dd) yX0_leak cX0_leak 3 (some .int) 7 152 [.ref (ad 0), .int x] (XW ad dd n S L R U h k 0 st) (fun r v => ∃ st', v = (XW ad dd n S L R U h k 0 st') ∧ ((¬ isT n x ∧ r = -1) ∨ ∃ g, g < n ∧ x = nI g ∧ lkR n S L R h g r)) := by
  refine g_methI (own := RX0) yX0_leak cX0_leak 3 rfl (by decide) (Nat.le_of_ble_eq_true rfl) (fun J C hret => ?_)
  change J (XW ad dd n S L R U h k 0 st) 0 [(0, .ref (ad 0)), (1, .int x)] []
  obtain ⟨hO, hU, hh, hC⟩ := id hI
  have hn := hO.2.1
  have hk8 := p2_le hC.1 hn
  have hh8 := p2_le hh hn
  refine gi_aload_n C dX0_leak_0 rfl 0 rfl ?_
  refine gi_iload_n C dX0_leak_1 rfl 1 rfl ?_
  refine rx_isTerm C (by decide) hn (Nat.le_of_ble_eq_true rfl) dX0_leak_2 (fun r v hv => ?_)
  obtain ⟨b1, rfl, hb1, rfl⟩ := hv
  refine gb_ifne (tgt := 10) C dX0_leak_5 (by decide) (fun h1 => ?_) (fun h1 => ?_)
  · obtain ⟨g, hg, rfl⟩ := hb1.mp h1
    refine gi_aload_n C dX0_leak_10 rfl 0 rfl ?_
    refine gi_iload_n C dX0_leak_11 rfl 1 rfl ?_
    refine rx_isKnown C (by decide) (by omega) hk8 (Nat.le_of_ble_eq_true rfl) dX0_leak_12 ?_
    refine gb_ifeq (tgt := 21) C dX0_leak_15 (by decide) (fun h2 => ?_) (fun h2 => ?_)
    · have hno : ¬ der n S L R (tb h) g := fun q => tb_f h2 ((isC_der hC g).mpr q)
      have loop : ∀ (d i : Nat) (st1 : Nat → Nat), i + d = g → (∀ u, u < i → ¬ der n S L R (fun t => tb h t ∨ t = u) g) → J (XW ad dd n S L R U h k 0 st1) 23 [(0, .ref (ad 0)), (1, .int (nI g)), (2, .int (nI i))] [] := by
        intro d
        induction d with
        | zero =>
          intro i st1 hi hu
          refine gi_iload_n C dX0_leak_23 rfl 2 rfl ?_
          refine gi_iload_n C dX0_leak_24 rfl 1 rfl ?_
          refine gn_icmp_ge (tgt := 55) C (by omega) (by omega) dX0_leak_25 (by decide) (fun h3 => ?_) (fun h3 => ?_)
          · have e1 : i = g := by omega
            subst e1
            refine gi_iload_n C dX0_leak_55 rfl 1 rfl ?_
            exact hret _ _ _ _ dX0_leak_56 rfl ⟨st1, rfl, Or.inr ⟨i, hg, rfl, Or.inr ⟨hno, i, Nat.le_refl i, rfl, der_self (Or.inr rfl), hu⟩⟩⟩
          · omega
        | succ d ih =>
          intro i st1 hi hu
          have next : ∀ st2 : Nat → Nat, ¬ der n S L R (fun t => tb h t ∨ t = i) g → J (XW ad dd n S L R U h k 0 st2) 49 [(0, .ref (ad 0)), (1, .int (nI g)), (2, .int (nI i))] [] := by
            intro st2 hni
            refine gn_iinc (lv' := [(2, _), (0, _), (1, _)]) C dX0_leak_49 2 rfl (by decide) rfl ?_
            refine gi_goto (tgt := 23) C dX0_leak_52 (by decide) ?_
            refine gi_sub (lv' := [(0, _), (1, _), (2, _)]) C [1, 2, 0] rfl ?_
            refine ih (i + 1) st2 (by omega) (fun u q => ?_)
            by_cases e : u = i
            · rw [e]; exact hni
            · exact hu u (by omega)
          refine gi_iload_n C dX0_leak_23 rfl 2 rfl ?_
          refine gi_iload_n C dX0_leak_24 rfl 1 rfl ?_
          refine gn_icmp_ge (tgt := 55) C (by omega) (by omega) dX0_leak_25 (by decide) (fun h3 => ?_) (fun h3 => ?_)
          · omega
          · refine gi_aload_n C dX0_leak_28 rfl 0 rfl ?_
            refine gi_iload_n C dX0_leak_29 rfl 2 rfl ?_
            refine rx_isKnown C (by decide) (by omega) hk8 (Nat.le_of_ble_eq_true rfl) dX0_leak_30 ?_
            refine gb_ifne (tgt := 49) C dX0_leak_33 (by decide) (fun h4 => ?_) (fun h4 => ?_)
            · exact next st1 (fun q => hno (lk_known hC h4 q))
            · refine gi_aload_n C dX0_leak_36 rfl 0 rfl ?_
              refine gi_iconst (v := nI 1) C dX0_leak_37 (by decide) ?_
              refine gi_iload_n C dX0_leak_38 rfl 2 rfl ?_
              refine gn_ishl C dX0_leak_39 (by omega) ?_
              refine gi_iload_n C dX0_leak_40 rfl 1 rfl ?_
              refine rx_reveals C (by decide) hO hU hC.1 hC.2.2.1 (p2_lt (by omega)) hg (Nat.le_of_ble_eq_true rfl) dX0_leak_41 (fun r v hv => ?_)
              obtain ⟨k2, st2, rfl, rfl, hv⟩ := hv
              have hv2 := isC_one (show i < n by omega) hC hv
              refine gb_ifeq (tgt := 49) C dX0_leak_44 (by decide) (fun h5 => ?_) (fun h5 => ?_)
              · exact next st2 (fun q => tb_f h5 ((isC_der hv2 g).mpr q))
              · refine gi_iload_n C dX0_leak_47 rfl 2 rfl ?_
                exact hret _ _ _ _ dX0_leak_48 rfl ⟨st2, rfl, Or.inr ⟨g, hg, rfl, Or.inr ⟨hno, i, by omega, rfl, (isC_der hv2 g).mp h5, hu⟩⟩⟩
      refine gi_iconst (v := nI 0) C dX0_leak_21 (by decide) ?_
      refine gi_istore_n (lv' := [(2, _), (0, _), (1, _)]) C dX0_leak_22 rfl (by decide) rfl ?_
      refine gi_sub (lv' := [(0, _), (1, _), (2, _)]) C [1, 2, 0] rfl ?_
      exact loop g 0 st (by omega) (fun u q => absurd q (by omega))
    · refine gi_bipush (v := -2) C dX0_leak_18 (by decide) ?_
      exact hret _ _ _ _ dX0_leak_20 rfl ⟨st, rfl, Or.inr ⟨g, hg, rfl, Or.inl ⟨(isC_der hC g).mp h2, rfl⟩⟩⟩
  · refine gi_iconst (v := -1) C dX0_leak_8 (by decide) ?_
    exact hret _ _ _ _ dX0_leak_9 rfl ⟨st, rfl, Or.inl ⟨fun q => absurd (h1.symm.trans (hb1.mpr q)) (by decide), rfl⟩⟩
set_option maxRecDepth 100000 in
theorem mx_atomsFor {l : Launch} {D : va_G} {ad : Nat → Nat} {dd : Nat → ClassId} {n : Nat} {S L R U : Nat → Nat} {h k : Nat} {st : Nat → Nat} {x : Int32} (hI : XI n S L R U h k) : GMi l D vwCl (xtys dd) yX0_atomsFor cX0_atomsFor 5 (some .int) 7 152 [.ref (ad 0), .int x] (XW ad dd n S L R U h k 0 st) (fun r v => ∃ st', v = (XW ad dd n S L R U h k 0 st') ∧ ((¬ isT n x ∧ r = -1) ∨ ∃ g, g < n ∧ x = nI g ∧ atR n S L R h g r)) := by
  refine g_methI (own := RX0) yX0_atomsFor cX0_atomsFor 5 rfl (by decide) (Nat.le_of_ble_eq_true rfl) (fun J C hret => ?_)
  change J (XW ad dd n S L R U h k 0 st) 0 [(0, .ref (ad 0)), (1, .int x)] []
  obtain ⟨hO, hU, hh, hC⟩ := id hI
  have hn := hO.2.1
  have hk8 := p2_le hC.1 hn
  have hh8 := p2_le hh hn
  refine gi_aload_n C dX0_atomsFor_0 rfl 0 rfl ?_
  refine gi_iload_n C dX0_atomsFor_1 rfl 1 rfl ?_
  refine rx_isTerm C (by decide) hn (Nat.le_of_ble_eq_true rfl) dX0_atomsFor_2 (fun r v hv => ?_)
  obtain ⟨b1, rfl, hb1, rfl⟩ := hv
  refine gb_ifne (tgt := 10) C dX0_atomsFor_5 (by decide) (fun h1 => ?_) (fun h1 => ?_)
  · obtain ⟨g, hg, rfl⟩ := hb1.mp h1
    have loop : ∀ (d i b : Nat) (st1 : Nat → Nat), i + d = 256 → b ≤ 8 → (b = 8 ∨ ∃ e, e < 256 ∧ cnt e 8 = b ∧ der n S L R (fun t => tb h t ∨ tb e t) g) → (∀ e, e < i → e &&& k = 0 → der n S L R (fun t => tb h t ∨ tb e t) g → b ≤ cnt e 8) → J (XW ad dd n S L R U h k 0 st1) 15 [(0, .ref (ad 0)), (1, .int (nI g)), (2, .int (nI b)), (3, .int (nI i))] [] := by
      intro d
      induction d with
      | zero =>
        intro i b st1 hi hb hx hu
        refine gi_iload_n C dX0_atomsFor_15 rfl 3 rfl ?_
        refine gi_sipush (v := nI 256) C dX0_atomsFor_16 (by decide) ?_
        refine gn_icmp_ge (tgt := 61) C (by omega) (by omega) dX0_atomsFor_19 (by decide) (fun h3 => ?_) (fun h3 => ?_)
        · refine gi_iload_n C dX0_atomsFor_61 rfl 2 rfl ?_
          exact hret _ _ _ _ dX0_atomsFor_62 rfl ⟨st1, rfl, Or.inr ⟨g, hg, rfl, b, rfl, hb, hx, fun e he hd => by obtain ⟨z1, z2, z3, z4⟩ := at_less hC he hd; exact Nat.le_trans (hu _ (by omega) z2 z4) z3⟩⟩
        · omega
      | succ d ih =>
        intro i b st1 hi hb hx hu
        have next : ∀ (b : Nat) (st1 : Nat → Nat), b ≤ 8 → (b = 8 ∨ ∃ e, e < 256 ∧ cnt e 8 = b ∧ der n S L R (fun t => tb h t ∨ tb e t) g) → (∀ e, e < i + 1 → e &&& k = 0 → der n S L R (fun t => tb h t ∨ tb e t) g → b ≤ cnt e 8) → J (XW ad dd n S L R U h k 0 st1) 55 [(0, .ref (ad 0)), (1, .int (nI g)), (2, .int (nI b)), (3, .int (nI i))] [] := by
          intro b st1 hb hx hu
          refine gn_iinc (lv' := [(3, _), (0, _), (1, _), (2, _)]) C dX0_atomsFor_55 3 rfl (by decide) rfl ?_
          refine gi_goto (tgt := 15) C dX0_atomsFor_58 (by decide) ?_
          refine gi_sub (lv' := [(0, _), (1, _), (2, _), (3, _)]) C [1, 2, 3, 0] rfl ?_
          exact ih (i + 1) b st1 (by omega) hb hx hu
        have hci : cnt i 28 = cnt i 8 := by
          have h8 : i < 2 ^ 8 := by have : (2 : Nat) ^ 8 = 256 := rfl; omega
          exact cnt_top h8 28 (by omega)
        have hc8 := cnt_le i 8
        have hik : i &&& k < 2 ^ 31 := Nat.lt_of_le_of_lt Nat.and_le_left (by omega)
        have stay : (i &&& k = 0 → der n S L R (fun t => tb h t ∨ tb i t) g → b ≤ cnt i 8) → ∀ e, e < i + 1 → e &&& k = 0 → der n S L R (fun t => tb h t ∨ tb e t) g → b ≤ cnt e 8 := by
          intro q e he
          by_cases ee : e = i
          · rw [ee]; exact q
          · exact hu e (by omega)
        refine gi_iload_n C dX0_atomsFor_15 rfl 3 rfl ?_
        refine gi_sipush (v := nI 256) C dX0_atomsFor_16 (by decide) ?_
        refine gn_icmp_ge (tgt := 61) C (by omega) (by omega) dX0_atomsFor_19 (by decide) (fun h3 => ?_) (fun h3 => ?_)
        · omega
        · refine gi_iload_n C dX0_atomsFor_22 rfl 3 rfl ?_
          refine rx_size_s C (by decide) (by omega) (Nat.le_of_ble_eq_true rfl) dX0_atomsFor_23 ?_
          refine gi_istore (lv' := [(4, _), (0, _), (1, _), (2, _), (3, _)]) C dX0_atomsFor_26 (by decide) rfl ?_
          refine gi_iload C dX0_atomsFor_28 0 rfl ?_
          refine gi_iload_n C dX0_atomsFor_30 rfl 3 rfl ?_
          refine gn_icmp_ge (tgt := 55) C (by omega) (by omega) dX0_atomsFor_31 (by decide) (fun h4 => ?_) (fun h4 => ?_)
          · refine gi_sub (lv' := [(0, _), (1, _), (2, _), (3, _)]) C [1, 2, 3, 4] rfl ?_
            exact next b st1 hb hx (stay (fun _ _ => by omega))
          · refine gi_iload_n C dX0_atomsFor_34 rfl 4 rfl ?_
            refine gi_aload_n C dX0_atomsFor_35 rfl 1 rfl ?_
            refine xg6 C dX0_atomsFor_36 ?_
            refine gn_iand C dX0_atomsFor_39 ?_
            refine gn_ifne (tgt := 55) C hik dX0_atomsFor_40 (by decide) (fun h5 => ?_) (fun h5 => ?_)
            · refine gi_sub (lv' := [(0, _), (1, _), (2, _), (3, _)]) C [1, 2, 3, 4] rfl ?_
              exact next b st1 hb hx (stay (fun q _ => absurd q h5))
            · refine gi_aload_n C dX0_atomsFor_43 rfl 1 rfl ?_
              refine gi_iload_n C dX0_atomsFor_44 rfl 4 rfl ?_
              refine gi_iload_n C dX0_atomsFor_45 rfl 2 rfl ?_
              refine rx_reveals C (by decide) hO hU hC.1 hC.2.2.1 (by omega) hg (Nat.le_of_ble_eq_true rfl) dX0_atomsFor_46 (fun r v hv => ?_)
              obtain ⟨k2, st2, rfl, rfl, hv⟩ := hv
              have hv2 := isC_set hO.1 (show i < 256 by omega) hC hv
              refine gb_ifeq (tgt := 55) C dX0_atomsFor_49 (by decide) (fun h6 => ?_) (fun h6 => ?_)
              · refine gi_sub (lv' := [(0, _), (1, _), (2, _), (3, _)]) C [1, 2, 3, 4] rfl ?_
                exact next b st2 hb hx (stay (fun _ q => absurd ((isC_der hv2 g).mpr q) (tb_f h6)))
              · refine gi_iload C dX0_atomsFor_52 0 rfl ?_
                refine gi_istore_n (lv' := [(2, _), (4, _), (0, _), (1, _), (3, _)]) C dX0_atomsFor_54 rfl (by decide) rfl ?_
                refine gi_sub (lv' := [(0, _), (1, _), (2, _), (3, _)]) C [2, 3, 0, 4] rfl ?_
                refine next (cnt i 28) st2 (by omega) (Or.inr ⟨i, by omega, hci.symm, (isC_der hv2 g).mp h6⟩) (fun e he q1 q2 => ?_)
                by_cases ee : e = i
                · rw [ee]; omega
                · have := hu e (by omega) q1 q2; omega
    refine gi_bipush (v := nI 8) C dX0_atomsFor_10 (by decide) ?_
    refine gi_istore_n (lv' := [(2, _), (0, _), (1, _)]) C dX0_atomsFor_12 rfl (by decide) rfl ?_
    refine gi_iconst (v := nI 0) C dX0_atomsFor_13 (by decide) ?_
    refine gi_istore_n (lv' := [(3, _), (2, _), (0, _), (1, _)]) C dX0_atomsFor_14 rfl (by decide) rfl ?_
    refine gi_sub (lv' := [(0, _), (1, _), (2, _), (3, _)]) C [2, 3, 1, 0] rfl ?_
    exact loop 256 0 8 st rfl (Nat.le_refl 8) (Or.inl rfl) (fun e q => absurd q (by omega))
  · refine gi_iconst (v := -1) C dX0_atomsFor_8 (by decide) ?_
    exact hret _ _ _ _ dX0_atomsFor_9 rfl ⟨st, rfl, Or.inl ⟨fun q => absurd (h1.symm.trans (hb1.mpr q)) (by decide), rfl⟩⟩
set_option maxRecDepth 100000 in
theorem mx_spare {l : Launch} {D : va_G} {ad : Nat → Nat} {dd : Nat → ClassId} {n : Nat} {S L R U : Nat → Nat} {h k : Nat} {st : Nat → Nat} (hI : XI n S L R U h k) : GMi l D vwCl (xtys dd) yX0_spare cX0_spare 5 (some .int) 7 149 [.ref (ad 0)] (XW ad dd n S L R U h k 0 st) (fun r v => ∃ st', v = (XW ad dd n S L R U h k 0 st') ∧ r = nI (cntf (spf n S L R h) n)) := by
  refine g_methI (own := RX0) yX0_spare cX0_spare 5 rfl (by decide) (Nat.le_of_ble_eq_true rfl) (fun J C hret => ?_)
  change J (XW ad dd n S L R U h k 0 st) 0 [(0, .ref (ad 0))] []
  obtain ⟨hO, hU, hh, hC⟩ := id hI
  have hn := hO.2.1
  have hk8 := p2_le hC.1 hn
  have hh8 := p2_le hh hn
  have loop : ∀ (d i k1 : Nat) (st1 : Nat → Nat), i + d = n → J (XW ad dd n S L R U h k1 0 st1) 9 [(0, .ref (ad 0)), (1, .int (nI k)), (2, .int (nI (cntf (spf n S L R h) i))), (3, .int (nI i))] [] := by
    intro d
    induction d with
    | zero =>
      intro i k1 st1 hi
      refine gi_iload_n C dX0_spare_9 rfl 3 rfl ?_
      refine gi_aload_n C dX0_spare_10 rfl 0 rfl ?_
      refine xg0 C dX0_spare_11 ?_
      refine gn_icmp_ge (tgt := 64) C (by omega) (by omega) dX0_spare_14 (by decide) (fun h3 => ?_) (fun h3 => ?_)
      · have e1 : i = n := by omega
        subst e1
        refine gi_aload_n C dX0_spare_64 rfl 0 rfl ?_
        refine gi_iload_n C dX0_spare_65 rfl 1 rfl ?_
        refine xp6 C dX0_spare_66 ?_
        refine gi_iload_n C dX0_spare_69 rfl 2 rfl ?_
        exact hret _ _ _ _ dX0_spare_70 rfl ⟨st1, rfl, rfl⟩
      · omega
    | succ d ih =>
      intro i k1 st1 hi
      have step : ∀ v : Bool, spf n S L R h i = v → cntf (spf n S L R h) (i + 1) = cntf (spf n S L R h) i + v.toNat := fun v q => by show cntf _ i + (spf n S L R h i).toNat = _; rw [q]
      refine gi_iload_n C dX0_spare_9 rfl 3 rfl ?_
      refine gi_aload_n C dX0_spare_10 rfl 0 rfl ?_
      refine xg0 C dX0_spare_11 ?_
      refine gn_icmp_ge (tgt := 64) C (by omega) (by omega) dX0_spare_14 (by decide) (fun h3 => ?_) (fun h3 => ?_)
      · omega
      · refine gi_aload_n C dX0_spare_17 rfl 0 rfl ?_
        refine xg5 C dX0_spare_18 ?_
        refine gi_iload_n C dX0_spare_21 rfl 3 rfl ?_
        refine gn_bitU C dX0_spare_22 dX0_spare_23 dX0_spare_24 (by omega) (by omega) ?_
        refine gb_ifeq (tgt := 58) C dX0_spare_25 (by decide) (fun h4 => ?_) (fun h4 => ?_)
        · refine gn_iinc (lv' := [(3, _), (0, _), (1, _), (2, _)]) C dX0_spare_58 3 rfl (by decide) rfl ?_
          refine gi_goto (tgt := 9) C dX0_spare_61 (by decide) ?_
          refine gi_sub (lv' := [(0, _), (1, _), (2, _), (3, _)]) C [1, 2, 3, 0] rfl ?_
          have e1 := step false (by cases hs : spf n S L R h i with | false => rfl | true => exact absurd ((spf_iff n S L R h i).mp hs).1 (tb_f h4))
          have e2 := ih (i + 1) k1 st1 (by omega)
          rw [e1] at e2
          exact e2
        · refine gi_aload_n C dX0_spare_28 rfl 0 rfl ?_
          refine gi_aload_n C dX0_spare_29 rfl 0 rfl ?_
          refine xg5 C dX0_spare_30 ?_
          refine gi_iconst (v := nI 1) C dX0_spare_33 (by decide) ?_
          refine gi_iload_n C dX0_spare_34 rfl 3 rfl ?_
          refine gn_ishl C dX0_spare_35 (by omega) ?_
          refine gi_iconst (v := -1) C dX0_spare_36 (by decide) ?_
          refine gi_ixor C dX0_spare_37 rfl ?_
          refine gi_iand C dX0_spare_38 rfl ?_
          refine gi_top (y := nI (setb h i false)) (nx_clr hh8 (by omega)) ?_
          have hs := setb_lt (v := false) hh (show i < n by omega)
          refine rx_closureOf C (by decide) hO hU (p2_le hs hn) (Nat.le_of_ble_eq_true rfl) dX0_spare_39 (fun r v hv => ?_)
          obtain ⟨k2, st2, rfl, rfl, hv⟩ := hv
          have hv2 : isC n S L R (fun t => t ≠ i ∧ tb h t) k2 := isC_congr (isC_drop hs hv) (fun t => setb_f)
          have hiff := sp_eq hC hv2 h4
          have hk2 := p2_le hv.1 hn
          refine gi_istore (lv' := [(4, _), (0, _), (1, _), (2, _), (3, _)]) C dX0_spare_42 (by decide) rfl ?_
          refine gi_iload_n C dX0_spare_44 rfl 3 rfl ?_
          refine gi_iload C dX0_spare_45 0 rfl ?_
          refine gi_iload_n C dX0_spare_47 rfl 2 rfl ?_
          refine gn_icmp_ne (tgt := 55) C (by omega) (by omega) dX0_spare_48 (by decide) (fun h5 => ?_) (fun h5 => ?_)
          · refine gi_iconst (v := nI 0) C dX0_spare_55 (by decide) ?_
            refine gn_iadd C dX0_spare_56 ?_
            refine gi_istore_n (lv' := [(2, _), (4, _), (0, _), (1, _), (3, _)]) C dX0_spare_57 rfl (by decide) rfl ?_
            refine gn_iinc (lv' := [(3, _), (2, _), (4, _), (0, _), (1, _)]) C dX0_spare_58 4 rfl (by decide) rfl ?_
            refine gi_goto (tgt := 9) C dX0_spare_61 (by decide) ?_
            refine gi_sub (lv' := [(0, _), (1, _), (2, _), (3, _)]) C [3, 4, 1, 0] rfl ?_
            have e1 := step false (by cases hs : spf n S L R h i with | false => rfl | true => exact absurd (hiff.mpr ((spf_iff n S L R h i).mp hs).2) h5)
            have e2 := ih (i + 1) k2 st2 (by omega)
            rw [e1] at e2
            exact e2
          · refine gi_iconst (v := nI 1) C dX0_spare_51 (by decide) ?_
            refine gi_goto (tgt := 56) C dX0_spare_52 (by decide) ?_
            refine gn_iadd C dX0_spare_56 ?_
            refine gi_istore_n (lv' := [(2, _), (4, _), (0, _), (1, _), (3, _)]) C dX0_spare_57 rfl (by decide) rfl ?_
            refine gn_iinc (lv' := [(3, _), (2, _), (4, _), (0, _), (1, _)]) C dX0_spare_58 4 rfl (by decide) rfl ?_
            refine gi_goto (tgt := 9) C dX0_spare_61 (by decide) ?_
            refine gi_sub (lv' := [(0, _), (1, _), (2, _), (3, _)]) C [3, 4, 1, 0] rfl ?_
            have e1 := step true ((spf_iff n S L R h i).mpr ⟨h4, hiff.mp h5⟩)
            have e2 := ih (i + 1) k2 st2 (by omega)
            rw [e1] at e2
            exact e2
  refine gi_aload_n C dX0_spare_0 rfl 0 rfl ?_
  refine xg6 C dX0_spare_1 ?_
  refine gi_istore_n (lv' := [(1, _), (0, _)]) C dX0_spare_4 rfl (by decide) rfl ?_
  refine gi_iconst (v := nI 0) C dX0_spare_5 (by decide) ?_
  refine gi_istore_n (lv' := [(2, _), (1, _), (0, _)]) C dX0_spare_6 rfl (by decide) rfl ?_
  refine gi_iconst (v := nI 0) C dX0_spare_7 (by decide) ?_
  refine gi_istore_n (lv' := [(3, _), (2, _), (1, _), (0, _)]) C dX0_spare_8 rfl (by decide) rfl ?_
  refine gi_sub (lv' := [(0, _), (1, _), (2, _), (3, _)]) C [3, 2, 1, 0] rfl ?_
  exact loop n 0 k st (by omega)
end
section
/-! TermSecretsModel: its leaves -/
theorem nI_m1 : ∀ i, i < 28 → ¬ nI i = -1 := by decide +kernel
theorem isT_lt {n : Nat} {x : Int32} (hn : n ≤ 28) (h1 : ¬ x < 0) (h2 : x < nI n) : isT n x := isT_in hn h1 (Int32.not_le.mpr h2)
theorem isT_nlt {n : Nat} {x : Int32} (hn : n ≤ 28) (h2 : ¬ x < nI n) : ¬ isT n x := isT_ge hn (Int32.not_lt.mp h2)
set_option maxRecDepth 100000 in
theorem mm_bad {l : Launch} {D : va_G} {ad : Nat → Nat} {dd : Nat → ClassId} {n : Nat} {S L R : Nat → Nat} {h k : Nat} {ch : Bool} {x : Int32} (hn : n ≤ 28) : GMi l D vwCl (mtys dd) yX1_bad cX1_bad 2 (some .boolean) 0 0 [.ref (ad 0), .int x] (MW ad dd n S L R h k ch) (fun r u => ∃ b : Bool, r = b2i b ∧ (isT n x ↔ b = false) ∧ u = (MW ad dd n S L R h k ch)) := by
  refine g_methI (own := RX1) yX1_bad cX1_bad 2 rfl (by decide) (Nat.le_of_ble_eq_true rfl) (fun J C hret => ?_)
  change J (MW ad dd n S L R h k ch) 0 [(0, .ref (ad 0)), (1, .int x)] []
  refine gi_iload_n C dX1_bad_0 rfl 1 rfl ?_
  refine gi_if_lt (tgt := 12) C dX1_bad_1 (by decide) (fun h1 => ?_) (fun h1 => ?_)
  · refine gi_iconst (v := nI 1) C dX1_bad_12 (by decide) ?_
    refine gi_goto (tgt := 17) C dX1_bad_13 (by decide) ?_
    exact hret _ _ _ _ dX1_bad_17 (b2i_nar true) ⟨true, rfl, ⟨fun q => absurd q (isT_neg hn h1), fun q => (by cases q)⟩, rfl⟩
  · refine gi_iload_n C dX1_bad_4 rfl 1 rfl ?_
    refine gi_aload_n C dX1_bad_5 rfl 0 rfl ?_
    refine mg0 C dX1_bad_6 ?_
    refine gi_icmp_lt (tgt := 16) C dX1_bad_9 (by decide) (fun h2 => ?_) (fun h2 => ?_)
    · refine gi_iconst (v := nI 0) C dX1_bad_16 (by decide) ?_
      exact hret _ _ _ _ dX1_bad_17 (b2i_nar false) ⟨false, rfl, ⟨fun _ => rfl, fun _ => isT_lt hn h1 h2⟩, rfl⟩
    · refine gi_iconst (v := nI 1) C dX1_bad_12 (by decide) ?_
      refine gi_goto (tgt := 17) C dX1_bad_13 (by decide) ?_
      exact hret _ _ _ _ dX1_bad_17 (b2i_nar true) ⟨true, rfl, ⟨fun q => absurd q (isT_nlt hn h2), fun q => (by cases q)⟩, rfl⟩
theorem rm_bad {J : gJ} {cc : ByteArray} {nL fr lo pc : Nat} {lv : List (Nat × Value)} {rest : List Value} {l : Launch} {D : va_G} {ad : Nat → Nat} {dd : Nat → ClassId} {n : Nat} {S L R : Nat → Nat} {h k : Nat} {ch : Bool} (C : GC J l D vwCl (mtys dd) cc nL RX1 fr lo) (hR : 0 + 1 ≤ fr ∧ 8 + (2 + 11) + 0 ≤ lo) {x : Int32} (hn : n ≤ 28) (hcat : (rest.map fun v => v.category).sum ≤ 8) (hdg : decode cc pc = .ok (.invokevirtual 30, 3)) (kk : ∀ (rr : Int32) (uu : va_W), (fun r u => ∃ b : Bool, r = b2i b ∧ (isT n x ↔ b = false) ∧ u = (MW ad dd n S L R h k ch)) rr uu → J uu (pc + 3) lv (.int rr :: rest)) : J (MW ad dd n S L R h k ch) pc lv (.int x :: .ref (ad 0) :: rest) :=
  gi_calli (n := 1) C (mm_bad hn) (lw_V q176 q178 qs11 q18 q179) (by decide +kernel) hR 0 rfl rfl rfl rfl hcat hdg kk
set_option maxRecDepth 100000 in
theorem mm_learn {l : Launch} {D : va_G} {ad : Nat → Nat} {dd : Nat → ClassId} {n : Nat} {S L R : Nat → Nat} {h k : Nat} {ch : Bool} {t : Nat} (ht : t < 28) : GMv l D vwCl (mtys dd) yX1_learn cX1_learn 2 0 0 [.ref (ad 0), .int (nI t)] (MW ad dd n S L R h k ch) (fun u => u = (MW ad dd n S L R h (setb k t true) (ch || !k.testBit t))) := by
  refine g_methV (own := RX1) yX1_learn cX1_learn 2 rfl (by decide) (Nat.le_of_ble_eq_true rfl) (fun J C hret => ?_)
  change J (MW ad dd n S L R h k ch) 0 [(0, .ref (ad 0)), (1, .int (nI t))] []
  refine gi_aload_n C dX1_learn_0 rfl 0 rfl ?_
  refine mg5 C dX1_learn_1 ?_
  refine gi_iload_n C dX1_learn_4 rfl 1 rfl ?_
  refine ma5 C dX1_learn_5 (by omega) ?_
  refine gb_ifne (tgt := 14) C dX1_learn_6 (by decide) (fun hb => ?_) (fun hb => ?_)
  · refine gi_aload_n C dX1_learn_14 rfl 0 rfl ?_
    refine mg5 C dX1_learn_15 ?_
    refine gi_iload_n C dX1_learn_18 rfl 1 rfl ?_
    refine gi_iconst (v := b2i true) C dX1_learn_19 (by decide) ?_
    refine ms5 C dX1_learn_20 (by omega) ?_
    exact hret _ _ _ dX1_learn_21 (by rw [hb]; cases ch <;> rfl)
  · refine gi_aload_n C dX1_learn_9 rfl 0 rfl ?_
    refine gi_iconst (v := b2i true) C dX1_learn_10 (by decide) ?_
    refine mp6 C dX1_learn_11 ?_
    refine gi_aload_n C dX1_learn_14 rfl 0 rfl ?_
    refine mg5 C dX1_learn_15 ?_
    refine gi_iload_n C dX1_learn_18 rfl 1 rfl ?_
    refine gi_iconst (v := b2i true) C dX1_learn_19 (by decide) ?_
    refine ms5 C dX1_learn_20 (by omega) ?_
    exact hret _ _ _ dX1_learn_21 (by rw [hb]; cases ch <;> rfl)
theorem rm_learn {J : gJ} {cc : ByteArray} {nL fr lo pc : Nat} {lv : List (Nat × Value)} {rest : List Value} {l : Launch} {D : va_G} {ad : Nat → Nat} {dd : Nat → ClassId} {n : Nat} {S L R : Nat → Nat} {h k : Nat} {ch : Bool} (C : GC J l D vwCl (mtys dd) cc nL RX1 fr lo) (hR : 0 + 1 ≤ fr ∧ 8 + (2 + 11) + 0 ≤ lo) {t : Nat} (ht : t < 28) (hcat : (rest.map fun v => v.category).sum ≤ 8) (hdg : decode cc pc = .ok (.invokevirtual 42, 3)) (kk : J (MW ad dd n S L R h (setb k t true) (ch || !k.testBit t)) (pc + 3) lv rest) : J (MW ad dd n S L R h k ch) pc lv (.int (nI t) :: .ref (ad 0) :: rest) :=
  gi_callv (n := 1) C (mm_learn ht) (lw_V q200 q202 qs14 q18 q203) (by decide +kernel) hR 0 rfl rfl rfl rfl hcat hdg (fun u hp => by subst hp; exact kk)
set_option maxRecDepth 100000 in
theorem mm_apply {l : Launch} {D : va_G} {ad : Nat → Nat} {dd : Nat → ClassId} {n : Nat} {S L R : Nat → Nat} {h k : Nat} {ch : Bool} {t : Nat} (hO : tOK n S L R) (ht : t < n) (hk : k < 2 ^ n) : GMv l D vwCl (mtys dd) yX1_apply cX1_apply 4 1 21 [.ref (ad 0), .int (nI t)] (MW ad dd n S L R h k ch) (fun v => ∃ k' ch', v = (MW ad dd n S L R h k' ch') ∧ lr n S L R k ch k' ch' ∧ (8 ≤ t → cR S L R k k' t)) := by
  refine g_methV (own := RX1) yX1_apply cX1_apply 4 rfl (by decide) (Nat.le_of_ble_eq_true rfl) (fun J C hret => ?_)
  change J (MW ad dd n S L R h k ch) 0 [(0, .ref (ad 0)), (1, .int (nI t))] []
  have hn := hO.2.1
  have h8t : S t ≠ 0 → 8 ≤ t := fun q => by
    rcases Nat.lt_or_ge t 8 with z | z
    · exact absurd (hO.2.2.1 t z) q
    · exact z
  have hS : S t < 3 := by
    rcases Nat.lt_or_ge t 8 with q | q
    · rw [hO.2.2.1 t q]; decide
    · rcases (hO.2.2.2 t q ht).1 with z | z <;> omega
  have at76 : ∀ (k1 : Nat) (ch1 : Bool), lr n S L R k ch k1 ch1 → (S t = 1 → tb k t → tb k1 (L t) ∧ tb k1 (R t)) → (S t = 2 → tb k t → tb k (L t) → tb k1 (R t)) → J (MW ad dd n S L R h k1 ch1) 76 [(0, .ref (ad 0)), (1, .int (nI t)), (2, .int (nI (L t))), (3, .int (nI (R t)))] [] := by
    intro k1 ch1 hl c1 c2
    refine gi_aload_n C dX1_apply_76 rfl 0 rfl ?_
    refine mg1 C dX1_apply_77 ?_
    refine gi_iload_n C dX1_apply_80 rfl 1 rfl ?_
    refine ma1 C dX1_apply_81 (by omega) ?_
    refine gn_ifle (tgt := 108) C (by omega) dX1_apply_82 (by decide) (fun h1 => ?_) (fun h1 => ?_)
    · exact hret _ _ _ dX1_apply_108 ⟨k1, ch1, rfl, hl, fun q => absurd (hO.2.2.2 t q ht).1 (by omega)⟩
    · have h8 := h8t (by omega)
      obtain ⟨-, hL, hR⟩ := hO.2.2.2 t h8 ht
      refine gi_aload_n C dX1_apply_85 rfl 0 rfl ?_
      refine mg5 C dX1_apply_86 ?_
      refine gi_iload_n C dX1_apply_89 rfl 2 rfl ?_
      refine ma5 C dX1_apply_90 (by omega) ?_
      refine gb_ifeq (tgt := 108) C dX1_apply_91 (by decide) (fun h2 => ?_) (fun h2 => ?_)
      · exact hret _ _ _ dX1_apply_108 ⟨k1, ch1, rfl, hl, fun _ => ⟨c1, c2, fun q => absurd (hl.1 _ q) (tb_f h2)⟩⟩
      · refine gi_aload_n C dX1_apply_94 rfl 0 rfl ?_
        refine mg5 C dX1_apply_95 ?_
        refine gi_iload_n C dX1_apply_98 rfl 3 rfl ?_
        refine ma5 C dX1_apply_99 (by omega) ?_
        refine gb_ifeq (tgt := 108) C dX1_apply_100 (by decide) (fun h3 => ?_) (fun h3 => ?_)
        · exact hret _ _ _ dX1_apply_108 ⟨k1, ch1, rfl, hl, fun _ => ⟨c1, c2, fun _ q => absurd (hl.1 _ q) (tb_f h3)⟩⟩
        · refine gi_aload_n C dX1_apply_103 rfl 0 rfl ?_
          refine gi_iload_n C dX1_apply_104 rfl 1 rfl ?_
          refine rm_learn C (by decide) (by omega) (Nat.le_of_ble_eq_true rfl) dX1_apply_105 ?_
          exact hret _ _ _ dX1_apply_108 ⟨_, _, rfl, lr_tr hl (lr_learn ch1 hn hl.2.1 ht (fun c hc hs => (hc t h8 ht).2.2 (hs _ h2) (hs _ h3))), fun _ => ⟨fun q1 q2 => ⟨setb_sub _ _ _ (c1 q1 q2).1, setb_sub _ _ _ (c1 q1 q2).2⟩, fun q1 q2 q3 => setb_sub _ _ _ (c2 q1 q2 q3), fun _ _ => setb_self _ _⟩⟩
  have at43 : ∀ (k1 : Nat) (ch1 : Bool), lr n S L R k ch k1 ch1 → (S t = 1 → tb k t → tb k1 (L t) ∧ tb k1 (R t)) → J (MW ad dd n S L R h k1 ch1) 43 [(0, .ref (ad 0)), (1, .int (nI t)), (2, .int (nI (L t))), (3, .int (nI (R t)))] [] := by
    intro k1 ch1 hl c1
    refine gi_aload_n C dX1_apply_43 rfl 0 rfl ?_
    refine mg1 C dX1_apply_44 ?_
    refine gi_iload_n C dX1_apply_47 rfl 1 rfl ?_
    refine ma1 C dX1_apply_48 (by omega) ?_
    refine gi_iconst (v := nI 2) C dX1_apply_49 (by decide) ?_
    refine gn_icmp_ne (tgt := 76) C (by omega) (by omega) dX1_apply_50 (by decide) (fun h1 => ?_) (fun h1 => ?_)
    · exact at76 k1 ch1 hl c1 (fun q => absurd q h1)
    · have h8 := h8t (by omega)
      obtain ⟨-, hL, hR⟩ := hO.2.2.2 t h8 ht
      refine gi_aload_n C dX1_apply_53 rfl 0 rfl ?_
      refine mg5 C dX1_apply_54 ?_
      refine gi_iload_n C dX1_apply_57 rfl 1 rfl ?_
      refine ma5 C dX1_apply_58 (by omega) ?_
      refine gb_ifeq (tgt := 76) C dX1_apply_59 (by decide) (fun h2 => ?_) (fun h2 => ?_)
      · exact at76 k1 ch1 hl c1 (fun _ q => absurd (hl.1 _ q) (tb_f h2))
      · refine gi_aload_n C dX1_apply_62 rfl 0 rfl ?_
        refine mg5 C dX1_apply_63 ?_
        refine gi_iload_n C dX1_apply_66 rfl 2 rfl ?_
        refine ma5 C dX1_apply_67 (by omega) ?_
        refine gb_ifeq (tgt := 76) C dX1_apply_68 (by decide) (fun h3 => ?_) (fun h3 => ?_)
        · exact at76 k1 ch1 hl c1 (fun _ _ q => absurd (hl.1 _ q) (tb_f h3))
        · refine gi_aload_n C dX1_apply_71 rfl 0 rfl ?_
          refine gi_iload_n C dX1_apply_72 rfl 3 rfl ?_
          refine rm_learn C (by decide) (by omega) (Nat.le_of_ble_eq_true rfl) dX1_apply_73 ?_
          exact at76 _ _ (lr_tr hl (lr_learn ch1 hn hl.2.1 hR (fun c hc hs => (hc t h8 ht).2.1 h1 (hs _ h2) (hs _ h3)))) (fun q => absurd q (by omega)) (fun _ _ _ => setb_self _ _)
  refine gi_aload_n C dX1_apply_0 rfl 0 rfl ?_
  refine mg2 C dX1_apply_1 ?_
  refine gi_iload_n C dX1_apply_4 rfl 1 rfl ?_
  refine ma2 C dX1_apply_5 (by omega) ?_
  refine gi_istore_n (lv' := [(2, _), (0, _), (1, _)]) C dX1_apply_6 rfl (by decide) rfl ?_
  refine gi_aload_n C dX1_apply_7 rfl 1 rfl ?_
  refine mg3 C dX1_apply_8 ?_
  refine gi_iload_n C dX1_apply_11 rfl 2 rfl ?_
  refine ma3 C dX1_apply_12 (by omega) ?_
  refine gi_istore_n (lv' := [(3, _), (2, _), (0, _), (1, _)]) C dX1_apply_13 rfl (by decide) rfl ?_
  refine gi_sub (lv' := [(0, _), (1, _), (2, _), (3, _)]) C [2, 3, 1, 0] rfl ?_
  refine gi_aload_n C dX1_apply_14 rfl 0 rfl ?_
  refine mg1 C dX1_apply_15 ?_
  refine gi_iload_n C dX1_apply_18 rfl 1 rfl ?_
  refine ma1 C dX1_apply_19 (by omega) ?_
  refine gi_iconst (v := nI 1) C dX1_apply_20 (by decide) ?_
  refine gn_icmp_ne (tgt := 43) C (by omega) (by omega) dX1_apply_21 (by decide) (fun h1 => ?_) (fun h1 => ?_)
  · exact at43 k ch (lr_rf ch hk) (fun q => absurd q h1)
  · have h8 := h8t (by omega)
    obtain ⟨-, hL, hR⟩ := hO.2.2.2 t h8 ht
    refine gi_aload_n C dX1_apply_24 rfl 0 rfl ?_
    refine mg5 C dX1_apply_25 ?_
    refine gi_iload_n C dX1_apply_28 rfl 1 rfl ?_
    refine ma5 C dX1_apply_29 (by omega) ?_
    refine gb_ifeq (tgt := 43) C dX1_apply_30 (by decide) (fun h2 => ?_) (fun h2 => ?_)
    · exact at43 k ch (lr_rf ch hk) (fun _ q => absurd q (tb_f h2))
    · refine gi_aload_n C dX1_apply_33 rfl 0 rfl ?_
      refine gi_iload_n C dX1_apply_34 rfl 2 rfl ?_
      refine rm_learn C (by decide) (by omega) (Nat.le_of_ble_eq_true rfl) dX1_apply_35 ?_
      have l1 := lr_learn (S := S) (L := L) (R := R) ch hn hk hL (fun c hc hs => ((hc t h8 ht).1 h1 (hs _ h2)).1)
      refine gi_aload_n C dX1_apply_38 rfl 0 rfl ?_
      refine gi_iload_n C dX1_apply_39 rfl 3 rfl ?_
      refine rm_learn C (by decide) (by omega) (Nat.le_of_ble_eq_true rfl) dX1_apply_40 ?_
      have l2 := lr_learn (S := S) (L := L) (R := R) (ch || !k.testBit (L t)) hn l1.2.1 hR (fun c hc hs => ((hc t h8 ht).1 h1 (hs _ (setb_sub _ _ _ h2))).2)
      exact at43 _ _ (lr_tr l1 l2) (fun _ _ => ⟨l2.1 _ (setb_self _ _), setb_self _ _⟩)
theorem rm_apply {J : gJ} {cc : ByteArray} {nL fr lo pc : Nat} {lv : List (Nat × Value)} {rest : List Value} {l : Launch} {D : va_G} {ad : Nat → Nat} {dd : Nat → ClassId} {n : Nat} {S L R : Nat → Nat} {h k : Nat} {ch : Bool} (C : GC J l D vwCl (mtys dd) cc nL RX1 fr lo) (hR : 1 + 1 ≤ fr ∧ 8 + (4 + 11) + 21 ≤ lo) {t : Nat} (hO : tOK n S L R) (ht : t < n) (hk : k < 2 ^ n) (hcat : (rest.map fun v => v.category).sum ≤ 8) (hdg : decode cc pc = .ok (.invokevirtual 46, 3)) (kk : ∀ uu : va_W, (fun v => ∃ k' ch', v = (MW ad dd n S L R h k' ch') ∧ lr n S L R k ch k' ch' ∧ (8 ≤ t → cR S L R k k' t)) uu → J uu (pc + 3) lv rest) : J (MW ad dd n S L R h k ch) pc lv (.int (nI t) :: .ref (ad 0) :: rest) :=
  gi_callv (n := 1) C (mm_apply hO ht hk) (lw_V q196 q198 qs13 q18 q199) (by decide +kernel) hR 0 rfl rfl rfl rfl hcat hdg kk
set_option maxRecDepth 100000 in
theorem mm_count {l : Launch} {D : va_G} {ad : Nat → Nat} {dd : Nat → ClassId} {n : Nat} {S L R : Nat → Nat} {h k : Nat} {ch : Bool} (hO : tOK n S L R) : GMi l D vwCl (mtys dd) yX1_count cX1_count 3 (some .int) 0 0 [.ref (ad 0)] (MW ad dd n S L R h k ch) (fun r u => r = nI (cnt k n) ∧ u = (MW ad dd n S L R h k ch)) := by
  refine g_methI (own := RX1) yX1_count cX1_count 3 rfl (by decide) (Nat.le_of_ble_eq_true rfl) (fun J C hret => ?_)
  change J (MW ad dd n S L R h k ch) 0 [(0, .ref (ad 0))] []
  have hn := hO.2.1
  have loop : ∀ d i : Nat, i + d = n → J (MW ad dd n S L R h k ch) 4 [(0, .ref (ad 0)), (1, .int (nI (cnt k i))), (2, .int (nI i))] [] := by
    intro d
    induction d with
    | zero =>
      intro i hi
      refine gi_iload_n C dX1_count_4 rfl 2 rfl ?_
      refine gi_aload_n C dX1_count_5 rfl 0 rfl ?_
      refine mg0 C dX1_count_6 ?_
      refine gn_icmp_ge (tgt := 30) C (by omega) (by omega) dX1_count_9 (by decide) (fun h1 => ?_) (fun h1 => ?_)
      · have e1 : i = n := by omega
        subst e1
        refine gi_iload_n C dX1_count_30 rfl 1 rfl ?_
        exact hret _ _ _ _ dX1_count_31 rfl ⟨rfl, rfl⟩
      · omega
    | succ d ih =>
      intro i hi
      refine gi_iload_n C dX1_count_4 rfl 2 rfl ?_
      refine gi_aload_n C dX1_count_5 rfl 0 rfl ?_
      refine mg0 C dX1_count_6 ?_
      refine gn_icmp_ge (tgt := 30) C (by omega) (by omega) dX1_count_9 (by decide) (fun h1 => ?_) (fun h1 => ?_)
      · omega
      · refine gi_aload_n C dX1_count_12 rfl 0 rfl ?_
        refine mg5 C dX1_count_13 ?_
        refine gi_iload_n C dX1_count_16 rfl 2 rfl ?_
        refine ma5 C dX1_count_17 (by omega) ?_
        refine gb_ifeq (tgt := 24) C dX1_count_18 (by decide) (fun h2 => ?_) (fun h2 => ?_)
        · refine gn_iinc (lv' := [(2, _), (0, _), (1, _)]) C dX1_count_24 2 rfl (by decide) rfl ?_
          refine gi_goto (tgt := 4) C dX1_count_27 (by decide) ?_
          refine gi_sub (lv' := [(0, _), (1, _), (2, _)]) C [1, 2, 0] rfl ?_
          have e2 := ih (i + 1) (by omega)
          rw [show cnt k (i + 1) = cnt k i + (k.testBit i).toNat from rfl, h2] at e2
          exact e2
        · refine gn_iinc (lv' := [(1, _), (0, _), (2, _)]) C dX1_count_21 1 rfl (by decide) rfl ?_
          refine gn_iinc (lv' := [(2, _), (1, _), (0, _)]) C dX1_count_24 2 rfl (by decide) rfl ?_
          refine gi_goto (tgt := 4) C dX1_count_27 (by decide) ?_
          refine gi_sub (lv' := [(0, _), (1, _), (2, _)]) C [2, 1, 0] rfl ?_
          have e2 := ih (i + 1) (by omega)
          rw [show cnt k (i + 1) = cnt k i + (k.testBit i).toNat from rfl, h2] at e2
          exact e2
  refine gi_iconst (v := nI 0) C dX1_count_0 (by decide) ?_
  refine gi_istore_n (lv' := [(1, _), (0, _)]) C dX1_count_1 rfl (by decide) rfl ?_
  refine gi_iconst (v := nI 0) C dX1_count_2 (by decide) ?_
  refine gi_istore_n (lv' := [(2, _), (1, _), (0, _)]) C dX1_count_3 rfl (by decide) rfl ?_
  refine gi_sub (lv' := [(0, _), (1, _), (2, _)]) C [2, 1, 0] rfl ?_
  exact loop n 0 (by omega)
theorem rm_count {J : gJ} {cc : ByteArray} {nL fr lo pc : Nat} {lv : List (Nat × Value)} {rest : List Value} {l : Launch} {D : va_G} {ad : Nat → Nat} {dd : Nat → ClassId} {n : Nat} {S L R : Nat → Nat} {h k : Nat} {ch : Bool} (C : GC J l D vwCl (mtys dd) cc nL RX1 fr lo) (hR : 0 + 1 ≤ fr ∧ 8 + (3 + 11) + 0 ≤ lo) (hO : tOK n S L R) (hcat : (rest.map fun v => v.category).sum ≤ 8) (hdg : decode cc pc = .ok (.invokevirtual 56, 3)) (kk : J (MW ad dd n S L R h k ch) (pc + 3) lv (.int (nI (cnt k n)) :: rest)) : J (MW ad dd n S L R h k ch) pc lv (.ref (ad 0) :: rest) :=
  gi_calli (n := 0) C (mm_count hO) (lw_V q204 q206 qs15 q18 q207) (by decide +kernel) hR 0 rfl rfl rfl rfl hcat hdg (fun r u hp => by obtain ⟨rfl, rfl⟩ := hp; exact kk)
set_option maxRecDepth 100000 in
theorem mm_ones {l : Launch} {D : va_G} {dd : Nat → ClassId} {e : Nat} (he : e < 256) : GMi l D vwCl (mtys dd) yX1_ones cX1_ones 3 (some .int) 0 0 [.int (nI e)] [] (fun r _ => r = nI (cnt e 8)) := by
  refine g_methI (own := RX1) yX1_ones cX1_ones 3 rfl (by decide) (Nat.le_of_ble_eq_true rfl) (fun J C hret => ?_)
  change J [] 0 [(0, .int (nI e))] []
  have loop : ∀ d i : Nat, i + d = 8 → J [] 4 [(0, .int (nI e)), (1, .int (nI (cnt e i))), (2, .int (nI i))] [] := by
    intro d
    induction d with
    | zero =>
      intro i hi
      refine gi_iload_n C dX1_ones_4 rfl 2 rfl ?_
      refine gi_bipush (v := nI 8) C dX1_ones_5 (by decide) ?_
      refine gn_icmp_ge (tgt := 24) C (by omega) (by omega) dX1_ones_7 (by decide) (fun h1 => ?_) (fun h1 => ?_)
      · have e8 : i = 8 := by omega
        subst e8
        refine gi_iload_n C dX1_ones_24 rfl 1 rfl ?_
        exact hret _ _ _ _ dX1_ones_25 rfl rfl
      · omega
    | succ d ih =>
      intro i hi
      refine gi_iload_n C dX1_ones_4 rfl 2 rfl ?_
      refine gi_bipush (v := nI 8) C dX1_ones_5 (by decide) ?_
      refine gn_icmp_ge (tgt := 24) C (by omega) (by omega) dX1_ones_7 (by decide) (fun h1 => ?_) (fun h1 => ?_)
      · omega
      · refine gi_iload_n C dX1_ones_10 rfl 1 rfl ?_
        refine gi_iload_n C dX1_ones_11 rfl 0 rfl ?_
        refine gi_iload_n C dX1_ones_12 rfl 2 rfl ?_
        refine gn_bitS C dX1_ones_13 dX1_ones_14 dX1_ones_15 (by omega) (by omega) ?_
        refine gn_iadd C dX1_ones_16 ?_
        refine gi_istore_n (lv' := [(1, _), (0, _), (2, _)]) C dX1_ones_17 rfl (by decide) rfl ?_
        refine gn_iinc (lv' := [(2, _), (1, _), (0, _)]) C dX1_ones_18 2 rfl (by decide) rfl ?_
        refine gi_goto (tgt := 4) C dX1_ones_21 (by decide) ?_
        refine gi_sub (lv' := [(0, _), (1, _), (2, _)]) C [2, 1, 0] rfl ?_
        exact ih (i + 1) (by omega)
  refine gi_iconst (v := nI 0) C dX1_ones_0 (by decide) ?_
  refine gi_istore_n (lv' := [(1, _), (0, _)]) C dX1_ones_1 rfl (by decide) rfl ?_
  refine gi_iconst (v := nI 0) C dX1_ones_2 (by decide) ?_
  refine gi_istore_n (lv' := [(2, _), (1, _), (0, _)]) C dX1_ones_3 rfl (by decide) rfl ?_
  refine gi_sub (lv' := [(0, _), (1, _), (2, _)]) C [2, 1, 0] rfl ?_
  exact loop 8 0 rfl
theorem rm_ones_s {J : gJ} {cc : ByteArray} {nL fr lo pc : Nat} {lv : List (Nat × Value)} {rest : List Value} {l : Launch} {D : va_G} {dd : Nat → ClassId} {ws : va_W} (C : GC J l D vwCl (mtys dd) cc nL RX1 fr lo) (hR : 0 + 1 ≤ fr ∧ 8 + (3 + 11) + 0 ≤ lo) {e : Nat} (he : e < 256) (hcat : (rest.map fun v => v.category).sum ≤ 8) (hdg : decode cc pc = .ok (.invokestatic 67, 3)) (kk : J ws (pc + 3) lv (.int (nI (cnt e 8)) :: rest)) : J ws pc lv (.int (nI e) :: rest) :=
  gi_calls (n := 1) C (mm_ones he) (lw_S q231 q232 q18 q233) (by decide +kernel) hR rfl rfl hcat hdg (fun r u hp => by subst hp; exact kk)
end
section
/-! TermSecretsModel: what is worked out -/
def wkP (h : Nat) (x : Int32) (e : Nat) (y : Int32) (i : Nat) : Prop := i < 28 ∧ ((tb h i ∧ ¬ nI i = y) ∨ nI i = x ∨ (i < 8 ∧ tb e i))
set_option maxRecDepth 100000 in
theorem mm_work {l : Launch} {D : va_G} {ad : Nat → Nat} {dd : Nat → ClassId} {n : Nat} {S L R : Nat → Nat} {h k : Nat} {ch : Bool} {x y : Int32} {e : Nat} (hO : tOK n S L R) (hh : h < 2 ^ n) (he : e < 256) (hx : ∀ i, i < 28 → nI i = x → i < n) (hk : k < 268435456) : GMv l D vwCl (mtys dd) yX1_work cX1_work 6 2 44 [.ref (ad 0), .int x, .int (nI e), .int y] (MW ad dd n S L R h k ch) (fun v => ∃ k' ch', v = (MW ad dd n S L R h k' ch') ∧ isC n S L R (wkP h x e y) k') := by
  refine g_methV (own := RX1) yX1_work cX1_work 6 rfl (by decide) (Nat.le_of_ble_eq_true rfl) (fun J C hret => ?_)
  change J (MW ad dd n S L R h k ch) 0 [(0, .ref (ad 0)), (1, .int x), (2, .int (nI e)), (3, .int y)] []
  have hn := hO.2.1
  have h8n := hO.1
  have rounds : ∀ k0 : Nat, (∀ j, tb k0 j ↔ wkP h x e y j) → J (MW ad dd n S L R h k0 ch) 67 [(0, .ref (ad 0)), (1, .int x), (2, .int (nI e)), (3, .int y), (4, .int (nI 28))] [] := by
    intro k0 hk0
    have hk0n : k0 < 2 ^ n := lt_of_tb (fun i hi => by
      obtain ⟨q1, q2⟩ := (hk0 i).mp hi
      rcases q2 with q | q | q
      · exact tb_lt hh q.1
      · exact hx i q1 q
      · omega)
    have fin : ∀ k1 : Nat, sbt k0 k1 → snd_ n S L R k0 k1 → k1 < 2 ^ n → Clo n S L R k1 → ∃ k' ch', (MW ad dd n S L R h k1 false) = (MW ad dd n S L R h k' ch') ∧ isC n S L R (wkP h x e y) k' := fun k1 q1 q2 q3 q4 => ⟨k1, false, rfl, q3, fun i hi => q1 i ((hk0 i).mpr hi), q4, fun c hc hp => q2 c hc (fun i hi => hp i ((hk0 i).mp hi))⟩
    have outer : ∀ (d i k1 : Nat) (ch1 : Bool), i + d = 30 → sbt k0 k1 → snd_ n S L R k0 k1 → k1 < 2 ^ n → (ch1 = true → i ≤ cnt k1 28) → (ch1 = false → Clo n S L R k1) → J (MW ad dd n S L R h k1 ch1) 75 [(0, .ref (ad 0)), (1, .int x), (2, .int (nI e)), (3, .int y), (4, .int (nI i))] [] := by
      intro d
      induction d with
      | zero =>
        intro i k1 ch1 hi s1 s2 s3 c1 c2
        refine gi_iload C dX1_work_75 4 rfl ?_
        refine gi_bipush (v := nI 30) C dX1_work_77 (by decide) ?_
        refine gn_icmp_ge (tgt := 124) C (by omega) (by omega) dX1_work_79 (by decide) (fun h1 => ?_) (fun h1 => ?_)
        · have e1 : ch1 = false := by
            cases hc : ch1 with
            | false => rfl
            | true =>
              have q1 := c1 hc
              have q2 := cnt_le k1 28
              omega
          subst e1
          exact hret _ _ _ dX1_work_124 (fin k1 s1 s2 s3 (c2 rfl))
        · omega
      | succ d ih =>
        intro i k1 ch1 hi s1 s2 s3 c1 c2
        refine gi_iload C dX1_work_75 4 rfl ?_
        refine gi_bipush (v := nI 30) C dX1_work_77 (by decide) ?_
        refine gn_icmp_ge (tgt := 124) C (by omega) (by omega) dX1_work_79 (by decide) (fun h1 => ?_) (fun h1 => ?_)
        · omega
        · refine gi_aload_n C dX1_work_82 rfl 0 rfl ?_
          refine mg6 C dX1_work_83 ?_
          refine gb_ifeq (tgt := 124) C dX1_work_86 (by decide) (fun h2 => ?_) (fun h2 => ?_)
          · subst h2
            exact hret _ _ _ dX1_work_124 (fin k1 s1 s2 s3 (c2 rfl))
          · have inner : ∀ (d j k2 : Nat) (ch2 : Bool), j + d = n → lr n S L R k1 false k2 ch2 → (∀ u, 8 ≤ u → u < j → cR S L R k1 k2 u) → J (MW ad dd n S L R h k2 ch2) 97 [(0, .ref (ad 0)), (1, .int x), (2, .int (nI e)), (3, .int y), (4, .int (nI i)), (5, .int (nI j))] [] := by
              intro d
              induction d with
              | zero =>
                intro j k2 ch2 hj hl hr
                refine gi_iload C dX1_work_97 5 rfl ?_
                refine gi_aload_n C dX1_work_99 rfl 0 rfl ?_
                refine mg0 C dX1_work_100 ?_
                refine gn_icmp_ge (tgt := 118) C (by omega) (by omega) dX1_work_103 (by decide) (fun h3 => ?_) (fun h3 => ?_)
                · refine gn_iinc (lv' := [(4, _), (0, _), (1, _), (2, _), (3, _), (5, _)]) C dX1_work_118 4 rfl (by decide) rfl ?_
                  refine gi_goto (tgt := 75) C dX1_work_121 (by decide) ?_
                  refine gi_sub (lv' := [(0, _), (1, _), (2, _), (3, _), (4, _)]) C [1, 2, 3, 4, 0] rfl ?_
                  refine ih (i + 1) k2 ch2 (by omega) (sbt_tr s1 hl.1) (snd_tr s2 hl.2.2.1) hl.2.1 (fun q => ?_) (fun q => ?_)
                  · have q1 := c1 h2
                    rcases hl.2.2.2.2 q with z | z
                    · cases z
                    · omega
                  · have q1 := (hl.2.2.2.1 q).2
                    subst q1
                    exact fun u q1 q2 => hr u q1 (by omega)
                · omega
              | succ d ih2 =>
                intro j k2 ch2 hj hl hr
                refine gi_iload C dX1_work_97 5 rfl ?_
                refine gi_aload_n C dX1_work_99 rfl 0 rfl ?_
                refine mg0 C dX1_work_100 ?_
                refine gn_icmp_ge (tgt := 118) C (by omega) (by omega) dX1_work_103 (by decide) (fun h3 => ?_) (fun h3 => ?_)
                · omega
                · refine gi_aload_n C dX1_work_106 rfl 0 rfl ?_
                  refine gi_iload C dX1_work_107 5 rfl ?_
                  refine rm_apply C (by decide) hO (by omega) hl.2.1 (Nat.le_of_ble_eq_true rfl) dX1_work_109 (fun v hv => ?_)
                  obtain ⟨k3, ch3, rfl, hl3, hr3⟩ := hv
                  refine gn_iinc (lv' := [(5, _), (0, _), (1, _), (2, _), (3, _), (4, _)]) C dX1_work_112 5 rfl (by decide) rfl ?_
                  refine gi_goto (tgt := 97) C dX1_work_115 (by decide) ?_
                  refine gi_sub (lv' := [(0, _), (1, _), (2, _), (3, _), (4, _), (5, _)]) C [1, 2, 3, 4, 5, 0] rfl ?_
                  refine ih2 (j + 1) k3 ch3 (by omega) (lr_tr hl hl3) (fun u q1 q2 => ?_)
                  by_cases ee : u = j
                  · subst ee; exact cR_mono (hr3 q1) hl.1 (sbt_rf k3)
                  · exact cR_mono (hr u q1 (by omega)) (sbt_rf k1) hl3.1
            refine gi_aload_n C dX1_work_89 rfl 0 rfl ?_
            refine gi_iconst (v := b2i false) C dX1_work_90 (by decide) ?_
            refine mp6 C dX1_work_91 ?_
            refine gi_iconst (v := nI 0) C dX1_work_94 (by decide) ?_
            refine gi_istore (lv' := [(5, _), (0, _), (1, _), (2, _), (3, _), (4, _)]) C dX1_work_95 (by decide) rfl ?_
            refine gi_sub (lv' := [(0, _), (1, _), (2, _), (3, _), (4, _), (5, _)]) C [1, 2, 3, 4, 5, 0] rfl ?_
            exact inner n 0 k1 false (by omega) (lr_rf false s3) (fun u q1 q2 => absurd q2 (by omega))
    refine gi_aload_n C dX1_work_67 rfl 0 rfl ?_
    refine gi_iconst (v := b2i true) C dX1_work_68 (by decide) ?_
    refine mp6 C dX1_work_69 ?_
    refine gi_iconst (v := nI 0) C dX1_work_72 (by decide) ?_
    refine gi_istore (lv' := [(4, _), (0, _), (1, _), (2, _), (3, _)]) C dX1_work_73 (by decide) rfl ?_
    refine gi_sub (lv' := [(0, _), (1, _), (2, _), (3, _), (4, _)]) C [1, 2, 3, 4, 0] rfl ?_
    exact outer 30 0 k0 true rfl (sbt_rf k0) (snd_rf n S L R k0) hk0n (fun _ => Nat.zero_le _) (fun q => by cases q)
  have loop : ∀ (d i k1 : Nat), i + d = 28 → k1 < 2 ^ 28 → (∀ j, j < i → (tb k1 j ↔ wkP h x e y j)) → J (MW ad dd n S L R h k1 ch) 3 [(0, .ref (ad 0)), (1, .int x), (2, .int (nI e)), (3, .int y), (4, .int (nI i))] [] := by
    intro d
    induction d with
    | zero =>
      intro i k1 hi hk1 hj
      refine gi_iload C dX1_work_3 4 rfl ?_
      refine gi_bipush (v := nI 28) C dX1_work_5 (by decide) ?_
      refine gn_icmp_ge (tgt := 67) C (by omega) (by omega) dX1_work_7 (by decide) (fun h1 => ?_) (fun h1 => ?_)
      · have e1 : i = 28 := by omega
        subst e1
        exact rounds k1 (fun j => ⟨fun q => (hj j (tb_lt hk1 q)).mp q, fun q => (hj j q.1).mpr q⟩)
      · omega
    | succ d ih =>
      intro i k1 hi hk1 hj
      have at60 : ∀ v : Bool, (v = true ↔ wkP h x e y i) → J (MW ad dd n S L R h k1 ch) 60 [(0, .ref (ad 0)), (1, .int x), (2, .int (nI e)), (3, .int y), (4, .int (nI i))] [.int (b2i v), .int (nI i), .ref (ad 5)] := by
        intro v hv
        refine ms5 C dX1_work_60 (by omega) ?_
        refine gn_iinc (lv' := [(4, _), (0, _), (1, _), (2, _), (3, _)]) C dX1_work_61 4 rfl (by decide) rfl ?_
        refine gi_goto (tgt := 3) C dX1_work_64 (by decide) ?_
        refine gi_sub (lv' := [(0, _), (1, _), (2, _), (3, _), (4, _)]) C [1, 2, 3, 4, 0] rfl ?_
        refine ih (i + 1) (setb k1 i v) (by omega) (setb_lt hk1 (by omega)) (fun j hj2 => ?_)
        unfold tb
        rw [setb_tb]
        by_cases ee : j = i
        · subst ee; rw [if_pos rfl]; exact hv
        · rw [if_neg ee]; exact hj j (by omega)
      have at55 : wkP h x e y i → J (MW ad dd n S L R h k1 ch) 55 [(0, .ref (ad 0)), (1, .int x), (2, .int (nI e)), (3, .int y), (4, .int (nI i))] [.int (nI i), .ref (ad 5)] := by
        intro hv
        refine gi_iconst (v := b2i true) C dX1_work_55 (by decide) ?_
        refine gi_goto (tgt := 60) C dX1_work_56 (by decide) ?_
        exact at60 true ⟨fun _ => hv, fun _ => rfl⟩
      have at59 : ¬ wkP h x e y i → J (MW ad dd n S L R h k1 ch) 59 [(0, .ref (ad 0)), (1, .int x), (2, .int (nI e)), (3, .int y), (4, .int (nI i))] [.int (nI i), .ref (ad 5)] := by
        intro hv
        refine gi_iconst (v := b2i false) C dX1_work_59 (by decide) ?_
        exact at60 false ⟨fun z => (by cases z), fun z => absurd z hv⟩
      have at32 : ¬ (tb h i ∧ ¬ nI i = y) → J (MW ad dd n S L R h k1 ch) 32 [(0, .ref (ad 0)), (1, .int x), (2, .int (nI e)), (3, .int y), (4, .int (nI i))] [.int (nI i), .ref (ad 5)] := by
        intro hn1
        refine gi_iload C dX1_work_32 4 rfl ?_
        refine gi_iload_n C dX1_work_34 rfl 1 rfl ?_
        refine gi_icmp_eq (tgt := 55) C dX1_work_35 (by decide) (fun h3 => ?_) (fun h3 => ?_)
        · exact at55 ⟨by omega, Or.inr (Or.inl h3)⟩
        · refine gi_iload C dX1_work_38 4 rfl ?_
          refine gi_bipush (v := nI 8) C dX1_work_40 (by decide) ?_
          refine gn_icmp_ge (tgt := 59) C (by omega) (by omega) dX1_work_42 (by decide) (fun h4 => ?_) (fun h4 => ?_)
          · exact at59 (fun q => by rcases q.2 with z | z | z; exact hn1 z; exact h3 z; omega)
          · refine gi_iload_n C dX1_work_45 rfl 2 rfl ?_
            refine gi_iload C dX1_work_46 4 rfl ?_
            refine gn_bitS C dX1_work_48 dX1_work_49 dX1_work_50 (by omega) (by omega) ?_
            refine gi_iconst (v := nI 1) C dX1_work_51 (by decide) ?_
            refine gn_icmp_ne (tgt := 59) C (by have := btn_le (e.testBit i); omega) (by omega) dX1_work_52 (by decide) (fun h5 => ?_) (fun h5 => ?_)
            · refine at59 (fun q => ?_)
              rcases q.2 with z | z | z
              · exact hn1 z
              · exact h3 z
              · exact h5 (by rw [show e.testBit i = true from z.2]; rfl)
            · refine at55 ⟨by omega, Or.inr (Or.inr ⟨h4, ?_⟩)⟩
              cases hb : e.testBit i with
              | true => exact hb
              | false => rw [hb] at h5; cases h5
      refine gi_iload C dX1_work_3 4 rfl ?_
      refine gi_bipush (v := nI 28) C dX1_work_5 (by decide) ?_
      refine gn_icmp_ge (tgt := 67) C (by omega) (by omega) dX1_work_7 (by decide) (fun h1 => ?_) (fun h1 => ?_)
      · omega
      · refine gi_aload_n C dX1_work_10 rfl 0 rfl ?_
        refine mg5 C dX1_work_11 ?_
        refine gi_iload C dX1_work_14 4 rfl ?_
        refine gi_aload_n C dX1_work_16 rfl 0 rfl ?_
        refine mg4 C dX1_work_17 ?_
        refine gi_iload C dX1_work_20 4 rfl ?_
        refine ma4 C dX1_work_22 (by omega) ?_
        refine gb_ifeq (tgt := 32) C dX1_work_23 (by decide) (fun h2 => ?_) (fun h2 => ?_)
        · exact at32 (fun q => absurd q.1 (tb_f h2))
        · refine gi_iload C dX1_work_26 4 rfl ?_
          refine gi_iload_n C dX1_work_28 rfl 3 rfl ?_
          refine gi_icmp_ne (tgt := 55) C dX1_work_29 (by decide) (fun h3 => ?_) (fun h3 => ?_)
          · exact at55 ⟨by omega, Or.inl ⟨h2, h3⟩⟩
          · exact at32 (fun q => q.2 h3)
  refine gi_iconst (v := nI 0) C dX1_work_0 (by decide) ?_
  refine gi_istore (lv' := [(4, _), (0, _), (1, _), (2, _), (3, _)]) C dX1_work_1 (by decide) rfl ?_
  refine gi_sub (lv' := [(0, _), (1, _), (2, _), (3, _), (4, _)]) C [1, 2, 3, 4, 0] rfl ?_
  exact loop 28 0 k rfl hk (fun j q => absurd q (by omega))
theorem rm_work {J : gJ} {cc : ByteArray} {nL fr lo pc : Nat} {lv : List (Nat × Value)} {rest : List Value} {l : Launch} {D : va_G} {ad : Nat → Nat} {dd : Nat → ClassId} {n : Nat} {S L R : Nat → Nat} {h k : Nat} {ch : Bool} (C : GC J l D vwCl (mtys dd) cc nL RX1 fr lo) (hR : 2 + 1 ≤ fr ∧ 8 + (6 + 11) + 44 ≤ lo) {x y : Int32} {e : Nat} (hO : tOK n S L R) (hh : h < 2 ^ n) (he : e < 256) (hx : ∀ i, i < 28 → nI i = x → i < n) (hk : k < 268435456) (hcat : (rest.map fun v => v.category).sum ≤ 8) (hdg : decode cc pc = .ok (.invokevirtual 52, 3)) (kk : ∀ uu : va_W, (fun v => ∃ k' ch', v = (MW ad dd n S L R h k' ch') ∧ isC n S L R (wkP h x e y) k') uu → J uu (pc + 3) lv rest) : J (MW ad dd n S L R h k ch) pc lv (.int y :: .int (nI e) :: .int x :: .ref (ad 0) :: rest) :=
  gi_callv (n := 3) C (mm_work hO hh he hx hk) (lw_V q192 q194 qs12 q18 q195) (by decide +kernel) hR 0 rfl rfl rfl rfl hcat hdg kk
theorem wkP_none {n h : Nat} (hn : n ≤ 28) (hh : h < 2 ^ n) (i : Nat) : wkP h (-1) 0 (-1) i ↔ tb h i :=
  ⟨fun q => by
    rcases q.2 with z | z | z
    · exact z.1
    · exact absurd z (nI_m1 i q.1)
    · exact absurd z.2 (tb_zero i), fun q => ⟨by have := tb_lt hh q; omega, Or.inl ⟨q, nI_m1 i (by have := tb_lt hh q; omega)⟩⟩⟩
theorem wkP_one {n h t : Nat} (hn : n ≤ 28) (hh : h < 2 ^ n) (ht : t < n) (i : Nat) : wkP h (nI t) 0 (-1) i ↔ (tb h i ∨ i = t) :=
  ⟨fun q => by
    rcases q.2 with z | z | z
    · exact Or.inl z.1
    · exact Or.inr (nI_inj (n := 28) (by omega) q.1 (by omega) z)
    · exact absurd z.2 (tb_zero i), fun q => by
    rcases q with q | q
    · exact ⟨by have := tb_lt hh q; omega, Or.inl ⟨q, nI_m1 i (by have := tb_lt hh q; omega)⟩⟩
    · exact ⟨by omega, Or.inr (Or.inl (by rw [q]))⟩⟩
theorem wkP_set {n h e : Nat} (hn : n ≤ 28) (hh : h < 2 ^ n) (he : e < 256) (i : Nat) : wkP h (-1) e (-1) i ↔ (tb h i ∨ tb e i) :=
  ⟨fun q => by
    rcases q.2 with z | z | z
    · exact Or.inl z.1
    · exact absurd z (nI_m1 i q.1)
    · exact Or.inr z.2, fun q => by
    rcases q with q | q
    · exact ⟨by have := tb_lt hh q; omega, Or.inl ⟨q, nI_m1 i (by have := tb_lt hh q; omega)⟩⟩
    · have h8 : i < 8 := tb_lt (n := 8) he q
      exact ⟨by omega, Or.inr (Or.inr ⟨h8, q⟩)⟩⟩
theorem wkP_less {n h t : Nat} (hn : n ≤ 28) (hh : h < 2 ^ n) (ht : t < n) (i : Nat) : wkP h (-1) 0 (nI t) i ↔ (i ≠ t ∧ tb h i) :=
  ⟨fun q => by
    rcases q.2 with z | z | z
    · exact ⟨fun e => z.2 (by rw [e]), z.1⟩
    · exact absurd z (nI_m1 i q.1)
    · exact absurd z.2 (tb_zero i), fun q => by
    have h1 := tb_lt hh q.2
    exact ⟨by omega, Or.inl ⟨q.2, fun z => q.1 (nI_inj (n := 28) (by omega) (by omega) (by omega) z)⟩⟩⟩
theorem hx_m1 {n : Nat} : ∀ i, i < 28 → nI i = -1 → i < n := fun i q1 q2 => absurd q2 (nI_m1 i q1)
theorem hx_t {n t : Nat} (hn : n ≤ 28) (ht : t < n) : ∀ i, i < 28 → nI i = nI t → i < n := fun i q1 q2 => by
  have := nI_inj (n := 28) (by omega) q1 (by omega) q2
  omega
end
section
/-! TermSecretsModel: hearing and questions -/
set_option maxRecDepth 100000 in
theorem mm_known {l : Launch} {D : va_G} {ad : Nat → Nat} {dd : Nat → ClassId} {n : Nat} {S L R : Nat → Nat} {h k : Nat} {ch : Bool} (hO : tOK n S L R) (hh : h < 2 ^ n) (hk : k < 268435456) : GMi l D vwCl (mtys dd) yX1_known cX1_known 1 (some .int) 3 69 [.ref (ad 0)] (MW ad dd n S L R h k ch) (fun r v => ∃ k' ch', v = (MW ad dd n S L R h k' ch') ∧ isC n S L R (tb h) k' ∧ r = nI (cnt k' n)) := by
  refine g_methI (own := RX1) yX1_known cX1_known 1 rfl (by decide) (Nat.le_of_ble_eq_true rfl) (fun J C hret => ?_)
  change J (MW ad dd n S L R h k ch) 0 [(0, .ref (ad 0))] []
  have hn := hO.2.1
  refine gi_aload_n C dX1_known_0 rfl 0 rfl ?_
  refine gi_iconst (v := -1) C dX1_known_1 (by decide) ?_
  refine gi_iconst (v := nI 0) C dX1_known_2 (by decide) ?_
  refine gi_iconst (v := -1) C dX1_known_3 (by decide) ?_
  refine rm_work C (by decide) hO hh (by decide) hx_m1 hk (Nat.le_of_ble_eq_true rfl) dX1_known_4 (fun v hv => ?_)
  obtain ⟨k2, ch2, rfl, hv⟩ := hv
  refine gi_aload_n C dX1_known_7 rfl 0 rfl ?_
  refine rm_count C (by decide) hO (Nat.le_of_ble_eq_true rfl) dX1_known_8 ?_
  exact hret _ _ _ _ dX1_known_11 rfl ⟨k2, ch2, rfl, isC_congr hv (wkP_none hn hh), rfl⟩
theorem rm_known {J : gJ} {cc : ByteArray} {nL fr lo pc : Nat} {lv : List (Nat × Value)} {rest : List Value} {l : Launch} {D : va_G} {ad : Nat → Nat} {dd : Nat → ClassId} {n : Nat} {S L R : Nat → Nat} {h k : Nat} {ch : Bool} (C : GC J l D vwCl (mtys dd) cc nL RX1 fr lo) (hR : 3 + 1 ≤ fr ∧ 8 + (1 + 11) + 69 ≤ lo) (hO : tOK n S L R) (hh : h < 2 ^ n) (hk : k < 268435456) (hcat : (rest.map fun v => v.category).sum ≤ 8) (hdg : decode cc pc = .ok (.invokevirtual 49, 3)) (kk : ∀ (rr : Int32) (uu : va_W), (fun r v => ∃ k' ch', v = (MW ad dd n S L R h k' ch') ∧ isC n S L R (tb h) k' ∧ r = nI (cnt k' n)) rr uu → J uu (pc + 3) lv (.int rr :: rest)) : J (MW ad dd n S L R h k ch) pc lv (.ref (ad 0) :: rest) :=
  gi_calli (n := 0) C (mm_known hO hh hk) (lw_V q188 q189 q190 q18 q191) (by decide +kernel) hR 0 rfl rfl rfl rfl hcat hdg kk
set_option maxRecDepth 100000 in
theorem mm_hear {l : Launch} {D : va_G} {ad : Nat → Nat} {dd : Nat → ClassId} {n : Nat} {S L R : Nat → Nat} {h k : Nat} {ch : Bool} {x : Int32} (hO : tOK n S L R) (hh : h < 2 ^ n) (hk : k < 268435456) : GMi l D vwCl (mtys dd) yX1_hear cX1_hear 2 (some .int) 4 89 [.ref (ad 0), .int x] (MW ad dd n S L R h k ch) (fun r v => ∃ h' k' ch', v = (MW ad dd n S L R h' k' ch') ∧ k' < 268435456 ∧ ((¬ isT n x ∧ r = -1 ∧ h' = h) ∨ ∃ j, j < n ∧ x = nI j ∧ h' = setb h j true ∧ isC n S L R (tb h') k' ∧ r = nI (cnt k' n))) := by
  refine g_methI (own := RX1) yX1_hear cX1_hear 2 rfl (by decide) (Nat.le_of_ble_eq_true rfl) (fun J C hret => ?_)
  change J (MW ad dd n S L R h k ch) 0 [(0, .ref (ad 0)), (1, .int x)] []
  have hn := hO.2.1
  have h8n := hO.1
  refine gi_aload_n C dX1_hear_0 rfl 0 rfl ?_
  refine gi_iload_n C dX1_hear_1 rfl 1 rfl ?_
  refine rm_bad C (by decide) hn (Nat.le_of_ble_eq_true rfl) dX1_hear_2 (fun r v hv => ?_)
  obtain ⟨b1, rfl, hb1, rfl⟩ := hv
  refine gb_ifeq (tgt := 10) C dX1_hear_5 (by decide) (fun h1 => ?_) (fun h1 => ?_)
  · obtain ⟨j, hj, rfl⟩ := hb1.mpr h1
    refine gi_aload_n C dX1_hear_10 rfl 0 rfl ?_
    refine mg4 C dX1_hear_11 ?_
    refine gi_iload_n C dX1_hear_14 rfl 1 rfl ?_
    refine gi_iconst (v := b2i true) C dX1_hear_15 (by decide) ?_
    refine ms4 C dX1_hear_16 (by omega) ?_
    refine gi_aload_n C dX1_hear_17 rfl 0 rfl ?_
    refine rm_known C (by decide) hO (setb_lt hh hj) hk (Nat.le_of_ble_eq_true rfl) dX1_hear_18 (fun r v hv => ?_)
    obtain ⟨k2, ch2, rfl, hv, rfl⟩ := hv
    exact hret _ _ _ _ dX1_hear_21 rfl ⟨_, k2, ch2, rfl, p2_le hv.1 hn, Or.inr ⟨j, hj, rfl, rfl, hv, rfl⟩⟩
  · refine gi_iconst (v := -1) C dX1_hear_8 (by decide) ?_
    exact hret _ _ _ _ dX1_hear_9 rfl ⟨h, k, ch, rfl, hk, Or.inl ⟨fun q => absurd (h1.symm.trans (hb1.mp q)) (by decide), rfl, rfl⟩⟩
set_option maxRecDepth 100000 in
theorem mm_unhear {l : Launch} {D : va_G} {ad : Nat → Nat} {dd : Nat → ClassId} {n : Nat} {S L R : Nat → Nat} {h k : Nat} {ch : Bool} {x : Int32} (hO : tOK n S L R) (hh : h < 2 ^ n) (hk : k < 268435456) : GMi l D vwCl (mtys dd) yX1_unhear cX1_unhear 2 (some .int) 4 89 [.ref (ad 0), .int x] (MW ad dd n S L R h k ch) (fun r v => ∃ h' k' ch', v = (MW ad dd n S L R h' k' ch') ∧ k' < 268435456 ∧ ((¬ isT n x ∧ r = -1 ∧ h' = h) ∨ ∃ j, j < n ∧ x = nI j ∧ h' = setb h j false ∧ isC n S L R (tb h') k' ∧ r = nI (cnt k' n))) := by
  refine g_methI (own := RX1) yX1_unhear cX1_unhear 2 rfl (by decide) (Nat.le_of_ble_eq_true rfl) (fun J C hret => ?_)
  change J (MW ad dd n S L R h k ch) 0 [(0, .ref (ad 0)), (1, .int x)] []
  have hn := hO.2.1
  have h8n := hO.1
  refine gi_aload_n C dX1_unhear_0 rfl 0 rfl ?_
  refine gi_iload_n C dX1_unhear_1 rfl 1 rfl ?_
  refine rm_bad C (by decide) hn (Nat.le_of_ble_eq_true rfl) dX1_unhear_2 (fun r v hv => ?_)
  obtain ⟨b1, rfl, hb1, rfl⟩ := hv
  refine gb_ifeq (tgt := 10) C dX1_unhear_5 (by decide) (fun h1 => ?_) (fun h1 => ?_)
  · obtain ⟨j, hj, rfl⟩ := hb1.mpr h1
    refine gi_aload_n C dX1_unhear_10 rfl 0 rfl ?_
    refine mg4 C dX1_unhear_11 ?_
    refine gi_iload_n C dX1_unhear_14 rfl 1 rfl ?_
    refine gi_iconst (v := b2i false) C dX1_unhear_15 (by decide) ?_
    refine ms4 C dX1_unhear_16 (by omega) ?_
    refine gi_aload_n C dX1_unhear_17 rfl 0 rfl ?_
    refine rm_known C (by decide) hO (setb_lt hh hj) hk (Nat.le_of_ble_eq_true rfl) dX1_unhear_18 (fun r v hv => ?_)
    obtain ⟨k2, ch2, rfl, hv, rfl⟩ := hv
    exact hret _ _ _ _ dX1_unhear_21 rfl ⟨_, k2, ch2, rfl, p2_le hv.1 hn, Or.inr ⟨j, hj, rfl, rfl, hv, rfl⟩⟩
  · refine gi_iconst (v := -1) C dX1_unhear_8 (by decide) ?_
    exact hret _ _ _ _ dX1_unhear_9 rfl ⟨h, k, ch, rfl, hk, Or.inl ⟨fun q => absurd (h1.symm.trans (hb1.mp q)) (by decide), rfl, rfl⟩⟩
set_option maxRecDepth 100000 in
theorem mm_knows {l : Launch} {D : va_G} {ad : Nat → Nat} {dd : Nat → ClassId} {n : Nat} {S L R : Nat → Nat} {h k : Nat} {ch : Bool} {x : Int32} (hO : tOK n S L R) (hh : h < 2 ^ n) (hk : k < 268435456) : GMi l D vwCl (mtys dd) yX1_knows cX1_knows 2 (some .int) 3 69 [.ref (ad 0), .int x] (MW ad dd n S L R h k ch) (fun r v => ∃ k' ch', v = (MW ad dd n S L R h k' ch') ∧ k' < 268435456 ∧ ((¬ isT n x ∧ r = -1) ∨ ∃ j, j < n ∧ x = nI j ∧ isC n S L R (tb h) k' ∧ r = b2i (k'.testBit j))) := by
  refine g_methI (own := RX1) yX1_knows cX1_knows 2 rfl (by decide) (Nat.le_of_ble_eq_true rfl) (fun J C hret => ?_)
  change J (MW ad dd n S L R h k ch) 0 [(0, .ref (ad 0)), (1, .int x)] []
  have hn := hO.2.1
  have h8n := hO.1
  refine gi_aload_n C dX1_knows_0 rfl 0 rfl ?_
  refine gi_iload_n C dX1_knows_1 rfl 1 rfl ?_
  refine rm_bad C (by decide) hn (Nat.le_of_ble_eq_true rfl) dX1_knows_2 (fun r v hv => ?_)
  obtain ⟨b1, rfl, hb1, rfl⟩ := hv
  refine gb_ifeq (tgt := 10) C dX1_knows_5 (by decide) (fun h1 => ?_) (fun h1 => ?_)
  · obtain ⟨j, hj, rfl⟩ := hb1.mpr h1
    refine gi_aload_n C dX1_knows_10 rfl 0 rfl ?_
    refine gi_iconst (v := -1) C dX1_knows_11 (by decide) ?_
    refine gi_iconst (v := nI 0) C dX1_knows_12 (by decide) ?_
    refine gi_iconst (v := -1) C dX1_knows_13 (by decide) ?_
    refine rm_work C (by decide) hO hh (by decide) hx_m1 hk (Nat.le_of_ble_eq_true rfl) dX1_knows_14 (fun v hv => ?_)
    obtain ⟨k2, ch2, rfl, hv⟩ := hv
    refine gi_aload_n C dX1_knows_17 rfl 0 rfl ?_
    refine mg5 C dX1_knows_18 ?_
    refine gi_iload_n C dX1_knows_21 rfl 1 rfl ?_
    refine ma5 C dX1_knows_22 (by omega) ?_
    refine gb_ifeq (tgt := 30) C dX1_knows_23 (by decide) (fun h2 => ?_) (fun h2 => ?_)
    · refine gi_iconst (v := nI 0) C dX1_knows_30 (by decide) ?_
      exact hret _ _ _ _ dX1_knows_31 rfl ⟨k2, ch2, rfl, p2_le hv.1 hn, Or.inr ⟨j, hj, rfl, isC_congr hv (wkP_none hn hh), by rw [h2]; rfl⟩⟩
    · refine gi_iconst (v := nI 1) C dX1_knows_26 (by decide) ?_
      refine gi_goto (tgt := 31) C dX1_knows_27 (by decide) ?_
      exact hret _ _ _ _ dX1_knows_31 rfl ⟨k2, ch2, rfl, p2_le hv.1 hn, Or.inr ⟨j, hj, rfl, isC_congr hv (wkP_none hn hh), by rw [h2]; rfl⟩⟩
  · refine gi_iconst (v := -1) C dX1_knows_8 (by decide) ?_
    exact hret _ _ _ _ dX1_knows_9 rfl ⟨k, ch, rfl, hk, Or.inl ⟨fun q => absurd (h1.symm.trans (hb1.mp q)) (by decide), rfl⟩⟩
theorem rm_knows {J : gJ} {cc : ByteArray} {nL fr lo pc : Nat} {lv : List (Nat × Value)} {rest : List Value} {l : Launch} {D : va_G} {ad : Nat → Nat} {dd : Nat → ClassId} {n : Nat} {S L R : Nat → Nat} {h k : Nat} {ch : Bool} (C : GC J l D vwCl (mtys dd) cc nL RX1 fr lo) (hR : 3 + 1 ≤ fr ∧ 8 + (2 + 11) + 69 ≤ lo) {x : Int32} (hO : tOK n S L R) (hh : h < 2 ^ n) (hk : k < 268435456) (hcat : (rest.map fun v => v.category).sum ≤ 8) (hdg : decode cc pc = .ok (.invokevirtual 59, 3)) (kk : ∀ (rr : Int32) (uu : va_W), (fun r v => ∃ k' ch', v = (MW ad dd n S L R h k' ch') ∧ k' < 268435456 ∧ ((¬ isT n x ∧ r = -1) ∨ ∃ j, j < n ∧ x = nI j ∧ isC n S L R (tb h) k' ∧ r = b2i (k'.testBit j))) rr uu → J uu (pc + 3) lv (.int rr :: rest)) : J (MW ad dd n S L R h k ch) pc lv (.int x :: .ref (ad 0) :: rest) :=
  gi_calli (n := 1) C (mm_knows hO hh hk) (lw_V q225 q213 q214 q18 q215) (by decide +kernel) hR 0 rfl rfl rfl rfl hcat hdg kk
set_option maxRecDepth 100000 in
theorem mm_would {l : Launch} {D : va_G} {ad : Nat → Nat} {dd : Nat → ClassId} {n : Nat} {S L R : Nat → Nat} {h k : Nat} {ch : Bool} {x y : Int32} (hO : tOK n S L R) (hh : h < 2 ^ n) (hk : k < 268435456) : GMi l D vwCl (mtys dd) yX1_would cX1_would 3 (some .int) 3 69 [.ref (ad 0), .int x, .int y] (MW ad dd n S L R h k ch) (fun r v => ∃ k' ch', v = (MW ad dd n S L R h k' ch') ∧ k' < 268435456 ∧ ((¬ (isT n x ∧ isT n y) ∧ r = -1) ∨ ∃ i j, i < n ∧ j < n ∧ x = nI i ∧ y = nI j ∧ isC n S L R (fun t => tb h t ∨ t = i) k' ∧ r = b2i (k'.testBit j))) := by
  refine g_methI (own := RX1) yX1_would cX1_would 3 rfl (by decide) (Nat.le_of_ble_eq_true rfl) (fun J C hret => ?_)
  change J (MW ad dd n S L R h k ch) 0 [(0, .ref (ad 0)), (1, .int x), (2, .int y)] []
  have hn := hO.2.1
  have h8n := hO.1
  refine gi_aload_n C dX1_would_0 rfl 0 rfl ?_
  refine gi_iload_n C dX1_would_1 rfl 1 rfl ?_
  refine rm_bad C (by decide) hn (Nat.le_of_ble_eq_true rfl) dX1_would_2 (fun r v hv => ?_)
  obtain ⟨b1, rfl, hb1, rfl⟩ := hv
  refine gb_ifne (tgt := 16) C dX1_would_5 (by decide) (fun h1 => ?_) (fun h1 => ?_)
  · refine gi_iconst (v := -1) C dX1_would_16 (by decide) ?_
    exact hret _ _ _ _ dX1_would_17 rfl ⟨k, ch, rfl, hk, Or.inl ⟨fun q => absurd (h1.symm.trans (hb1.mp q.1)) (by decide), rfl⟩⟩
  · refine gi_aload_n C dX1_would_8 rfl 0 rfl ?_
    refine gi_iload_n C dX1_would_9 rfl 2 rfl ?_
    refine rm_bad C (by decide) hn (Nat.le_of_ble_eq_true rfl) dX1_would_10 (fun r v hv => ?_)
    obtain ⟨b2, rfl, hb2, rfl⟩ := hv
    refine gb_ifeq (tgt := 18) C dX1_would_13 (by decide) (fun h2 => ?_) (fun h2 => ?_)
    · obtain ⟨i, hi, rfl⟩ := hb1.mpr h1
      obtain ⟨j, hj, rfl⟩ := hb2.mpr h2
      refine gi_aload_n C dX1_would_18 rfl 0 rfl ?_
      refine gi_iload_n C dX1_would_19 rfl 1 rfl ?_
      refine gi_iconst (v := nI 0) C dX1_would_20 (by decide) ?_
      refine gi_iconst (v := -1) C dX1_would_21 (by decide) ?_
      refine rm_work C (by decide) hO hh (by decide) (hx_t hn hi) hk (Nat.le_of_ble_eq_true rfl) dX1_would_22 (fun v hv => ?_)
      obtain ⟨k2, ch2, rfl, hv⟩ := hv
      refine gi_aload_n C dX1_would_25 rfl 0 rfl ?_
      refine mg5 C dX1_would_26 ?_
      refine gi_iload_n C dX1_would_29 rfl 2 rfl ?_
      refine ma5 C dX1_would_30 (by omega) ?_
      refine gb_ifeq (tgt := 38) C dX1_would_31 (by decide) (fun h3 => ?_) (fun h3 => ?_)
      · refine gi_iconst (v := nI 0) C dX1_would_38 (by decide) ?_
        exact hret _ _ _ _ dX1_would_39 rfl ⟨k2, ch2, rfl, p2_le hv.1 hn, Or.inr ⟨i, j, hi, hj, rfl, rfl, isC_congr hv (wkP_one hn hh hi), by rw [h3]; rfl⟩⟩
      · refine gi_iconst (v := nI 1) C dX1_would_34 (by decide) ?_
        refine gi_goto (tgt := 39) C dX1_would_35 (by decide) ?_
        exact hret _ _ _ _ dX1_would_39 rfl ⟨k2, ch2, rfl, p2_le hv.1 hn, Or.inr ⟨i, j, hi, hj, rfl, rfl, isC_congr hv (wkP_one hn hh hi), by rw [h3]; rfl⟩⟩
    · refine gi_iconst (v := -1) C dX1_would_16 (by decide) ?_
      exact hret _ _ _ _ dX1_would_17 rfl ⟨k, ch, rfl, hk, Or.inl ⟨fun q => absurd (h2.symm.trans (hb2.mp q.2)) (by decide), rfl⟩⟩
theorem rm_would {J : gJ} {cc : ByteArray} {nL fr lo pc : Nat} {lv : List (Nat × Value)} {rest : List Value} {l : Launch} {D : va_G} {ad : Nat → Nat} {dd : Nat → ClassId} {n : Nat} {S L R : Nat → Nat} {h k : Nat} {ch : Bool} (C : GC J l D vwCl (mtys dd) cc nL RX1 fr lo) (hR : 3 + 1 ≤ fr ∧ 8 + (3 + 11) + 69 ≤ lo) {x y : Int32} (hO : tOK n S L R) (hh : h < 2 ^ n) (hk : k < 268435456) (hcat : (rest.map fun v => v.category).sum ≤ 8) (hdg : decode cc pc = .ok (.invokevirtual 63, 3)) (kk : ∀ (rr : Int32) (uu : va_W), (fun r v => ∃ k' ch', v = (MW ad dd n S L R h k' ch') ∧ k' < 268435456 ∧ ((¬ (isT n x ∧ isT n y) ∧ r = -1) ∨ ∃ i j, i < n ∧ j < n ∧ x = nI i ∧ y = nI j ∧ isC n S L R (fun t => tb h t ∨ t = i) k' ∧ r = b2i (k'.testBit j))) rr uu → J uu (pc + 3) lv (.int rr :: rest)) : J (MW ad dd n S L R h k ch) pc lv (.int y :: .int x :: .ref (ad 0) :: rest) :=
  gi_calli (n := 2) C (mm_would hO hh hk) (lw_V q226 q218 q219 q18 q220) (by decide +kernel) hR 0 rfl rfl rfl rfl hcat hdg kk
end
section
/-! TermSecretsModel: leak, atomsFor, spare -/
set_option maxRecDepth 100000 in
theorem mm_leak {l : Launch} {D : va_G} {ad : Nat → Nat} {dd : Nat → ClassId} {n : Nat} {S L R : Nat → Nat} {h k : Nat} {ch : Bool} {x : Int32} (hO : tOK n S L R) (hh : h < 2 ^ n) (hk : k < 268435456) : GMi l D vwCl (mtys dd) yX1_leak cX1_leak 3 (some .int) 4 91 [.ref (ad 0), .int x] (MW ad dd n S L R h k ch) (fun r v => ∃ k' ch', v = (MW ad dd n S L R h k' ch') ∧ k' < 268435456 ∧ ((¬ isT n x ∧ r = -1) ∨ ∃ g, g < n ∧ x = nI g ∧ lkR n S L R h g r)) := by
  refine g_methI (own := RX1) yX1_leak cX1_leak 3 rfl (by decide) (Nat.le_of_ble_eq_true rfl) (fun J C hret => ?_)
  change J (MW ad dd n S L R h k ch) 0 [(0, .ref (ad 0)), (1, .int x)] []
  have hn := hO.2.1
  have h8n := hO.1
  refine gi_aload_n C dX1_leak_0 rfl 0 rfl ?_
  refine gi_iload_n C dX1_leak_1 rfl 1 rfl ?_
  refine rm_bad C (by decide) hn (Nat.le_of_ble_eq_true rfl) dX1_leak_2 (fun r v hv => ?_)
  obtain ⟨b1, rfl, hb1, rfl⟩ := hv
  refine gb_ifeq (tgt := 10) C dX1_leak_5 (by decide) (fun h1 => ?_) (fun h1 => ?_)
  · obtain ⟨g, hg, rfl⟩ := hb1.mpr h1
    refine gi_aload_n C dX1_leak_10 rfl 0 rfl ?_
    refine gi_iload_n C dX1_leak_11 rfl 1 rfl ?_
    refine rm_knows C (by decide) hO hh hk (Nat.le_of_ble_eq_true rfl) dX1_leak_12 (fun r v hv => ?_)
    obtain ⟨k2, ch2, rfl, hk2, hv⟩ := hv
    rcases hv with ⟨q, -⟩ | ⟨j, hj, ej, hv, rfl⟩
    · exact absurd ⟨g, hg, rfl⟩ q
    have ej2 := nI_inj hn hg hj ej
    subst ej2
    refine gi_iconst (v := nI 1) C dX1_leak_15 (by decide) ?_
    refine gn_icmp_ne (tgt := 22) C (by have := btn_le (k2.testBit g); omega) (by omega) dX1_leak_16 (by decide) (fun h2 => ?_) (fun h2 => ?_)
    · have hno : ¬ der n S L R (tb h) g := fun q => h2 (by rw [show k2.testBit g = true from (isC_der hv g).mpr q]; rfl)
      have loop : ∀ (d i k1 : Nat) (ch1 : Bool), i + d = n → k1 < 268435456 → (∀ u, u < i → ¬ der n S L R (fun t => tb h t ∨ t = u) g) → J (MW ad dd n S L R h k1 ch1) 24 [(0, .ref (ad 0)), (1, .int (nI g)), (2, .int (nI i))] [] := by
        intro d
        induction d with
        | zero =>
          intro i k1 ch1 hi hk1 hu
          exact absurd (der_self (Or.inr rfl)) (hu g (by omega))
        | succ d ih =>
          intro i k1 ch1 hi hk1 hu
          refine gi_iload_n C dX1_leak_24 rfl 2 rfl ?_
          refine gi_aload_n C dX1_leak_25 rfl 0 rfl ?_
          refine mg0 C dX1_leak_26 ?_
          refine gn_icmp_ge (tgt := 50) C (by omega) (by omega) dX1_leak_29 (by decide) (fun h3 => ?_) (fun h3 => ?_)
          · omega
          · refine gi_aload_n C dX1_leak_32 rfl 0 rfl ?_
            refine gi_iload_n C dX1_leak_33 rfl 2 rfl ?_
            refine gi_iload_n C dX1_leak_34 rfl 1 rfl ?_
            refine rm_would C (by decide) hO hh hk1 (Nat.le_of_ble_eq_true rfl) dX1_leak_35 (fun r v hv => ?_)
            obtain ⟨k3, ch3, rfl, hk3, hv⟩ := hv
            rcases hv with ⟨q, -⟩ | ⟨i2, j2, hi2, hj2, ei, ej, hv3, rfl⟩
            · exact absurd ⟨⟨i, by omega, rfl⟩, ⟨g, hg, rfl⟩⟩ q
            have ei2 := nI_inj hn (show i < n by omega) hi2 ei
            subst ei2
            have ej2 := nI_inj hn hg hj2 ej
            subst ej2
            refine gi_iconst (v := nI 1) C dX1_leak_38 (by decide) ?_
            refine gn_icmp_ne (tgt := 44) C (by have := btn_le (k3.testBit g); omega) (by omega) dX1_leak_39 (by decide) (fun h4 => ?_) (fun h4 => ?_)
            · refine gn_iinc (lv' := [(2, _), (0, _), (1, _)]) C dX1_leak_44 2 rfl (by decide) rfl ?_
              refine gi_goto (tgt := 24) C dX1_leak_47 (by decide) ?_
              refine gi_sub (lv' := [(0, _), (1, _), (2, _)]) C [1, 2, 0] rfl ?_
              refine ih (i + 1) k3 ch3 (by omega) hk3 (fun u q => ?_)
              by_cases e : u = i
              · rw [e]; exact fun z => h4 (by rw [show k3.testBit g = true from (isC_der hv3 g).mpr z]; rfl)
              · exact hu u (by omega)
            · have h5 : tb k3 g := by
                cases hb : k3.testBit g with
                | true => exact hb
                | false => rw [hb] at h4; cases h4
              have hig : i ≤ g := by
                rcases Nat.lt_or_ge g i with z | z
                · exact absurd (der_self (Or.inr rfl)) (hu g z)
                · exact z
              refine gi_iload_n C dX1_leak_42 rfl 2 rfl ?_
              exact hret _ _ _ _ dX1_leak_43 rfl ⟨k3, ch3, rfl, hk3, Or.inr ⟨g, hg, rfl, Or.inr ⟨hno, i, hig, rfl, (isC_der hv3 g).mp h5, hu⟩⟩⟩
      refine gi_iconst (v := nI 0) C dX1_leak_22 (by decide) ?_
      refine gi_istore_n (lv' := [(2, _), (0, _), (1, _)]) C dX1_leak_23 rfl (by decide) rfl ?_
      refine gi_sub (lv' := [(0, _), (1, _), (2, _)]) C [1, 2, 0] rfl ?_
      exact loop n 0 k2 ch2 (by omega) hk2 (fun u q => absurd q (by omega))
    · have h5 : tb k2 g := by
        cases hb : k2.testBit g with
        | true => exact hb
        | false => rw [hb] at h2; cases h2
      refine gi_bipush (v := -2) C dX1_leak_19 (by decide) ?_
      exact hret _ _ _ _ dX1_leak_21 rfl ⟨k2, ch2, rfl, hk2, Or.inr ⟨g, hg, rfl, Or.inl ⟨(isC_der hv g).mp h5, rfl⟩⟩⟩
  · refine gi_iconst (v := -1) C dX1_leak_8 (by decide) ?_
    exact hret _ _ _ _ dX1_leak_9 rfl ⟨k, ch, rfl, hk, Or.inl ⟨fun q => absurd (h1.symm.trans (hb1.mp q)) (by decide), rfl⟩⟩
set_option maxRecDepth 100000 in
theorem mm_atomsFor {l : Launch} {D : va_G} {ad : Nat → Nat} {dd : Nat → ClassId} {n : Nat} {S L R : Nat → Nat} {h k : Nat} {ch : Bool} {x : Int32} (hO : tOK n S L R) (hh : h < 2 ^ n) (hk : k < 268435456) : GMi l D vwCl (mtys dd) yX1_atomsFor cX1_atomsFor 5 (some .int) 3 69 [.ref (ad 0), .int x] (MW ad dd n S L R h k ch) (fun r v => ∃ k' ch', v = (MW ad dd n S L R h k' ch') ∧ k' < 268435456 ∧ ((¬ isT n x ∧ r = -1) ∨ ∃ g, g < n ∧ x = nI g ∧ atR n S L R h g r)) := by
  refine g_methI (own := RX1) yX1_atomsFor cX1_atomsFor 5 rfl (by decide) (Nat.le_of_ble_eq_true rfl) (fun J C hret => ?_)
  change J (MW ad dd n S L R h k ch) 0 [(0, .ref (ad 0)), (1, .int x)] []
  have hn := hO.2.1
  have h8n := hO.1
  refine gi_aload_n C dX1_atomsFor_0 rfl 0 rfl ?_
  refine gi_iload_n C dX1_atomsFor_1 rfl 1 rfl ?_
  refine rm_bad C (by decide) hn (Nat.le_of_ble_eq_true rfl) dX1_atomsFor_2 (fun r v hv => ?_)
  obtain ⟨b1, rfl, hb1, rfl⟩ := hv
  refine gb_ifeq (tgt := 10) C dX1_atomsFor_5 (by decide) (fun h1 => ?_) (fun h1 => ?_)
  · obtain ⟨g, hg, rfl⟩ := hb1.mpr h1
    have loop : ∀ (d i b k1 : Nat) (ch1 : Bool), i + d = 256 → k1 < 268435456 → b ≤ 8 → (b = 8 ∨ ∃ e, e < 256 ∧ cnt e 8 = b ∧ der n S L R (fun t => tb h t ∨ tb e t) g) → (∀ e, e < i → der n S L R (fun t => tb h t ∨ tb e t) g → b ≤ cnt e 8) → J (MW ad dd n S L R h k1 ch1) 15 [(0, .ref (ad 0)), (1, .int (nI g)), (2, .int (nI b)), (3, .int (nI i))] [] := by
      intro d
      induction d with
      | zero =>
        intro i b k1 ch1 hi hk1 hb hx hu
        refine gi_iload_n C dX1_atomsFor_15 rfl 3 rfl ?_
        refine gi_sipush (v := nI 256) C dX1_atomsFor_16 (by decide) ?_
        refine gn_icmp_ge (tgt := 59) C (by omega) (by omega) dX1_atomsFor_19 (by decide) (fun h3 => ?_) (fun h3 => ?_)
        · refine gi_iload_n C dX1_atomsFor_59 rfl 2 rfl ?_
          exact hret _ _ _ _ dX1_atomsFor_60 rfl ⟨k1, ch1, rfl, hk1, Or.inr ⟨g, hg, rfl, b, rfl, hb, hx, fun e he => hu e (by omega)⟩⟩
        · omega
      | succ d ih =>
        intro i b k1 ch1 hi hk1 hb hx hu
        have hc8 := cnt_le i 8
        have next : ∀ (b k1 : Nat) (ch1 : Bool), k1 < 268435456 → b ≤ 8 → (b = 8 ∨ ∃ e, e < 256 ∧ cnt e 8 = b ∧ der n S L R (fun t => tb h t ∨ tb e t) g) → (∀ e, e < i + 1 → der n S L R (fun t => tb h t ∨ tb e t) g → b ≤ cnt e 8) → J (MW ad dd n S L R h k1 ch1) 53 [(0, .ref (ad 0)), (1, .int (nI g)), (2, .int (nI b)), (3, .int (nI i))] [] := by
          intro b k1 ch1 hk1 hb hx hu
          refine gn_iinc (lv' := [(3, _), (0, _), (1, _), (2, _)]) C dX1_atomsFor_53 3 rfl (by decide) rfl ?_
          refine gi_goto (tgt := 15) C dX1_atomsFor_56 (by decide) ?_
          refine gi_sub (lv' := [(0, _), (1, _), (2, _), (3, _)]) C [1, 2, 3, 0] rfl ?_
          exact ih (i + 1) b k1 ch1 (by omega) hk1 hb hx hu
        have stay : (der n S L R (fun t => tb h t ∨ tb i t) g → b ≤ cnt i 8) → ∀ e, e < i + 1 → der n S L R (fun t => tb h t ∨ tb e t) g → b ≤ cnt e 8 := by
          intro q e he
          by_cases ee : e = i
          · rw [ee]; exact q
          · exact hu e (by omega)
        refine gi_iload_n C dX1_atomsFor_15 rfl 3 rfl ?_
        refine gi_sipush (v := nI 256) C dX1_atomsFor_16 (by decide) ?_
        refine gn_icmp_ge (tgt := 59) C (by omega) (by omega) dX1_atomsFor_19 (by decide) (fun h3 => ?_) (fun h3 => ?_)
        · omega
        · refine gi_iload_n C dX1_atomsFor_22 rfl 3 rfl ?_
          refine rm_ones_s C (by decide) (by omega) (Nat.le_of_ble_eq_true rfl) dX1_atomsFor_23 ?_
          refine gi_istore (lv' := [(4, _), (0, _), (1, _), (2, _), (3, _)]) C dX1_atomsFor_26 (by decide) rfl ?_
          refine gi_iload C dX1_atomsFor_28 0 rfl ?_
          refine gi_iload_n C dX1_atomsFor_30 rfl 3 rfl ?_
          refine gn_icmp_ge (tgt := 53) C (by omega) (by omega) dX1_atomsFor_31 (by decide) (fun h4 => ?_) (fun h4 => ?_)
          · refine gi_sub (lv' := [(0, _), (1, _), (2, _), (3, _)]) C [1, 2, 3, 4] rfl ?_
            exact next b k1 ch1 hk1 hb hx (stay (fun _ => h4))
          · refine gi_aload_n C dX1_atomsFor_34 rfl 1 rfl ?_
            refine gi_iconst (v := -1) C dX1_atomsFor_35 (by decide) ?_
            refine gi_iload_n C dX1_atomsFor_36 rfl 4 rfl ?_
            refine gi_iconst (v := -1) C dX1_atomsFor_37 (by decide) ?_
            refine rm_work C (by decide) hO hh (by omega) hx_m1 hk1 (Nat.le_of_ble_eq_true rfl) dX1_atomsFor_38 (fun v hv => ?_)
            obtain ⟨k2, ch2, rfl, hv⟩ := hv
            have hv2 := isC_congr hv (wkP_set hn hh (show i < 256 by omega))
            have hk2 := p2_le hv.1 hn
            refine gi_aload_n C dX1_atomsFor_41 rfl 1 rfl ?_
            refine mg5 C dX1_atomsFor_42 ?_
            refine gi_iload_n C dX1_atomsFor_45 rfl 2 rfl ?_
            refine ma5 C dX1_atomsFor_46 (by omega) ?_
            refine gb_ifeq (tgt := 53) C dX1_atomsFor_47 (by decide) (fun h6 => ?_) (fun h6 => ?_)
            · refine gi_sub (lv' := [(0, _), (1, _), (2, _), (3, _)]) C [1, 2, 3, 4] rfl ?_
              exact next b k2 ch2 hk2 hb hx (stay (fun q => absurd ((isC_der hv2 g).mpr q) (tb_f h6)))
            · refine gi_iload C dX1_atomsFor_50 0 rfl ?_
              refine gi_istore_n (lv' := [(2, _), (4, _), (0, _), (1, _), (3, _)]) C dX1_atomsFor_52 rfl (by decide) rfl ?_
              refine gi_sub (lv' := [(0, _), (1, _), (2, _), (3, _)]) C [2, 3, 0, 4] rfl ?_
              refine next (cnt i 8) k2 ch2 hk2 (by omega) (Or.inr ⟨i, by omega, rfl, (isC_der hv2 g).mp h6⟩) (fun e he q2 => ?_)
              by_cases ee : e = i
              · rw [ee]; exact Nat.le_refl _
              · have := hu e (by omega) q2; omega
    refine gi_bipush (v := nI 8) C dX1_atomsFor_10 (by decide) ?_
    refine gi_istore_n (lv' := [(2, _), (0, _), (1, _)]) C dX1_atomsFor_12 rfl (by decide) rfl ?_
    refine gi_iconst (v := nI 0) C dX1_atomsFor_13 (by decide) ?_
    refine gi_istore_n (lv' := [(3, _), (2, _), (0, _), (1, _)]) C dX1_atomsFor_14 rfl (by decide) rfl ?_
    refine gi_sub (lv' := [(0, _), (1, _), (2, _), (3, _)]) C [2, 3, 1, 0] rfl ?_
    exact loop 256 0 8 k ch rfl hk (Nat.le_refl 8) (Or.inl rfl) (fun e q => absurd q (by omega))
  · refine gi_iconst (v := -1) C dX1_atomsFor_8 (by decide) ?_
    exact hret _ _ _ _ dX1_atomsFor_9 rfl ⟨k, ch, rfl, hk, Or.inl ⟨fun q => absurd (h1.symm.trans (hb1.mp q)) (by decide), rfl⟩⟩
set_option maxRecDepth 100000 in
theorem mm_spare {l : Launch} {D : va_G} {ad : Nat → Nat} {dd : Nat → ClassId} {n : Nat} {S L R : Nat → Nat} {h k : Nat} {ch : Bool} (hO : tOK n S L R) (hh : h < 2 ^ n) (hk : k < 268435456) : GMi l D vwCl (mtys dd) yX1_spare cX1_spare 3 (some .int) 3 69 [.ref (ad 0)] (MW ad dd n S L R h k ch) (fun r v => ∃ k' ch', v = (MW ad dd n S L R h k' ch') ∧ k' < 268435456 ∧ r = nI (cntf (spf n S L R h) n)) := by
  refine g_methI (own := RX1) yX1_spare cX1_spare 3 rfl (by decide) (Nat.le_of_ble_eq_true rfl) (fun J C hret => ?_)
  change J (MW ad dd n S L R h k ch) 0 [(0, .ref (ad 0))] []
  have hn := hO.2.1
  have loop : ∀ (d i k1 : Nat) (ch1 : Bool), i + d = n → k1 < 268435456 → J (MW ad dd n S L R h k1 ch1) 4 [(0, .ref (ad 0)), (1, .int (nI (cntf (spf n S L R h) i))), (2, .int (nI i))] [] := by
    intro d
    induction d with
    | zero =>
      intro i k1 ch1 hi hk1
      refine gi_iload_n C dX1_spare_4 rfl 2 rfl ?_
      refine gi_aload_n C dX1_spare_5 rfl 0 rfl ?_
      refine mg0 C dX1_spare_6 ?_
      refine gn_icmp_ge (tgt := 46) C (by omega) (by omega) dX1_spare_9 (by decide) (fun h3 => ?_) (fun h3 => ?_)
      · have e1 : i = n := by omega
        subst e1
        refine gi_iload_n C dX1_spare_46 rfl 1 rfl ?_
        exact hret _ _ _ _ dX1_spare_47 rfl ⟨k1, ch1, rfl, hk1, rfl⟩
      · omega
    | succ d ih =>
      intro i k1 ch1 hi hk1
      have step : ∀ v : Bool, spf n S L R h i = v → cntf (spf n S L R h) (i + 1) = cntf (spf n S L R h) i + v.toNat := fun v q => by show cntf _ i + (spf n S L R h i).toNat = _; rw [q]
      refine gi_iload_n C dX1_spare_4 rfl 2 rfl ?_
      refine gi_aload_n C dX1_spare_5 rfl 0 rfl ?_
      refine mg0 C dX1_spare_6 ?_
      refine gn_icmp_ge (tgt := 46) C (by omega) (by omega) dX1_spare_9 (by decide) (fun h3 => ?_) (fun h3 => ?_)
      · omega
      · refine gi_aload_n C dX1_spare_12 rfl 0 rfl ?_
        refine mg4 C dX1_spare_13 ?_
        refine gi_iload_n C dX1_spare_16 rfl 2 rfl ?_
        refine ma4 C dX1_spare_17 (by omega) ?_
        refine gb_ifeq (tgt := 40) C dX1_spare_18 (by decide) (fun h4 => ?_) (fun h4 => ?_)
        · refine gn_iinc (lv' := [(2, _), (0, _), (1, _)]) C dX1_spare_40 2 rfl (by decide) rfl ?_
          refine gi_goto (tgt := 4) C dX1_spare_43 (by decide) ?_
          refine gi_sub (lv' := [(0, _), (1, _), (2, _)]) C [1, 2, 0] rfl ?_
          have e1 := step false (by cases hs : spf n S L R h i with | false => rfl | true => exact absurd ((spf_iff n S L R h i).mp hs).1 (tb_f h4))
          have e2 := ih (i + 1) k1 ch1 (by omega) hk1
          rw [e1] at e2
          exact e2
        · refine gi_aload_n C dX1_spare_21 rfl 0 rfl ?_
          refine gi_iconst (v := -1) C dX1_spare_22 (by decide) ?_
          refine gi_iconst (v := nI 0) C dX1_spare_23 (by decide) ?_
          refine gi_iload_n C dX1_spare_24 rfl 2 rfl ?_
          refine rm_work C (by decide) hO hh (by decide) hx_m1 hk1 (Nat.le_of_ble_eq_true rfl) dX1_spare_25 (fun v hv => ?_)
          obtain ⟨k2, ch2, rfl, hv⟩ := hv
          have hv2 := isC_congr hv (wkP_less hn hh (show i < n by omega))
          have hk2 := p2_le hv.1 hn
          refine gi_aload_n C dX1_spare_28 rfl 0 rfl ?_
          refine mg5 C dX1_spare_29 ?_
          refine gi_iload_n C dX1_spare_32 rfl 2 rfl ?_
          refine ma5 C dX1_spare_33 (by omega) ?_
          refine gb_ifeq (tgt := 40) C dX1_spare_34 (by decide) (fun h5 => ?_) (fun h5 => ?_)
          · refine gn_iinc (lv' := [(2, _), (0, _), (1, _)]) C dX1_spare_40 2 rfl (by decide) rfl ?_
            refine gi_goto (tgt := 4) C dX1_spare_43 (by decide) ?_
            refine gi_sub (lv' := [(0, _), (1, _), (2, _)]) C [1, 2, 0] rfl ?_
            have e1 := step false (by cases hs : spf n S L R h i with | false => rfl | true => exact absurd ((isC_der hv2 i).mpr ((spf_iff n S L R h i).mp hs).2) (tb_f h5))
            have e2 := ih (i + 1) k2 ch2 (by omega) hk2
            rw [e1] at e2
            exact e2
          · refine gn_iinc (lv' := [(1, _), (0, _), (2, _)]) C dX1_spare_37 1 rfl (by decide) rfl ?_
            refine gn_iinc (lv' := [(2, _), (1, _), (0, _)]) C dX1_spare_40 2 rfl (by decide) rfl ?_
            refine gi_goto (tgt := 4) C dX1_spare_43 (by decide) ?_
            refine gi_sub (lv' := [(0, _), (1, _), (2, _)]) C [2, 1, 0] rfl ?_
            have e1 := step true ((spf_iff n S L R h i).mpr ⟨h4, (isC_der hv2 i).mp h5⟩)
            have e2 := ih (i + 1) k2 ch2 (by omega) hk2
            rw [e1] at e2
            exact e2
  refine gi_iconst (v := nI 0) C dX1_spare_0 (by decide) ?_
  refine gi_istore_n (lv' := [(1, _), (0, _)]) C dX1_spare_1 rfl (by decide) rfl ?_
  refine gi_iconst (v := nI 0) C dX1_spare_2 (by decide) ?_
  refine gi_istore_n (lv' := [(2, _), (1, _), (0, _)]) C dX1_spare_3 rfl (by decide) rfl ?_
  refine gi_sub (lv' := [(0, _), (1, _), (2, _)]) C [2, 1, 0] rfl ?_
  exact loop n 0 k ch (by omega) hk
end
section
/-! TermSecretsModel: terms -/
set_option maxRecDepth 100000 in
theorem mm_make {l : Launch} {D : va_G} {ad : Nat → Nat} {dd : Nat → ClassId} {n : Nat} {S L R : Nat → Nat} {h k : Nat} {ch : Bool} {s : Nat} {x y : Int32} (hO : tOK n S L R) (hs : s < 3) : GMi l D vwCl (mtys dd) yX1_make cX1_make 5 (some .int) 1 21 [.ref (ad 0), .int (nI s), .int x, .int y] (MW ad dd n S L R h k ch) (fun r v => ∃ n' S' L' R', v = (MW ad dd n' S' L' R' h k ch) ∧ mkP n S L R s x y r n' S' L' R') := by
  refine g_methI (own := RX1) yX1_make cX1_make 5 rfl (by decide) (Nat.le_of_ble_eq_true rfl) (fun J C hret => ?_)
  change J (MW ad dd n S L R h k ch) 0 [(0, .ref (ad 0)), (1, .int (nI s)), (2, .int x), (3, .int y)] []
  have hn := hO.2.1
  have h8n := hO.1
  refine gi_aload_n C dX1_make_0 rfl 0 rfl ?_
  refine gi_iload_n C dX1_make_1 rfl 2 rfl ?_
  refine rm_bad C (by decide) hn (Nat.le_of_ble_eq_true rfl) dX1_make_2 (fun r v hv => ?_)
  obtain ⟨b1, rfl, hb1, rfl⟩ := hv
  refine gb_ifne (tgt := 16) C dX1_make_5 (by decide) (fun h1 => ?_) (fun h1 => ?_)
  · refine gi_iconst (v := -1) C dX1_make_16 (by decide) ?_
    exact hret _ _ _ _ dX1_make_17 rfl ⟨n, S, L, R, rfl, Or.inl ⟨fun q => absurd (h1.symm.trans (hb1.mp q.1)) (by decide), rfl, rfl, rfl, rfl, rfl⟩⟩
  · refine gi_aload_n C dX1_make_8 rfl 0 rfl ?_
    refine gi_iload_n C dX1_make_9 rfl 3 rfl ?_
    refine rm_bad C (by decide) hn (Nat.le_of_ble_eq_true rfl) dX1_make_10 (fun r v hv => ?_)
    obtain ⟨b2, rfl, hb2, rfl⟩ := hv
    refine gb_ifeq (tgt := 18) C dX1_make_13 (by decide) (fun h2 => ?_) (fun h2 => ?_)
    · obtain ⟨a, ha, rfl⟩ := hb1.mpr h1
      obtain ⟨b, hb, rfl⟩ := hb2.mpr h2
      have loop : ∀ (d i : Nat), i + d = n → 8 ≤ i → (∀ u, 8 ≤ u → u < i → ¬ mt S L R s a b u) → J (MW ad dd n S L R h k ch) 22 [(0, .ref (ad 0)), (1, .int (nI s)), (2, .int (nI a)), (3, .int (nI b)), (4, .int (nI i))] [] := by
        intro d
        induction d with
        | zero =>
          intro i hi h8 hno
          refine gi_iload C dX1_make_22 4 rfl ?_
          refine gi_aload_n C dX1_make_24 rfl 0 rfl ?_
          refine mg0 C dX1_make_25 ?_
          refine gn_icmp_ge (tgt := 73) C (by omega) (by omega) dX1_make_28 (by decide) (fun h3 => ?_) (fun h3 => ?_)
          · have e1 : i = n := by omega
            subst e1
            refine gi_aload_n C dX1_make_73 rfl 0 rfl ?_
            refine mg0 C dX1_make_74 ?_
            refine gi_bipush (v := nI 28) C dX1_make_77 (by decide) ?_
            refine gn_icmp_ne (tgt := 84) C (by omega) (by omega) dX1_make_79 (by decide) (fun h4 => ?_) (fun h4 => ?_)
            · have hi28 : i < 28 := by omega
              refine gi_aload_n C dX1_make_84 rfl 0 rfl ?_
              refine mg1 C dX1_make_85 ?_
              refine gi_aload_n C dX1_make_88 rfl 0 rfl ?_
              refine mg0 C dX1_make_89 ?_
              refine gi_iload_n C dX1_make_92 rfl 1 rfl ?_
              refine ms1 C dX1_make_93 (by omega) ?_
              refine gi_aload_n C dX1_make_94 rfl 0 rfl ?_
              refine mg2 C dX1_make_95 ?_
              refine gi_aload_n C dX1_make_98 rfl 0 rfl ?_
              refine mg0 C dX1_make_99 ?_
              refine gi_iload_n C dX1_make_102 rfl 2 rfl ?_
              refine ms2 C dX1_make_103 (by omega) ?_
              refine gi_aload_n C dX1_make_104 rfl 0 rfl ?_
              refine mg3 C dX1_make_105 ?_
              refine gi_aload_n C dX1_make_108 rfl 0 rfl ?_
              refine mg0 C dX1_make_109 ?_
              refine gi_iload_n C dX1_make_112 rfl 3 rfl ?_
              refine ms3 C dX1_make_113 (by omega) ?_
              refine gi_aload_n C dX1_make_114 rfl 0 rfl ?_
              refine gi_dup C dX1_make_115 rfl ?_
              refine mg0 C dX1_make_116 ?_
              refine gi_iconst (v := nI 1) C dX1_make_119 (by decide) ?_
              refine gn_iadd C dX1_make_120 ?_
              refine mp0 C dX1_make_121 ?_
              refine gi_aload_n C dX1_make_124 rfl 0 rfl ?_
              refine mg0 C dX1_make_125 ?_
              refine gi_iconst (v := nI 1) C dX1_make_128 (by decide) ?_
              refine gn_isub C dX1_make_129 (by omega) ?_
              refine gi_top (y := nI i) (by rw [Nat.add_sub_cancel]) ?_
              exact hret _ _ _ _ dX1_make_130 rfl ⟨_, _, _, _, rfl, Or.inr ⟨a, b, ha, hb, rfl, rfl, Or.inr ⟨hno, Or.inr ⟨hi28, rfl, rfl, rfl, rfl, rfl⟩⟩⟩⟩
            · refine gi_iconst (v := -1) C dX1_make_82 (by decide) ?_
              exact hret _ _ _ _ dX1_make_83 rfl ⟨i, S, L, R, rfl, Or.inr ⟨a, b, ha, hb, rfl, rfl, Or.inr ⟨hno, Or.inl ⟨h4, rfl, rfl, rfl, rfl, rfl⟩⟩⟩⟩
          · omega
        | succ d ih =>
          intro i hi h8 hno
          have hin : i < n := by omega
          obtain ⟨hSi, hLi, hRi⟩ := hO.2.2.2 i h8 hin
          have next : ¬ mt S L R s a b i → J (MW ad dd n S L R h k ch) 67 [(0, .ref (ad 0)), (1, .int (nI s)), (2, .int (nI a)), (3, .int (nI b)), (4, .int (nI i))] [] := by
            intro hni
            refine gn_iinc (lv' := [(4, _), (0, _), (1, _), (2, _), (3, _)]) C dX1_make_67 4 rfl (by decide) rfl ?_
            refine gi_goto (tgt := 22) C dX1_make_70 (by decide) ?_
            refine gi_sub (lv' := [(0, _), (1, _), (2, _), (3, _), (4, _)]) C [1, 2, 3, 4, 0] rfl ?_
            refine ih (i + 1) (by omega) (by omega) (fun u q1 q2 => ?_)
            by_cases e : u = i
            · rw [e]; exact hni
            · exact hno u q1 (by omega)
          refine gi_iload C dX1_make_22 4 rfl ?_
          refine gi_aload_n C dX1_make_24 rfl 0 rfl ?_
          refine mg0 C dX1_make_25 ?_
          refine gn_icmp_ge (tgt := 73) C (by omega) (by omega) dX1_make_28 (by decide) (fun h3 => ?_) (fun h3 => ?_)
          · omega
          · refine gi_aload_n C dX1_make_31 rfl 0 rfl ?_
            refine mg1 C dX1_make_32 ?_
            refine gi_iload C dX1_make_35 4 rfl ?_
            refine ma1 C dX1_make_37 (by omega) ?_
            refine gi_iload_n C dX1_make_38 rfl 1 rfl ?_
            refine gn_icmp_ne (tgt := 67) C (by omega) (by omega) dX1_make_39 (by decide) (fun h4 => ?_) (fun h4 => ?_)
            · exact next (fun q => h4 q.1)
            · refine gi_aload_n C dX1_make_42 rfl 0 rfl ?_
              refine mg2 C dX1_make_43 ?_
              refine gi_iload C dX1_make_46 4 rfl ?_
              refine ma2 C dX1_make_48 (by omega) ?_
              refine gi_iload_n C dX1_make_49 rfl 2 rfl ?_
              refine gn_icmp_ne (tgt := 67) C (by omega) (by omega) dX1_make_50 (by decide) (fun h5 => ?_) (fun h5 => ?_)
              · exact next (fun q => h5 q.2.1)
              · refine gi_aload_n C dX1_make_53 rfl 0 rfl ?_
                refine mg3 C dX1_make_54 ?_
                refine gi_iload C dX1_make_57 4 rfl ?_
                refine ma3 C dX1_make_59 (by omega) ?_
                refine gi_iload_n C dX1_make_60 rfl 3 rfl ?_
                refine gn_icmp_ne (tgt := 67) C (by omega) (by omega) dX1_make_61 (by decide) (fun h6 => ?_) (fun h6 => ?_)
                · exact next (fun q => h6 q.2.2)
                · refine gi_iload C dX1_make_64 4 rfl ?_
                  exact hret _ _ _ _ dX1_make_66 rfl ⟨n, S, L, R, rfl, Or.inr ⟨a, b, ha, hb, rfl, rfl, Or.inl ⟨i, ⟨h8, hin, ⟨h4, h5, h6⟩, hno⟩, rfl, rfl, rfl, rfl, rfl⟩⟩⟩
      refine gi_bipush (v := nI 8) C dX1_make_18 (by decide) ?_
      refine gi_istore (lv' := [(4, _), (0, _), (1, _), (2, _), (3, _)]) C dX1_make_20 (by decide) rfl ?_
      refine gi_sub (lv' := [(0, _), (1, _), (2, _), (3, _), (4, _)]) C [1, 2, 3, 4, 0] rfl ?_
      exact loop (n - 8) 8 (by omega) (Nat.le_refl 8) (fun u q1 q2 => absurd q1 (by omega))
    · refine gi_iconst (v := -1) C dX1_make_16 (by decide) ?_
      exact hret _ _ _ _ dX1_make_17 rfl ⟨n, S, L, R, rfl, Or.inl ⟨fun q => absurd (h2.symm.trans (hb2.mp q.2)) (by decide), rfl, rfl, rfl, rfl, rfl⟩⟩
theorem rm_make {J : gJ} {cc : ByteArray} {nL fr lo pc : Nat} {lv : List (Nat × Value)} {rest : List Value} {l : Launch} {D : va_G} {ad : Nat → Nat} {dd : Nat → ClassId} {n : Nat} {S L R : Nat → Nat} {h k : Nat} {ch : Bool} (C : GC J l D vwCl (mtys dd) cc nL RX1 fr lo) (hR : 1 + 1 ≤ fr ∧ 8 + (5 + 11) + 21 ≤ lo) {s : Nat} {x y : Int32} (hO : tOK n S L R) (hs : s < 3) (hcat : (rest.map fun v => v.category).sum ≤ 8) (hdg : decode cc pc = .ok (.invokevirtual 34, 3)) (kk : ∀ (rr : Int32) (uu : va_W), (fun r v => ∃ n' S' L' R', v = (MW ad dd n' S' L' R' h k ch) ∧ mkP n S L R s x y r n' S' L' R') rr uu → J uu (pc + 3) lv (.int rr :: rest)) : J (MW ad dd n S L R h k ch) pc lv (.int y :: .int x :: .int (nI s) :: .ref (ad 0) :: rest) :=
  gi_calli (n := 3) C (mm_make hO hs) (lw_V q172 q174 qs10 q18 q175) (by decide +kernel) hR 0 rfl rfl rfl rfl hcat hdg kk
set_option maxRecDepth 100000 in
theorem mm_pair {l : Launch} {D : va_G} {ad : Nat → Nat} {dd : Nat → ClassId} {n : Nat} {S L R : Nat → Nat} {h k : Nat} {ch : Bool} {x y : Int32} (hO : tOK n S L R) : GMi l D vwCl (mtys dd) yX1_pair cX1_pair 3 (some .int) 2 45 [.ref (ad 0), .int x, .int y] (MW ad dd n S L R h k ch) (fun r v => ∃ n' S' L' R', v = (MW ad dd n' S' L' R' h k ch) ∧ mkP n S L R 1 x y r n' S' L' R') := by
  refine g_methI (own := RX1) yX1_pair cX1_pair 3 rfl (by decide) (Nat.le_of_ble_eq_true rfl) (fun J C hret => ?_)
  change J (MW ad dd n S L R h k ch) 0 [(0, .ref (ad 0)), (1, .int x), (2, .int y)] []
  refine gi_aload_n C dX1_pair_0 rfl 0 rfl ?_
  refine gi_iconst (v := nI 1) C dX1_pair_1 (by decide) ?_
  refine gi_iload_n C dX1_pair_2 rfl 1 rfl ?_
  refine gi_iload_n C dX1_pair_3 rfl 2 rfl ?_
  refine rm_make C (by decide) hO (by decide) (Nat.le_of_ble_eq_true rfl) dX1_pair_4 (fun r v hv => ?_)
  exact hret _ _ _ _ dX1_pair_7 rfl hv
set_option maxRecDepth 100000 in
theorem mm_lock {l : Launch} {D : va_G} {ad : Nat → Nat} {dd : Nat → ClassId} {n : Nat} {S L R : Nat → Nat} {h k : Nat} {ch : Bool} {x y : Int32} (hO : tOK n S L R) : GMi l D vwCl (mtys dd) yX1_lock cX1_lock 3 (some .int) 2 45 [.ref (ad 0), .int x, .int y] (MW ad dd n S L R h k ch) (fun r v => ∃ n' S' L' R', v = (MW ad dd n' S' L' R' h k ch) ∧ mkP n S L R 2 x y r n' S' L' R') := by
  refine g_methI (own := RX1) yX1_lock cX1_lock 3 rfl (by decide) (Nat.le_of_ble_eq_true rfl) (fun J C hret => ?_)
  change J (MW ad dd n S L R h k ch) 0 [(0, .ref (ad 0)), (1, .int x), (2, .int y)] []
  refine gi_aload_n C dX1_lock_0 rfl 0 rfl ?_
  refine gi_iconst (v := nI 2) C dX1_lock_1 (by decide) ?_
  refine gi_iload_n C dX1_lock_2 rfl 1 rfl ?_
  refine gi_iload_n C dX1_lock_3 rfl 2 rfl ?_
  refine rm_make C (by decide) hO (by decide) (Nat.le_of_ble_eq_true rfl) dX1_lock_4 (fun r v hv => ?_)
  exact hret _ _ _ _ dX1_lock_7 rfl hv
end
section
/-! THE CONSTRUCTORS -/
def XN (h0 : Nat) : va_W := [(h0, .inr (0, [.int 0, .null, .null, .null, .null, .int 0, .int 0, .int 0, .null]))]
def MN (h0 : Nat) : va_W := [(h0, .inr (1, [.int 0, .null, .null, .null, .null, .null, .int 0]))]
def XZ (ad : Nat → Nat) (dd : Nat → ClassId) : va_W := XW ad dd 8 (fun _ => 0) (fun _ => 0) (fun _ => 0) (fun _ => 0) 0 0 0 (fun _ => 0)
def MZ (ad : Nat → Nat) (dd : Nat → ClassId) : va_W := MW ad dd 8 (fun _ => 0) (fun _ => 0) (fun _ => 0) 0 0 false
theorem z_bool (cA : ClassId) : vp_cell cA (28, .inl (fun i => b2i (Nat.testBit 0 i))) = arrV cA 28 (fun _ => defaultValue .boolean) := by
  have e : (fun i => b2i (Nat.testBit 0 i)) = fun _ : Nat => b2i false := by
    funext i
    rw [Nat.zero_testBit]
  rw [e]
  rfl
set_option maxHeartbeats 4000000 in
set_option maxRecDepth 100000 in
theorem mx_init (l : Launch) (D : va_G) (h0 sz : Nat) : Met l yX0_init (ws_ yX0_init cX0_init 1 none) ({ frames := 1, cells := 5, slots := 140, locals := 12 }) (va_Pc [.ref h0] (fun U => U.heap.size = sz ∧ va_P D vwCl (XN h0) U.heap ∧ va_K D vwCl [] U ∧ va_D (fun _ => True) (XN h0))) (va_Qv (fun u : (Nat → Nat) × (Nat → ClassId) => u.1 0 = h0) (fun u t => gB D vwCl (xtys u.2) (va_A (XN h0) sz) (XZ u.1 u.2) t) (va_A (XN h0) sz)) 5 140 (va_A (XN h0) sz) := by
  refine Met.ofW (cc := cX0_init) (maxL := 1) (ret := none) (by decide) rfl ?_
  intro p e s m args below meth c s₁ B hml hv
  obtain ⟨rfl, hsz, hP, hK, hD0⟩ := hv
  have hx := B.exec
  have hb := B.bytes
  have hr := B.returns
  have hts := atoms_spec (ws := ws_ yX0_init cX0_init 1 none) B.pre
  have hts : ∀ w ∈ lw_all, w.before _ s = true := fun w h => hts w (List.mem_cons_of_mem _ h)
  have hown : s.vm.findClass RX0 = some m.cls := findClass_of_methodNamed B.named
  have hlocks := B.notSynchronized
  have hin : meth.name = "<init>" := (name_of_methodNamed B.named B.method).1
  subst hsz
  have hD := hD0.self (sz := s.heap.size)
  generalize hAe : va_A (XN h0) s.heap.size = A at hD ⊢
  have hA : ∀ q : Nat, s.heap.size ≤ q → A q := fun q h => by rw [← hAe]; exact Or.inr h
  have hS : va_S A s.heap s.heap [] := va_S.rf
  have hP : va_P D vwCl [(h0, .inr (0, [.int 0, .null, .null, .null, .null, .int 0, .int 0, .int 0, .null]))] s.heap := hP
  have hD : va_D A [(h0, .inr (0, [.int 0, .null, .null, .null, .null, .int 0, .int 0, .int 0, .null]))] := hD
  have hl := lv_entry ([.ref h0]) (n := 1) (Nat.le_of_ble_eq_true rfl)
  rw [lg_entry_eq]
  generalize (lg_sl ([.ref h0]) ++ List.replicate (1 - (lg_sl ([.ref h0])).length) Slot.unset).toArray = ls at hl ⊢
  have hl : lv_has ls 1 [(0, .ref h0)] := hl
  refine lv_aload_n hx hb dX0_init_0 rfl (lv_at hl 0 rfl) ?_
  refine W.objInit hx hb hown (hts _ q24) (hts _ q25) (hts _ q26) rfl (by rw [hml]; exact hl.1) rfl dX0_init_1 (Nat.le_of_ble_eq_true rfl) (Nat.le_of_ble_eq_true rfl) ?_
  refine W.eq (g2 := F0 m 4 ls []) rfl ?_
  refine lv_aload_n hx hb dX0_init_4 rfl (lv_at hl 0 rfl) ?_
  refine lv_bipush (v := nI 28) hx hb dX0_init_5 (by decide) ?_
  refine va_newa (atype := .int) (ty := .int) (N' := 28) (a0 := (28, .inl (fun _ => nI 0))) hx hb (hts _ q55) rfl hK hP hD hS hA (fun _ => rfl) (by decide) (by decide) (by decide) (Nat.le_of_ble_eq_true rfl) (Nat.le_of_ble_eq_true rfl) dX0_init_7 (fun a1 c1 H hK hP hD hS => ?_)
  have hK : va_K D vwCl [(c1, .int)] s := hK
  have hP : va_P D vwCl [(h0, .inr (0, [.int 0, .null, .null, .null, .null, .int 0, .int 0, .int 0, .null])), (a1, .inl (c1, 28, .inl (fun _ => nI 0)))] H := hP
  have hD : va_D A [(h0, .inr (0, [.int 0, .null, .null, .null, .null, .int 0, .int 0, .int 0, .null])), (a1, .inl (c1, 28, .inl (fun _ => nI 0)))] := hD
  refine va_putF (D := D) (ci := 0) (v := .ref a1) (ty := .array .int) (C := RX0) (T := TX0) (N := 9) hx hb hts in_X0 tyX0 tyX0_ok nmX0 hown hK hP hD hS 0 rfl rfl 1 (by decide) (hts _ q28) (fun _ h9 => h9) rfl hin rfl (by decide +kernel) rfl rfl (Nat.le_of_ble_eq_true rfl) dX0_init_9 (fun H locs hP hD hS => ?_)
  have hP : va_P D vwCl [(h0, .inr (0, [.int 0, .ref a1, .null, .null, .null, .int 0, .int 0, .int 0, .null])), (a1, .inl (c1, 28, .inl (fun _ => nI 0)))] H := hP
  have hD : va_D A [(h0, .inr (0, [.int 0, .ref a1, .null, .null, .null, .int 0, .int 0, .int 0, .null])), (a1, .inl (c1, 28, .inl (fun _ => nI 0)))] := hD
  refine lv_aload_n hx hb dX0_init_12 rfl (lv_at hl 0 rfl) ?_
  refine lv_bipush (v := nI 28) hx hb dX0_init_13 (by decide) ?_
  refine va_newa (atype := .int) (ty := .int) (N' := 28) (a0 := (28, .inl (fun _ => nI 0))) hx hb (hts _ q55) rfl hK hP hD hS hA (fun _ => rfl) (by decide) (by decide) (by decide) (Nat.le_of_ble_eq_true rfl) (Nat.le_of_ble_eq_true rfl) dX0_init_15 (fun a2 c2 H hK hP hD hS => ?_)
  have hK : va_K D vwCl [(c1, .int), (c2, .int)] s := hK
  have hP : va_P D vwCl [(h0, .inr (0, [.int 0, .ref a1, .null, .null, .null, .int 0, .int 0, .int 0, .null])), (a1, .inl (c1, 28, .inl (fun _ => nI 0))), (a2, .inl (c2, 28, .inl (fun _ => nI 0)))] H := hP
  have hD : va_D A [(h0, .inr (0, [.int 0, .ref a1, .null, .null, .null, .int 0, .int 0, .int 0, .null])), (a1, .inl (c1, 28, .inl (fun _ => nI 0))), (a2, .inl (c2, 28, .inl (fun _ => nI 0)))] := hD
  refine va_putF (D := D) (ci := 0) (v := .ref a2) (ty := .array .int) (C := RX0) (T := TX0) (N := 9) hx hb hts in_X0 tyX0 tyX0_ok nmX0 hown hK hP hD hS 0 rfl rfl 2 (by decide) (hts _ q29) (fun _ h9 => h9) rfl hin rfl (by decide +kernel) rfl rfl (Nat.le_of_ble_eq_true rfl) dX0_init_17 (fun H locs hP hD hS => ?_)
  have hP : va_P D vwCl [(h0, .inr (0, [.int 0, .ref a1, .ref a2, .null, .null, .int 0, .int 0, .int 0, .null])), (a1, .inl (c1, 28, .inl (fun _ => nI 0))), (a2, .inl (c2, 28, .inl (fun _ => nI 0)))] H := hP
  have hD : va_D A [(h0, .inr (0, [.int 0, .ref a1, .ref a2, .null, .null, .int 0, .int 0, .int 0, .null])), (a1, .inl (c1, 28, .inl (fun _ => nI 0))), (a2, .inl (c2, 28, .inl (fun _ => nI 0)))] := hD
  refine lv_aload_n hx hb dX0_init_20 rfl (lv_at hl 0 rfl) ?_
  refine lv_bipush (v := nI 28) hx hb dX0_init_21 (by decide) ?_
  refine va_newa (atype := .int) (ty := .int) (N' := 28) (a0 := (28, .inl (fun _ => nI 0))) hx hb (hts _ q55) rfl hK hP hD hS hA (fun _ => rfl) (by decide) (by decide) (by decide) (Nat.le_of_ble_eq_true rfl) (Nat.le_of_ble_eq_true rfl) dX0_init_23 (fun a3 c3 H hK hP hD hS => ?_)
  have hK : va_K D vwCl [(c1, .int), (c2, .int), (c3, .int)] s := hK
  have hP : va_P D vwCl [(h0, .inr (0, [.int 0, .ref a1, .ref a2, .null, .null, .int 0, .int 0, .int 0, .null])), (a1, .inl (c1, 28, .inl (fun _ => nI 0))), (a2, .inl (c2, 28, .inl (fun _ => nI 0))), (a3, .inl (c3, 28, .inl (fun _ => nI 0)))] H := hP
  have hD : va_D A [(h0, .inr (0, [.int 0, .ref a1, .ref a2, .null, .null, .int 0, .int 0, .int 0, .null])), (a1, .inl (c1, 28, .inl (fun _ => nI 0))), (a2, .inl (c2, 28, .inl (fun _ => nI 0))), (a3, .inl (c3, 28, .inl (fun _ => nI 0)))] := hD
  refine va_putF (D := D) (ci := 0) (v := .ref a3) (ty := .array .int) (C := RX0) (T := TX0) (N := 9) hx hb hts in_X0 tyX0 tyX0_ok nmX0 hown hK hP hD hS 0 rfl rfl 3 (by decide) (hts _ q30) (fun _ h9 => h9) rfl hin rfl (by decide +kernel) rfl rfl (Nat.le_of_ble_eq_true rfl) dX0_init_25 (fun H locs hP hD hS => ?_)
  have hP : va_P D vwCl [(h0, .inr (0, [.int 0, .ref a1, .ref a2, .ref a3, .null, .int 0, .int 0, .int 0, .null])), (a1, .inl (c1, 28, .inl (fun _ => nI 0))), (a2, .inl (c2, 28, .inl (fun _ => nI 0))), (a3, .inl (c3, 28, .inl (fun _ => nI 0)))] H := hP
  have hD : va_D A [(h0, .inr (0, [.int 0, .ref a1, .ref a2, .ref a3, .null, .int 0, .int 0, .int 0, .null])), (a1, .inl (c1, 28, .inl (fun _ => nI 0))), (a2, .inl (c2, 28, .inl (fun _ => nI 0))), (a3, .inl (c3, 28, .inl (fun _ => nI 0)))] := hD
  refine lv_aload_n hx hb dX0_init_28 rfl (lv_at hl 0 rfl) ?_
  refine lv_bipush (v := nI 28) hx hb dX0_init_29 (by decide) ?_
  refine va_newa (atype := .int) (ty := .int) (N' := 28) (a0 := (28, .inl (fun _ => nI 0))) hx hb (hts _ q55) rfl hK hP hD hS hA (fun _ => rfl) (by decide) (by decide) (by decide) (Nat.le_of_ble_eq_true rfl) (Nat.le_of_ble_eq_true rfl) dX0_init_31 (fun a4 c4 H hK hP hD hS => ?_)
  have hK : va_K D vwCl [(c1, .int), (c2, .int), (c3, .int), (c4, .int)] s := hK
  have hP : va_P D vwCl [(h0, .inr (0, [.int 0, .ref a1, .ref a2, .ref a3, .null, .int 0, .int 0, .int 0, .null])), (a1, .inl (c1, 28, .inl (fun _ => nI 0))), (a2, .inl (c2, 28, .inl (fun _ => nI 0))), (a3, .inl (c3, 28, .inl (fun _ => nI 0))), (a4, .inl (c4, 28, .inl (fun _ => nI 0)))] H := hP
  have hD : va_D A [(h0, .inr (0, [.int 0, .ref a1, .ref a2, .ref a3, .null, .int 0, .int 0, .int 0, .null])), (a1, .inl (c1, 28, .inl (fun _ => nI 0))), (a2, .inl (c2, 28, .inl (fun _ => nI 0))), (a3, .inl (c3, 28, .inl (fun _ => nI 0))), (a4, .inl (c4, 28, .inl (fun _ => nI 0)))] := hD
  refine va_putF (D := D) (ci := 0) (v := .ref a4) (ty := .array .int) (C := RX0) (T := TX0) (N := 9) hx hb hts in_X0 tyX0 tyX0_ok nmX0 hown hK hP hD hS 0 rfl rfl 4 (by decide) (hts _ q31) (fun _ h9 => h9) rfl hin rfl (by decide +kernel) rfl rfl (Nat.le_of_ble_eq_true rfl) dX0_init_33 (fun H locs hP hD hS => ?_)
  have hP : va_P D vwCl [(h0, .inr (0, [.int 0, .ref a1, .ref a2, .ref a3, .ref a4, .int 0, .int 0, .int 0, .null])), (a1, .inl (c1, 28, .inl (fun _ => nI 0))), (a2, .inl (c2, 28, .inl (fun _ => nI 0))), (a3, .inl (c3, 28, .inl (fun _ => nI 0))), (a4, .inl (c4, 28, .inl (fun _ => nI 0)))] H := hP
  have hD : va_D A [(h0, .inr (0, [.int 0, .ref a1, .ref a2, .ref a3, .ref a4, .int 0, .int 0, .int 0, .null])), (a1, .inl (c1, 28, .inl (fun _ => nI 0))), (a2, .inl (c2, 28, .inl (fun _ => nI 0))), (a3, .inl (c3, 28, .inl (fun _ => nI 0))), (a4, .inl (c4, 28, .inl (fun _ => nI 0)))] := hD
  refine lv_aload_n hx hb dX0_init_36 rfl (lv_at hl 0 rfl) ?_
  refine lv_bipush (v := nI 28) hx hb dX0_init_37 (by decide) ?_
  refine va_newa (atype := .int) (ty := .int) (N' := 28) (a0 := (28, .inl (fun _ => nI 0))) hx hb (hts _ q55) rfl hK hP hD hS hA (fun _ => rfl) (by decide) (by decide) (by decide) (Nat.le_of_ble_eq_true rfl) (Nat.le_of_ble_eq_true rfl) dX0_init_39 (fun a5 c5 H hK hP hD hS => ?_)
  have hK : va_K D vwCl [(c1, .int), (c2, .int), (c3, .int), (c4, .int), (c5, .int)] s := hK
  have hP : va_P D vwCl [(h0, .inr (0, [.int 0, .ref a1, .ref a2, .ref a3, .ref a4, .int 0, .int 0, .int 0, .null])), (a1, .inl (c1, 28, .inl (fun _ => nI 0))), (a2, .inl (c2, 28, .inl (fun _ => nI 0))), (a3, .inl (c3, 28, .inl (fun _ => nI 0))), (a4, .inl (c4, 28, .inl (fun _ => nI 0))), (a5, .inl (c5, 28, .inl (fun _ => nI 0)))] H := hP
  have hD : va_D A [(h0, .inr (0, [.int 0, .ref a1, .ref a2, .ref a3, .ref a4, .int 0, .int 0, .int 0, .null])), (a1, .inl (c1, 28, .inl (fun _ => nI 0))), (a2, .inl (c2, 28, .inl (fun _ => nI 0))), (a3, .inl (c3, 28, .inl (fun _ => nI 0))), (a4, .inl (c4, 28, .inl (fun _ => nI 0))), (a5, .inl (c5, 28, .inl (fun _ => nI 0)))] := hD
  refine va_putF (D := D) (ci := 0) (v := .ref a5) (ty := .array .int) (C := RX0) (T := TX0) (N := 9) hx hb hts in_X0 tyX0 tyX0_ok nmX0 hown hK hP hD hS 0 rfl rfl 8 (by decide) (hts _ q35) (fun _ h9 => h9) rfl hin rfl (by decide +kernel) rfl rfl (Nat.le_of_ble_eq_true rfl) dX0_init_41 (fun H locs hP hD hS => ?_)
  have hP : va_P D vwCl [(h0, .inr (0, [.int 0, .ref a1, .ref a2, .ref a3, .ref a4, .int 0, .int 0, .int 0, .ref a5])), (a1, .inl (c1, 28, .inl (fun _ => nI 0))), (a2, .inl (c2, 28, .inl (fun _ => nI 0))), (a3, .inl (c3, 28, .inl (fun _ => nI 0))), (a4, .inl (c4, 28, .inl (fun _ => nI 0))), (a5, .inl (c5, 28, .inl (fun _ => nI 0)))] H := hP
  have hD : va_D A [(h0, .inr (0, [.int 0, .ref a1, .ref a2, .ref a3, .ref a4, .int 0, .int 0, .int 0, .ref a5])), (a1, .inl (c1, 28, .inl (fun _ => nI 0))), (a2, .inl (c2, 28, .inl (fun _ => nI 0))), (a3, .inl (c3, 28, .inl (fun _ => nI 0))), (a4, .inl (c4, 28, .inl (fun _ => nI 0))), (a5, .inl (c5, 28, .inl (fun _ => nI 0)))] := hD
  refine lv_aload_n hx hb dX0_init_44 rfl (lv_at hl 0 rfl) ?_
  refine lv_bipush (v := nI 8) hx hb dX0_init_45 (by decide) ?_
  refine va_put (D := D) (ci := 0) (v := .int (nI 8)) (ty := .int) (C := RX0) (T := TX0) (N := 9) hx hb hts in_X0 tyX0 tyX0_ok nmX0 hown hK hP hD hS 0 rfl rfl 0 (by decide) (hts _ q27) (fun _ h9 => h9) rfl (by decide +kernel) rfl rfl (Nat.le_of_ble_eq_true rfl) dX0_init_47 (fun H locs hP hD hS => ?_)
  have hP : va_P D vwCl [(h0, .inr (0, [.int (nI 8), .ref a1, .ref a2, .ref a3, .ref a4, .int 0, .int 0, .int 0, .ref a5])), (a1, .inl (c1, 28, .inl (fun _ => nI 0))), (a2, .inl (c2, 28, .inl (fun _ => nI 0))), (a3, .inl (c3, 28, .inl (fun _ => nI 0))), (a4, .inl (c4, 28, .inl (fun _ => nI 0))), (a5, .inl (c5, 28, .inl (fun _ => nI 0)))] H := hP
  have hD : va_D A [(h0, .inr (0, [.int (nI 8), .ref a1, .ref a2, .ref a3, .ref a4, .int 0, .int 0, .int 0, .ref a5])), (a1, .inl (c1, 28, .inl (fun _ => nI 0))), (a2, .inl (c2, 28, .inl (fun _ => nI 0))), (a3, .inl (c3, 28, .inl (fun _ => nI 0))), (a4, .inl (c4, 28, .inl (fun _ => nI 0))), (a5, .inl (c5, 28, .inl (fun _ => nI 0)))] := hD
  refine W.widen (k := 5) (n := 140) (Nat.le_of_ble_eq_true rfl) (Nat.le_of_ble_eq_true rfl) ?_
  exact W.vret hx hb hr (fun t ht hW => ⟨⟨((fun i => match i with | 0 => h0 | 1 => a1 | 2 => a2 | 3 => a3 | 4 => a4 | _ => a5), (fun i => match i with | 1 => c1 | 2 => c2 | 3 => c3 | 4 => c4 | _ => c5)), rfl, rfl, by rw [ht]; exact hP, va_K.moved hW.alike hK, hD⟩, hS.F ht⟩) hS.2.2 dX0_init_50
set_option maxHeartbeats 4000000 in
set_option maxRecDepth 100000 in
theorem mm_init (l : Launch) (D : va_G) (h0 sz : Nat) : Met l yX1_init (ws_ yX1_init cX1_init 1 none) ({ frames := 1, cells := 5, slots := 140, locals := 12 }) (va_Pc [.ref h0] (fun U => U.heap.size = sz ∧ va_P D vwCl (MN h0) U.heap ∧ va_K D vwCl [] U ∧ va_D (fun _ => True) (MN h0))) (va_Qv (fun u : (Nat → Nat) × (Nat → ClassId) => u.1 0 = h0) (fun u t => gB D vwCl (mtys u.2) (va_A (MN h0) sz) (MZ u.1 u.2) t) (va_A (MN h0) sz)) 5 140 (va_A (MN h0) sz) := by
  refine Met.ofW (cc := cX1_init) (maxL := 1) (ret := none) (by decide) rfl ?_
  intro p e s m args below meth c s₁ B hml hv
  obtain ⟨rfl, hsz, hP, hK, hD0⟩ := hv
  have hx := B.exec
  have hb := B.bytes
  have hr := B.returns
  have hts := atoms_spec (ws := ws_ yX1_init cX1_init 1 none) B.pre
  have hts : ∀ w ∈ lw_all, w.before _ s = true := fun w h => hts w (List.mem_cons_of_mem _ h)
  have hown : s.vm.findClass RX1 = some m.cls := findClass_of_methodNamed B.named
  have hlocks := B.notSynchronized
  have hin : meth.name = "<init>" := (name_of_methodNamed B.named B.method).1
  subst hsz
  have hD := hD0.self (sz := s.heap.size)
  generalize hAe : va_A (MN h0) s.heap.size = A at hD ⊢
  have hA : ∀ q : Nat, s.heap.size ≤ q → A q := fun q h => by rw [← hAe]; exact Or.inr h
  have hS : va_S A s.heap s.heap [] := va_S.rf
  have hP : va_P D vwCl [(h0, .inr (1, [.int 0, .null, .null, .null, .null, .null, .int 0]))] s.heap := hP
  have hD : va_D A [(h0, .inr (1, [.int 0, .null, .null, .null, .null, .null, .int 0]))] := hD
  have hl := lv_entry ([.ref h0]) (n := 1) (Nat.le_of_ble_eq_true rfl)
  rw [lg_entry_eq]
  generalize (lg_sl ([.ref h0]) ++ List.replicate (1 - (lg_sl ([.ref h0])).length) Slot.unset).toArray = ls at hl ⊢
  have hl : lv_has ls 1 [(0, .ref h0)] := hl
  refine lv_aload_n hx hb dX1_init_0 rfl (lv_at hl 0 rfl) ?_
  refine W.objInit hx hb hown (hts _ q144) (hts _ q25) (hts _ q26) rfl (by rw [hml]; exact hl.1) rfl dX1_init_1 (Nat.le_of_ble_eq_true rfl) (Nat.le_of_ble_eq_true rfl) ?_
  refine W.eq (g2 := F0 m 4 ls []) rfl ?_
  refine lv_aload_n hx hb dX1_init_4 rfl (lv_at hl 0 rfl) ?_
  refine lv_bipush (v := nI 8) hx hb dX1_init_5 (by decide) ?_
  refine va_put (D := D) (ci := 1) (v := .int (nI 8)) (ty := .int) (C := RX1) (T := TX1) (N := 7) hx hb hts in_X1 tyX1 tyX1_ok nmX1 hown hK hP hD hS 0 rfl rfl 0 (by decide) (hts _ q145) (fun _ h9 => h9) rfl (by decide +kernel) rfl rfl (Nat.le_of_ble_eq_true rfl) dX1_init_7 (fun H locs hP hD hS => ?_)
  have hP : va_P D vwCl [(h0, .inr (1, [.int (nI 8), .null, .null, .null, .null, .null, .int 0]))] H := hP
  have hD : va_D A [(h0, .inr (1, [.int (nI 8), .null, .null, .null, .null, .null, .int 0]))] := hD
  refine lv_aload_n hx hb dX1_init_10 rfl (lv_at hl 0 rfl) ?_
  refine lv_bipush (v := nI 28) hx hb dX1_init_11 (by decide) ?_
  refine va_newa (atype := .int) (ty := .int) (N' := 28) (a0 := (28, .inl (fun _ => nI 0))) hx hb (hts _ q55) rfl hK hP hD hS hA (fun _ => rfl) (by decide) (by decide) (by decide) (Nat.le_of_ble_eq_true rfl) (Nat.le_of_ble_eq_true rfl) dX1_init_13 (fun a1 c1 H hK hP hD hS => ?_)
  have hK : va_K D vwCl [(c1, .int)] s := hK
  have hP : va_P D vwCl [(h0, .inr (1, [.int (nI 8), .null, .null, .null, .null, .null, .int 0])), (a1, .inl (c1, 28, .inl (fun _ => nI 0)))] H := hP
  have hD : va_D A [(h0, .inr (1, [.int (nI 8), .null, .null, .null, .null, .null, .int 0])), (a1, .inl (c1, 28, .inl (fun _ => nI 0)))] := hD
  refine va_putF (D := D) (ci := 1) (v := .ref a1) (ty := .array .int) (C := RX1) (T := TX1) (N := 7) hx hb hts in_X1 tyX1 tyX1_ok nmX1 hown hK hP hD hS 0 rfl rfl 1 (by decide) (hts _ q146) (fun _ h9 => h9) rfl hin rfl (by decide +kernel) rfl rfl (Nat.le_of_ble_eq_true rfl) dX1_init_15 (fun H locs hP hD hS => ?_)
  have hP : va_P D vwCl [(h0, .inr (1, [.int (nI 8), .ref a1, .null, .null, .null, .null, .int 0])), (a1, .inl (c1, 28, .inl (fun _ => nI 0)))] H := hP
  have hD : va_D A [(h0, .inr (1, [.int (nI 8), .ref a1, .null, .null, .null, .null, .int 0])), (a1, .inl (c1, 28, .inl (fun _ => nI 0)))] := hD
  refine lv_aload_n hx hb dX1_init_18 rfl (lv_at hl 0 rfl) ?_
  refine lv_bipush (v := nI 28) hx hb dX1_init_19 (by decide) ?_
  refine va_newa (atype := .int) (ty := .int) (N' := 28) (a0 := (28, .inl (fun _ => nI 0))) hx hb (hts _ q55) rfl hK hP hD hS hA (fun _ => rfl) (by decide) (by decide) (by decide) (Nat.le_of_ble_eq_true rfl) (Nat.le_of_ble_eq_true rfl) dX1_init_21 (fun a2 c2 H hK hP hD hS => ?_)
  have hK : va_K D vwCl [(c1, .int), (c2, .int)] s := hK
  have hP : va_P D vwCl [(h0, .inr (1, [.int (nI 8), .ref a1, .null, .null, .null, .null, .int 0])), (a1, .inl (c1, 28, .inl (fun _ => nI 0))), (a2, .inl (c2, 28, .inl (fun _ => nI 0)))] H := hP
  have hD : va_D A [(h0, .inr (1, [.int (nI 8), .ref a1, .null, .null, .null, .null, .int 0])), (a1, .inl (c1, 28, .inl (fun _ => nI 0))), (a2, .inl (c2, 28, .inl (fun _ => nI 0)))] := hD
  refine va_putF (D := D) (ci := 1) (v := .ref a2) (ty := .array .int) (C := RX1) (T := TX1) (N := 7) hx hb hts in_X1 tyX1 tyX1_ok nmX1 hown hK hP hD hS 0 rfl rfl 2 (by decide) (hts _ q147) (fun _ h9 => h9) rfl hin rfl (by decide +kernel) rfl rfl (Nat.le_of_ble_eq_true rfl) dX1_init_23 (fun H locs hP hD hS => ?_)
  have hP : va_P D vwCl [(h0, .inr (1, [.int (nI 8), .ref a1, .ref a2, .null, .null, .null, .int 0])), (a1, .inl (c1, 28, .inl (fun _ => nI 0))), (a2, .inl (c2, 28, .inl (fun _ => nI 0)))] H := hP
  have hD : va_D A [(h0, .inr (1, [.int (nI 8), .ref a1, .ref a2, .null, .null, .null, .int 0])), (a1, .inl (c1, 28, .inl (fun _ => nI 0))), (a2, .inl (c2, 28, .inl (fun _ => nI 0)))] := hD
  refine lv_aload_n hx hb dX1_init_26 rfl (lv_at hl 0 rfl) ?_
  refine lv_bipush (v := nI 28) hx hb dX1_init_27 (by decide) ?_
  refine va_newa (atype := .int) (ty := .int) (N' := 28) (a0 := (28, .inl (fun _ => nI 0))) hx hb (hts _ q55) rfl hK hP hD hS hA (fun _ => rfl) (by decide) (by decide) (by decide) (Nat.le_of_ble_eq_true rfl) (Nat.le_of_ble_eq_true rfl) dX1_init_29 (fun a3 c3 H hK hP hD hS => ?_)
  have hK : va_K D vwCl [(c1, .int), (c2, .int), (c3, .int)] s := hK
  have hP : va_P D vwCl [(h0, .inr (1, [.int (nI 8), .ref a1, .ref a2, .null, .null, .null, .int 0])), (a1, .inl (c1, 28, .inl (fun _ => nI 0))), (a2, .inl (c2, 28, .inl (fun _ => nI 0))), (a3, .inl (c3, 28, .inl (fun _ => nI 0)))] H := hP
  have hD : va_D A [(h0, .inr (1, [.int (nI 8), .ref a1, .ref a2, .null, .null, .null, .int 0])), (a1, .inl (c1, 28, .inl (fun _ => nI 0))), (a2, .inl (c2, 28, .inl (fun _ => nI 0))), (a3, .inl (c3, 28, .inl (fun _ => nI 0)))] := hD
  refine va_putF (D := D) (ci := 1) (v := .ref a3) (ty := .array .int) (C := RX1) (T := TX1) (N := 7) hx hb hts in_X1 tyX1 tyX1_ok nmX1 hown hK hP hD hS 0 rfl rfl 3 (by decide) (hts _ q148) (fun _ h9 => h9) rfl hin rfl (by decide +kernel) rfl rfl (Nat.le_of_ble_eq_true rfl) dX1_init_31 (fun H locs hP hD hS => ?_)
  have hP : va_P D vwCl [(h0, .inr (1, [.int (nI 8), .ref a1, .ref a2, .ref a3, .null, .null, .int 0])), (a1, .inl (c1, 28, .inl (fun _ => nI 0))), (a2, .inl (c2, 28, .inl (fun _ => nI 0))), (a3, .inl (c3, 28, .inl (fun _ => nI 0)))] H := hP
  have hD : va_D A [(h0, .inr (1, [.int (nI 8), .ref a1, .ref a2, .ref a3, .null, .null, .int 0])), (a1, .inl (c1, 28, .inl (fun _ => nI 0))), (a2, .inl (c2, 28, .inl (fun _ => nI 0))), (a3, .inl (c3, 28, .inl (fun _ => nI 0)))] := hD
  refine lv_aload_n hx hb dX1_init_34 rfl (lv_at hl 0 rfl) ?_
  refine lv_bipush (v := nI 28) hx hb dX1_init_35 (by decide) ?_
  refine va_newa (atype := .boolean) (ty := .boolean) (N' := 28) (a0 := (28, .inl (fun i => b2i (Nat.testBit 0 i)))) hx hb (hts _ q167) rfl hK hP hD hS hA z_bool (by decide) (by decide) (by decide) (Nat.le_of_ble_eq_true rfl) (Nat.le_of_ble_eq_true rfl) dX1_init_37 (fun a4 c4 H hK hP hD hS => ?_)
  have hK : va_K D vwCl [(c1, .int), (c2, .int), (c3, .int), (c4, .boolean)] s := hK
  have hP : va_P D vwCl [(h0, .inr (1, [.int (nI 8), .ref a1, .ref a2, .ref a3, .null, .null, .int 0])), (a1, .inl (c1, 28, .inl (fun _ => nI 0))), (a2, .inl (c2, 28, .inl (fun _ => nI 0))), (a3, .inl (c3, 28, .inl (fun _ => nI 0))), (a4, .inl (c4, 28, .inl (fun i => b2i (Nat.testBit 0 i))))] H := hP
  have hD : va_D A [(h0, .inr (1, [.int (nI 8), .ref a1, .ref a2, .ref a3, .null, .null, .int 0])), (a1, .inl (c1, 28, .inl (fun _ => nI 0))), (a2, .inl (c2, 28, .inl (fun _ => nI 0))), (a3, .inl (c3, 28, .inl (fun _ => nI 0))), (a4, .inl (c4, 28, .inl (fun i => b2i (Nat.testBit 0 i))))] := hD
  refine va_putF (D := D) (ci := 1) (v := .ref a4) (ty := .array .boolean) (C := RX1) (T := TX1) (N := 7) hx hb hts in_X1 tyX1 tyX1_ok nmX1 hown hK hP hD hS 0 rfl rfl 4 (by decide) (hts _ q149) (fun _ h9 => h9) rfl hin rfl (by decide +kernel) rfl rfl (Nat.le_of_ble_eq_true rfl) dX1_init_39 (fun H locs hP hD hS => ?_)
  have hP : va_P D vwCl [(h0, .inr (1, [.int (nI 8), .ref a1, .ref a2, .ref a3, .ref a4, .null, .int 0])), (a1, .inl (c1, 28, .inl (fun _ => nI 0))), (a2, .inl (c2, 28, .inl (fun _ => nI 0))), (a3, .inl (c3, 28, .inl (fun _ => nI 0))), (a4, .inl (c4, 28, .inl (fun i => b2i (Nat.testBit 0 i))))] H := hP
  have hD : va_D A [(h0, .inr (1, [.int (nI 8), .ref a1, .ref a2, .ref a3, .ref a4, .null, .int 0])), (a1, .inl (c1, 28, .inl (fun _ => nI 0))), (a2, .inl (c2, 28, .inl (fun _ => nI 0))), (a3, .inl (c3, 28, .inl (fun _ => nI 0))), (a4, .inl (c4, 28, .inl (fun i => b2i (Nat.testBit 0 i))))] := hD
  refine lv_aload_n hx hb dX1_init_42 rfl (lv_at hl 0 rfl) ?_
  refine lv_bipush (v := nI 28) hx hb dX1_init_43 (by decide) ?_
  refine va_newa (atype := .boolean) (ty := .boolean) (N' := 28) (a0 := (28, .inl (fun i => b2i (Nat.testBit 0 i)))) hx hb (hts _ q167) rfl hK hP hD hS hA z_bool (by decide) (by decide) (by decide) (Nat.le_of_ble_eq_true rfl) (Nat.le_of_ble_eq_true rfl) dX1_init_45 (fun a5 c5 H hK hP hD hS => ?_)
  have hK : va_K D vwCl [(c1, .int), (c2, .int), (c3, .int), (c4, .boolean), (c5, .boolean)] s := hK
  have hP : va_P D vwCl [(h0, .inr (1, [.int (nI 8), .ref a1, .ref a2, .ref a3, .ref a4, .null, .int 0])), (a1, .inl (c1, 28, .inl (fun _ => nI 0))), (a2, .inl (c2, 28, .inl (fun _ => nI 0))), (a3, .inl (c3, 28, .inl (fun _ => nI 0))), (a4, .inl (c4, 28, .inl (fun i => b2i (Nat.testBit 0 i)))), (a5, .inl (c5, 28, .inl (fun i => b2i (Nat.testBit 0 i))))] H := hP
  have hD : va_D A [(h0, .inr (1, [.int (nI 8), .ref a1, .ref a2, .ref a3, .ref a4, .null, .int 0])), (a1, .inl (c1, 28, .inl (fun _ => nI 0))), (a2, .inl (c2, 28, .inl (fun _ => nI 0))), (a3, .inl (c3, 28, .inl (fun _ => nI 0))), (a4, .inl (c4, 28, .inl (fun i => b2i (Nat.testBit 0 i)))), (a5, .inl (c5, 28, .inl (fun i => b2i (Nat.testBit 0 i))))] := hD
  refine va_putF (D := D) (ci := 1) (v := .ref a5) (ty := .array .boolean) (C := RX1) (T := TX1) (N := 7) hx hb hts in_X1 tyX1 tyX1_ok nmX1 hown hK hP hD hS 0 rfl rfl 5 (by decide) (hts _ q150) (fun _ h9 => h9) rfl hin rfl (by decide +kernel) rfl rfl (Nat.le_of_ble_eq_true rfl) dX1_init_47 (fun H locs hP hD hS => ?_)
  have hP : va_P D vwCl [(h0, .inr (1, [.int (nI 8), .ref a1, .ref a2, .ref a3, .ref a4, .ref a5, .int 0])), (a1, .inl (c1, 28, .inl (fun _ => nI 0))), (a2, .inl (c2, 28, .inl (fun _ => nI 0))), (a3, .inl (c3, 28, .inl (fun _ => nI 0))), (a4, .inl (c4, 28, .inl (fun i => b2i (Nat.testBit 0 i)))), (a5, .inl (c5, 28, .inl (fun i => b2i (Nat.testBit 0 i))))] H := hP
  have hD : va_D A [(h0, .inr (1, [.int (nI 8), .ref a1, .ref a2, .ref a3, .ref a4, .ref a5, .int 0])), (a1, .inl (c1, 28, .inl (fun _ => nI 0))), (a2, .inl (c2, 28, .inl (fun _ => nI 0))), (a3, .inl (c3, 28, .inl (fun _ => nI 0))), (a4, .inl (c4, 28, .inl (fun i => b2i (Nat.testBit 0 i)))), (a5, .inl (c5, 28, .inl (fun i => b2i (Nat.testBit 0 i))))] := hD
  refine W.widen (k := 5) (n := 140) (Nat.le_of_ble_eq_true rfl) (Nat.le_of_ble_eq_true rfl) ?_
  exact W.vret hx hb hr (fun t ht hW => ⟨⟨((fun i => match i with | 0 => h0 | 1 => a1 | 2 => a2 | 3 => a3 | 4 => a4 | _ => a5), (fun i => match i with | 1 => c1 | 2 => c2 | 3 => c3 | 4 => c4 | _ => c5)), rfl, rfl, by rw [ht]; exact hP, va_K.moved hW.alike hK, hD⟩, hS.F ht⟩) hS.2.2 dX1_init_50
end
section
/-! THE CLAIM OUT OF ONE WALK OF THE LAW'S BODY. Your part is whole_start (and what it stands on); all else here is the same for every law, but numbers. -/
def R_law : String := "TermSecretsLaw"
def lw_P (b : Addr) (xs : List Int32) (args : Array Value) (s : State) : Prop := args = #[.ref b] ∧ s.IntsAt b xs ∧ xs.length ≤ 192 ∧ (Jvm.Cond.and given_1 narrow_1).before args s = true
def lw_Q (_ : Array Value) (s : State) (o : Outcome) (t : State) : Prop := o = .returned (some (.int 1)) ∧ Framed s o t [] 600000 7290000
def lw_Z (below : List Frame) (a : Array Value) (s : State) : State → Prop := fun t => ∃ o, t.status = .running ∧ Ended t below o ∧ lw_Q a s o t
/-- the law's own end, with 1 on the stack, nothing written that was there before, its room as the claim has it -/
theorem lw_ret {p : Program} {l : Launch} {e : Env} {s : State} {m : MethodId} {below : List Frame} {meth : Method} {c : Code} {b : Nat} (hx : p.tables.exec = Jvm.exec) (hb : c.code = code) (hr : meth.sig.returnType = ret) (hlocks : meth.locks = false) {pc : Nat} {H : Heap} {ls : Array Slot} (hdg : decode code pc = .ok (.ireturn, 1)) : W p l e room_1 s m #[Value.ref b] below meth c H [] 600000 7290000 (lw_Z below #[Value.ref b] s) (F0 m pc ls [.int 1]) := by
  intro T hT X
  obtain ⟨fs, hret, hrun, hended, hW, hframe⟩ := X.leave (v := some (.int 1)) (hlocks := hlocks) (fun h => by rw [hr] at h; cases h)
  have hmeth' : T.vm.method? m = some meth := X.method'
  refine ⟨T.setFrames fs, ?_, .returned (some (.int 1)), hrun, hended, rfl, ⟨_, rfl⟩, hW, hframe⟩
  jvm_step X.here [X.here.top, hx, hb, hdg, hmeth', hr, ret, narrow_b1]
  (try refine ⟨rfl, ?_⟩); (try refine ⟨rfl, ?_⟩)
  first | (intro acts; rw [hret _ acts rfl rfl rfl]) | rw [hret _ _ rfl rfl rfl]
  exact Steps.refl _
/-- what holds at the law's entry: the machine, the code, the tables' words (any of lw_tbl by 'hts w (by decide +kernel)'), the script of L ints xs at the cell b, what the Statement gives of the start (any of its parts by flat_of_before) -/
def lw_At (p : Program) (s : State) (m : MethodId) (meth : Method) (c : Code) (b L : Nat) (xs : Nat → Int32) : Prop :=
  p.tables.exec = Jvm.exec ∧ c.code = code ∧ meth.sig.returnType = ret ∧ c.maxLocals = 4 ∧ s.vm.findClass R_law = some m.cls ∧ (∀ w ∈ lw_tbl, w.before #[Value.ref b] s = true) ∧ va_X b L xs s s.heap ∧ b < s.heap.size ∧ meth.locks = false ∧ (Jvm.Cond.and given_1 narrow_1).before #[Value.ref b] s = true
end
section
/-! THE LAW: two worlds side by side -/
theorem ap_l {a b : va_W} {k : Nat} {q : Nat × va_E} (h : a[k]? = some q) : (a ++ b)[k]? = some q := by
  rw [List.getElem?_append_left (List.getElem?_eq_some_iff.mp h).1]
  exact h
theorem ap_r {a b : va_W} {k : Nat} {q : Nat × va_E} (h : b[k]? = some q) : (a ++ b)[a.length + k]? = some q := by
  rw [List.getElem?_append_right (Nat.le_add_right _ _), Nat.add_sub_cancel_left]
  exact h
theorem aP_l {D : va_G} {cl : List vw_C} {a b : va_W} {H : Heap} (h : va_P D cl (a ++ b) H) : va_P D cl a H := fun k q hk => h k q (ap_l hk)
theorem aP_r {D : va_G} {cl : List vw_C} {a b : va_W} {H : Heap} (h : va_P D cl (a ++ b) H) : va_P D cl b H := fun k q hk => h (a.length + k) q (ap_r hk)
theorem aD_l {A : Nat → Prop} {a b : va_W} (h : va_D A (a ++ b)) : va_D A a := ⟨fun i j p q hi hj e => h.1 i j p q (ap_l hi) (ap_l hj) e, fun k q hk => h.2 k q (ap_l hk)⟩
theorem aD_r {A : Nat → Prop} {a b : va_W} (h : va_D A (a ++ b)) : va_D A b := ⟨fun i j p q hi hj e => by have := h.1 _ _ p q (ap_r hi) (ap_r hj) e; omega, fun k q hk => h.2 _ q (ap_r hk)⟩
theorem aD_x {A : Nat → Prop} {a b : va_W} (h : va_D A (a ++ b)) : ∀ (i j : Nat) (p q : Nat × va_E), a[i]? = some p → b[j]? = some q → p.1 ≠ q.1 := fun i j p q hi hj e => by
  have h1 := h.1 _ _ p q (ap_l hi) (ap_r hj) e
  have h2 := (List.getElem?_eq_some_iff.mp hi).1
  omega
theorem aK_l {D : va_G} {cl : List vw_C} {a b : List (ClassId × FieldType)} {U : State} (h : va_K D cl (a ++ b) U) : va_K D cl a U := ⟨h.1, fun k q hk => h.2 k q (by rw [List.getElem?_append_left (List.getElem?_eq_some_iff.mp hk).1]; exact hk)⟩
theorem aK_r {D : va_G} {cl : List vw_C} {a b : List (ClassId × FieldType)} {U : State} (h : va_K D cl (a ++ b) U) : va_K D cl b U := ⟨h.1, fun k q hk => h.2 (a.length + k) q (by rw [List.getElem?_append_right (Nat.le_add_right _ _), Nat.add_sub_cancel_left]; exact hk)⟩
/-- a callee's world changes, what stands apart from it stays -/
theorem ap_keep {D : va_G} {cl : List vw_C} {A : Nat → Prop} {a b u : va_W} {H H1 : Heap} (hPb : va_P D cl b H) (hDb : va_D A b) (hx : ∀ (i j : Nat) (p q : Nat × va_E), a[i]? = some p → b[j]? = some q → p.1 ≠ q.1) (hk : ∀ q : Nat, q < H.size → ¬ va_A a H.size q → H1[q]? = H[q]?) (hDu : va_D (va_A a H.size) u) (hF : ∀ q, va_A a H.size q → A q) : va_P D cl b H1 ∧ ∀ (i j : Nat) (p q : Nat × va_E), u[i]? = some p → b[j]? = some q → p.1 ≠ q.1 := by
  have hn : ∀ (k : Nat) (q : Nat × va_E), b[k]? = some q → ¬ va_A a H.size q.1 := by
    intro k q hq h
    rcases h with ⟨k2, e, h⟩ | h
    · exact hx k2 k (q.1, e) q h hq rfl
    · exact absurd (hPb k q hq).lt (Nat.not_lt.mpr h)
  refine ⟨hPb.kept (fun k q hq => hk q.1 (hPb k q hq).lt (hn k q hq)), fun i j p q hp hq e => ?_⟩
  have h1 := hDu.2 i p hp
  rw [e] at h1
  exact hn j q hq h1
section LR
variable {J : gJ} {l : Launch} {D : va_G} {cl : List vw_C} {tys : List (ClassId × FieldType)} {cc : ByteArray} {nL : Nat} {own : String} {fr lo : Nat} {ws : va_W} {pc : Nat} {lv : List (Nat × Value)} {st : List Value} {t1 t2 : List (ClassId × FieldType)} {wa wb : va_W}
theorem gi_callL (C : GC J l D cl (t1 ++ t2) cc nL own fr lo) {y : MethodName} {bytes : ByteArray} {maxL fr' lo' n idx : Nat} {As rest : List Value} {ret : Option FieldType} {b : Nat} {post : Int32 → va_W → Prop} {Cn : String} {Tf : u_T} {N ci : Nat} {fs : List Value} (hM : GMi l D cl t1 y bytes maxL ret fr' lo' (.ref b :: As) wa post) (hw : GoodIn lw_all (wsV own idx Cn y (ws_ y bytes maxL ret))) (hdy : y.cls = Cn ∧ y.cls ≠ "java/lang/invoke/MethodHandle" ∧ y.cls ≠ "java/lang/invoke/VarHandle" ∧ (parseMethodDescriptor y.desc).map (fun d => d.parameters.length) = some n) (hR : fr' + 1 ≤ fr ∧ 8 + (maxL + 11) + lo' ≤ lo) (q0 : Nat) (hc : cl[ci]? = some (Cn, Tf, N)) (he : wa[q0]? = some (b, .inr (ci, fs))) (hn : As.length = n) (hst : st = As.reverse ++ .ref b :: rest) (hcat : (rest.map fun v => v.category).sum ≤ 8) (hdg : decode cc pc = .ok (.invokevirtual idx, 3)) (k : ∀ (r : Int32) (u : va_W), post r u → J (u ++ wb) (pc + 3) lv (.int r :: rest)) : J (wa ++ wb) pc lv st := by
  obtain ⟨p, e, R, s, m, args, below, meth, c, A, cells, slots, Q, rfl, hx, hb, hml, hown, hts, hK, hA, hfr, hlo, hc1, hc2⟩ := C
  intro H locs ls hP hD hS hl
  subst hst
  have hK1 := aK_l hK
  have hPm := aP_l hP
  have hDm := aD_l hD
  have hPo := aP_r hP
  have hDo := aD_r hD
  have hFc := g_free hDm hS hA
  refine va_calli (va_runV (As := As) (rest := rest) ⟨hx, hb, hml, hown, hts⟩ (hM H.size) (cwV n hts hw rfl rfl rfl hdy ⟨by rw [hfr]; exact hR.1, by rw [hlo]; exact hR.2⟩) ⟨fun a U g mk q => by obtain ⟨z0, z1, qP, qK, qD⟩ := q; exact ⟨z0, z1, qP, va_K.moved (u := U) (U := U.calling g mk a) (Vm.Alike.refl U.vm) qK, qD⟩, va_recv hK1 hPm hc he, fun U hU hW => ⟨rfl, by rw [hU], by rw [hU]; exact hPm, va_K.moved hW.alike hK1, hDm.weaken (fun _ _ _ _ => trivial)⟩⟩ rfl hn hl.1 rfl (lv_room hcat) hdg ⟨hc1, hc2⟩) hS (fun q _ h => hFc q h) hFc (fun r u t H1 locs1 ht hvm hw1 hB hz1 hk1 hS1 => ?_)
  obtain ⟨hP1, -, hD1⟩ := hB
  rw [ht] at hP1
  obtain ⟨hPo1, hx1⟩ := ap_keep hPo hDo (aD_x hD) hk1 hD1 hFc
  exact k r u hw1 H1 locs1 ls (hP1.app hPo1) (va_D.app (hD1.weaken (fun _ _ _ h => hFc _ h)) hDo hx1) hS1 hl
theorem gi_callR (C : GC J l D cl (t1 ++ t2) cc nL own fr lo) {y : MethodName} {bytes : ByteArray} {maxL fr' lo' n idx : Nat} {As rest : List Value} {ret : Option FieldType} {b : Nat} {post : Int32 → va_W → Prop} {Cn : String} {Tf : u_T} {N ci : Nat} {fs : List Value} (hM : GMi l D cl t2 y bytes maxL ret fr' lo' (.ref b :: As) wb post) (hw : GoodIn lw_all (wsV own idx Cn y (ws_ y bytes maxL ret))) (hdy : y.cls = Cn ∧ y.cls ≠ "java/lang/invoke/MethodHandle" ∧ y.cls ≠ "java/lang/invoke/VarHandle" ∧ (parseMethodDescriptor y.desc).map (fun d => d.parameters.length) = some n) (hR : fr' + 1 ≤ fr ∧ 8 + (maxL + 11) + lo' ≤ lo) (q0 : Nat) (hc : cl[ci]? = some (Cn, Tf, N)) (he : wb[q0]? = some (b, .inr (ci, fs))) (hn : As.length = n) (hst : st = As.reverse ++ .ref b :: rest) (hcat : (rest.map fun v => v.category).sum ≤ 8) (hdg : decode cc pc = .ok (.invokevirtual idx, 3)) (k : ∀ (r : Int32) (u : va_W), post r u → J (wa ++ u) (pc + 3) lv (.int r :: rest)) : J (wa ++ wb) pc lv st := by
  obtain ⟨p, e, R, s, m, args, below, meth, c, A, cells, slots, Q, rfl, hx, hb, hml, hown, hts, hK, hA, hfr, hlo, hc1, hc2⟩ := C
  intro H locs ls hP hD hS hl
  subst hst
  have hK1 := aK_r hK
  have hPm := aP_r hP
  have hDm := aD_r hD
  have hPo := aP_l hP
  have hDo := aD_l hD
  have hFc := g_free hDm hS hA
  refine va_calli (va_runV (As := As) (rest := rest) ⟨hx, hb, hml, hown, hts⟩ (hM H.size) (cwV n hts hw rfl rfl rfl hdy ⟨by rw [hfr]; exact hR.1, by rw [hlo]; exact hR.2⟩) ⟨fun a U g mk q => by obtain ⟨z0, z1, qP, qK, qD⟩ := q; exact ⟨z0, z1, qP, va_K.moved (u := U) (U := U.calling g mk a) (Vm.Alike.refl U.vm) qK, qD⟩, va_recv hK1 hPm hc he, fun U hU hW => ⟨rfl, by rw [hU], by rw [hU]; exact hPm, va_K.moved hW.alike hK1, hDm.weaken (fun _ _ _ _ => trivial)⟩⟩ rfl hn hl.1 rfl (lv_room hcat) hdg ⟨hc1, hc2⟩) hS (fun q _ h => hFc q h) hFc (fun r u t H1 locs1 ht hvm hw1 hB hz1 hk1 hS1 => ?_)
  obtain ⟨hP1, -, hD1⟩ := hB
  rw [ht] at hP1
  obtain ⟨hPo1, hx1⟩ := ap_keep hPo hDo (fun i j p q hi hj e => aD_x hD j i q p hj hi e.symm) hk1 hD1 hFc
  exact k r u hw1 H1 locs1 ls (hPo1.app hP1) (va_D.app hDo (hD1.weaken (fun _ _ _ h => hFc _ h)) (fun i j p q hi hj e => hx1 j i q p hj hi e.symm)) hS1 hl
theorem gi_tabIn (C : GC J l D cl tys cc nL own fr lo) {dflt a z : Int} {offs : Array Int} {len : Nat} {x : Int32} {off : Int} {tgt : Nat} (hd : decode cc pc = .ok (.tableswitch dflt a z offs, len)) (h1 : ¬ x.toInt < a) (h2 : ¬ z < x.toInt) (ho : offs[(x.toInt - a).toNat]? = some off) (ht : (pc : Int) + off = (tgt : Int)) (k : J ws tgt lv st) : J ws pc lv (.int x :: st) := by
  obtain ⟨p, e, R, s, m, args, below, meth, c, A, cells, slots, Q, rfl, hx, hb, hml, hown, hts, hK, hA, hfr, hlo, hc1, hc2⟩ := C
  intro H locs ls hP hD hS hl
  exact lv_tableIn hx hb hd h1 h2 ho ht (k H locs ls hP hD hS hl)
theorem gi_tabOut (C : GC J l D cl tys cc nL own fr lo) {dflt a z : Int} {offs : Array Int} {len : Nat} {x : Int32} {tgt : Nat} (hd : decode cc pc = .ok (.tableswitch dflt a z offs, len)) (h1 : x.toInt < a ∨ z < x.toInt) (ht : (pc : Int) + dflt = (tgt : Int)) (k : J ws tgt lv st) : J ws pc lv (.int x :: st) := by
  obtain ⟨p, e, R, s, m, args, below, meth, c, A, cells, slots, Q, rfl, hx, hb, hml, hown, hts, hK, hA, hfr, hlo, hc1, hc2⟩ := C
  intro H locs ls hP hD hS hl
  exact lv_tableOut hx hb hd h1 ht (k H locs ls hP hD hS hl)
end LR
theorem lx_pair {J : gJ} {cc : ByteArray} {nL fr lo pc : Nat} {lv : List (Nat × Value)} {rest : List Value} {l : Launch} {D : va_G} {ad : Nat → Nat} {dd : Nat → ClassId} {n : Nat} {S L R U : Nat → Nat} {h k : Nat} {st : Nat → Nat} {wo : va_W} {to : List (ClassId × FieldType)} (C : GC J l D vwCl (xtys dd ++ to) cc nL R_law fr lo) (hR : 6 + 1 ≤ fr ∧ 8 + (3 + 11) + 131 ≤ lo) {x y : Int32} (hI : XI n S L R U h k) (hcat : (rest.map fun v => v.category).sum ≤ 8) (hdg : decode cc pc = .ok (.invokevirtual 13, 3)) (kk : ∀ (rr : Int32) (uu : va_W), (fun r v => ∃ n' S' L' R' U' k' st', v = (XW ad dd n' S' L' R' U' h k' 0 st') ∧ mkP n S L R 1 x y r n' S' L' R' ∧ XI n' S' L' R' U' h k') rr uu → J (uu ++ wo) (pc + 3) lv (.int rr :: rest)) : J ((XW ad dd n S L R U h k 0 st) ++ wo) pc lv (.int y :: .int x :: .ref (ad 0) :: rest) :=
  gi_callL (n := 2) C (mx_pair hI) (lw_V q56 q57 q58 q17 q59) (by decide +kernel) hR 0 rfl rfl rfl rfl hcat hdg kk
theorem lx_lock {J : gJ} {cc : ByteArray} {nL fr lo pc : Nat} {lv : List (Nat × Value)} {rest : List Value} {l : Launch} {D : va_G} {ad : Nat → Nat} {dd : Nat → ClassId} {n : Nat} {S L R U : Nat → Nat} {h k : Nat} {st : Nat → Nat} {wo : va_W} {to : List (ClassId × FieldType)} (C : GC J l D vwCl (xtys dd ++ to) cc nL R_law fr lo) (hR : 6 + 1 ≤ fr ∧ 8 + (3 + 11) + 131 ≤ lo) {x y : Int32} (hI : XI n S L R U h k) (hcat : (rest.map fun v => v.category).sum ≤ 8) (hdg : decode cc pc = .ok (.invokevirtual 18, 3)) (kk : ∀ (rr : Int32) (uu : va_W), (fun r v => ∃ n' S' L' R' U' k' st', v = (XW ad dd n' S' L' R' U' h k' 0 st') ∧ mkP n S L R 2 x y r n' S' L' R' ∧ XI n' S' L' R' U' h k') rr uu → J (uu ++ wo) (pc + 3) lv (.int rr :: rest)) : J ((XW ad dd n S L R U h k 0 st) ++ wo) pc lv (.int y :: .int x :: .ref (ad 0) :: rest) :=
  gi_callL (n := 2) C (mx_lock hI) (lw_V q88 q89 q90 q17 q91) (by decide +kernel) hR 0 rfl rfl rfl rfl hcat hdg kk
theorem lx_hear {J : gJ} {cc : ByteArray} {nL fr lo pc : Nat} {lv : List (Nat × Value)} {rest : List Value} {l : Launch} {D : va_G} {ad : Nat → Nat} {dd : Nat → ClassId} {n : Nat} {S L R U : Nat → Nat} {h k : Nat} {st : Nat → Nat} {wo : va_W} {to : List (ClassId × FieldType)} (C : GC J l D vwCl (xtys dd ++ to) cc nL R_law fr lo) (hR : 5 + 1 ≤ fr ∧ 8 + (2 + 11) + 106 ≤ lo) {x : Int32} (hI : XI n S L R U h k) (hcat : (rest.map fun v => v.category).sum ≤ 8) (hdg : decode cc pc = .ok (.invokevirtual 22, 3)) (kk : ∀ (rr : Int32) (uu : va_W), (fun r v => ∃ h' k' st', v = (XW ad dd n S L R U h' k' 0 st') ∧ XI n S L R U h' k' ∧ ((¬ isT n x ∧ r = -1 ∧ h' = h) ∨ ∃ j, j < n ∧ x = nI j ∧ h' = setb h j true ∧ r = nI (cnt k' 28))) rr uu → J (uu ++ wo) (pc + 3) lv (.int rr :: rest)) : J ((XW ad dd n S L R U h k 0 st) ++ wo) pc lv (.int x :: .ref (ad 0) :: rest) :=
  gi_callL (n := 1) C (mx_hear hI) (lw_V q92 q93 q94 q17 q95) (by decide +kernel) hR 0 rfl rfl rfl rfl hcat hdg kk
theorem lx_unhear {J : gJ} {cc : ByteArray} {nL fr lo pc : Nat} {lv : List (Nat × Value)} {rest : List Value} {l : Launch} {D : va_G} {ad : Nat → Nat} {dd : Nat → ClassId} {n : Nat} {S L R U : Nat → Nat} {h k : Nat} {st : Nat → Nat} {wo : va_W} {to : List (ClassId × FieldType)} (C : GC J l D vwCl (xtys dd ++ to) cc nL R_law fr lo) (hR : 7 + 1 ≤ fr ∧ 8 + (2 + 11) + 149 ≤ lo) {x : Int32} (hI : XI n S L R U h k) (hcat : (rest.map fun v => v.category).sum ≤ 8) (hdg : decode cc pc = .ok (.invokevirtual 27, 3)) (kk : ∀ (rr : Int32) (uu : va_W), (fun r v => ∃ h' k' st', v = (XW ad dd n S L R U h' k' 0 st') ∧ XI n S L R U h' k' ∧ ((¬ isT n x ∧ r = -1 ∧ h' = h) ∨ ∃ j, j < n ∧ x = nI j ∧ h' = setb h j false ∧ r = nI (cnt k' 28))) rr uu → J (uu ++ wo) (pc + 3) lv (.int rr :: rest)) : J ((XW ad dd n S L R U h k 0 st) ++ wo) pc lv (.int x :: .ref (ad 0) :: rest) :=
  gi_callL (n := 1) C (mx_unhear hI) (lw_V q99 q100 q101 q17 q102) (by decide +kernel) hR 0 rfl rfl rfl rfl hcat hdg kk
theorem lx_knows {J : gJ} {cc : ByteArray} {nL fr lo pc : Nat} {lv : List (Nat × Value)} {rest : List Value} {l : Launch} {D : va_G} {ad : Nat → Nat} {dd : Nat → ClassId} {n : Nat} {S L R U : Nat → Nat} {h k : Nat} {st : Nat → Nat} {wo : va_W} {to : List (ClassId × FieldType)} (C : GC J l D vwCl (xtys dd ++ to) cc nL R_law fr lo) (hR : 1 + 1 ≤ fr ∧ 8 + (2 + 11) + 21 ≤ lo) {x : Int32} (hI : XI n S L R U h k) (hcat : (rest.map fun v => v.category).sum ≤ 8) (hdg : decode cc pc = .ok (.invokevirtual 31, 3)) (kk : ∀ (rr : Int32) (uu : va_W), (fun r v => v = (XW ad dd n S L R U h k 0 st) ∧ ((¬ isT n x ∧ r = -1) ∨ ∃ j, j < n ∧ x = nI j ∧ r = b2i (k.testBit j))) rr uu → J (uu ++ wo) (pc + 3) lv (.int rr :: rest)) : J ((XW ad dd n S L R U h k 0 st) ++ wo) pc lv (.int x :: .ref (ad 0) :: rest) :=
  gi_callL (n := 1) C (mx_knows hI) (lw_V q111 q112 q113 q17 q114) (by decide +kernel) hR 0 rfl rfl rfl rfl hcat hdg kk
theorem lx_known {J : gJ} {cc : ByteArray} {nL fr lo pc : Nat} {lv : List (Nat × Value)} {rest : List Value} {l : Launch} {D : va_G} {ad : Nat → Nat} {dd : Nat → ClassId} {n : Nat} {S L R U : Nat → Nat} {h k : Nat} {st : Nat → Nat} {wo : va_W} {to : List (ClassId × FieldType)} (C : GC J l D vwCl (xtys dd ++ to) cc nL R_law fr lo) (hR : 1 + 1 ≤ fr ∧ 8 + (1 + 11) + 22 ≤ lo) (hI : XI n S L R U h k) (hcat : (rest.map fun v => v.category).sum ≤ 8) (hdg : decode cc pc = .ok (.invokevirtual 35, 3)) (kk : ∀ (rr : Int32) (uu : va_W), (fun r v => v = (XW ad dd n S L R U h k 0 st) ∧ r = nI (cnt k 28)) rr uu → J (uu ++ wo) (pc + 3) lv (.int rr :: rest)) : J ((XW ad dd n S L R U h k 0 st) ++ wo) pc lv (.ref (ad 0) :: rest) :=
  gi_callL (n := 0) C (mx_known hI) (lw_V q115 q116 q117 q17 q118) (by decide +kernel) hR 0 rfl rfl rfl rfl hcat hdg kk
theorem lx_would {J : gJ} {cc : ByteArray} {nL fr lo pc : Nat} {lv : List (Nat × Value)} {rest : List Value} {l : Launch} {D : va_G} {ad : Nat → Nat} {dd : Nat → ClassId} {n : Nat} {S L R U : Nat → Nat} {h k : Nat} {st : Nat → Nat} {wo : va_W} {to : List (ClassId × FieldType)} (C : GC J l D vwCl (xtys dd ++ to) cc nL R_law fr lo) (hR : 7 + 1 ≤ fr ∧ 8 + (3 + 11) + 152 ≤ lo) {x y : Int32} (hI : XI n S L R U h k) (hcat : (rest.map fun v => v.category).sum ≤ 8) (hdg : decode cc pc = .ok (.invokevirtual 40, 3)) (kk : ∀ (rr : Int32) (uu : va_W), (fun r v => ∃ st', v = (XW ad dd n S L R U h k 0 st') ∧ ((¬ (isT n x ∧ isT n y) ∧ r = -1) ∨ ∃ i j k', i < n ∧ j < n ∧ x = nI i ∧ y = nI j ∧ isC n S L R (fun t => tb h t ∨ t = i) k' ∧ r = b2i (k'.testBit j))) rr uu → J (uu ++ wo) (pc + 3) lv (.int rr :: rest)) : J ((XW ad dd n S L R U h k 0 st) ++ wo) pc lv (.int y :: .int x :: .ref (ad 0) :: rest) :=
  gi_callL (n := 2) C (mx_would hI) (lw_V q119 q120 q121 q17 q122) (by decide +kernel) hR 0 rfl rfl rfl rfl hcat hdg kk
theorem lx_leak {J : gJ} {cc : ByteArray} {nL fr lo pc : Nat} {lv : List (Nat × Value)} {rest : List Value} {l : Launch} {D : va_G} {ad : Nat → Nat} {dd : Nat → ClassId} {n : Nat} {S L R U : Nat → Nat} {h k : Nat} {st : Nat → Nat} {wo : va_W} {to : List (ClassId × FieldType)} (C : GC J l D vwCl (xtys dd ++ to) cc nL R_law fr lo) (hR : 7 + 1 ≤ fr ∧ 8 + (3 + 11) + 152 ≤ lo) {x : Int32} (hI : XI n S L R U h k) (hcat : (rest.map fun v => v.category).sum ≤ 8) (hdg : decode cc pc = .ok (.invokevirtual 44, 3)) (kk : ∀ (rr : Int32) (uu : va_W), (fun r v => ∃ st', v = (XW ad dd n S L R U h k 0 st') ∧ ((¬ isT n x ∧ r = -1) ∨ ∃ g, g < n ∧ x = nI g ∧ lkR n S L R h g r)) rr uu → J (uu ++ wo) (pc + 3) lv (.int rr :: rest)) : J ((XW ad dd n S L R U h k 0 st) ++ wo) pc lv (.int x :: .ref (ad 0) :: rest) :=
  gi_callL (n := 1) C (mx_leak hI) (lw_V q127 q128 q129 q17 q130) (by decide +kernel) hR 0 rfl rfl rfl rfl hcat hdg kk
theorem lx_atomsFor {J : gJ} {cc : ByteArray} {nL fr lo pc : Nat} {lv : List (Nat × Value)} {rest : List Value} {l : Launch} {D : va_G} {ad : Nat → Nat} {dd : Nat → ClassId} {n : Nat} {S L R U : Nat → Nat} {h k : Nat} {st : Nat → Nat} {wo : va_W} {to : List (ClassId × FieldType)} (C : GC J l D vwCl (xtys dd ++ to) cc nL R_law fr lo) (hR : 7 + 1 ≤ fr ∧ 8 + (5 + 11) + 152 ≤ lo) {x : Int32} (hI : XI n S L R U h k) (hcat : (rest.map fun v => v.category).sum ≤ 8) (hdg : decode cc pc = .ok (.invokevirtual 48, 3)) (kk : ∀ (rr : Int32) (uu : va_W), (fun r v => ∃ st', v = (XW ad dd n S L R U h k 0 st') ∧ ((¬ isT n x ∧ r = -1) ∨ ∃ g, g < n ∧ x = nI g ∧ atR n S L R h g r)) rr uu → J (uu ++ wo) (pc + 3) lv (.int rr :: rest)) : J ((XW ad dd n S L R U h k 0 st) ++ wo) pc lv (.int x :: .ref (ad 0) :: rest) :=
  gi_callL (n := 1) C (mx_atomsFor hI) (lw_V q131 q132 q133 q17 q134) (by decide +kernel) hR 0 rfl rfl rfl rfl hcat hdg kk
theorem lx_spare {J : gJ} {cc : ByteArray} {nL fr lo pc : Nat} {lv : List (Nat × Value)} {rest : List Value} {l : Launch} {D : va_G} {ad : Nat → Nat} {dd : Nat → ClassId} {n : Nat} {S L R U : Nat → Nat} {h k : Nat} {st : Nat → Nat} {wo : va_W} {to : List (ClassId × FieldType)} (C : GC J l D vwCl (xtys dd ++ to) cc nL R_law fr lo) (hR : 7 + 1 ≤ fr ∧ 8 + (5 + 11) + 149 ≤ lo) (hI : XI n S L R U h k) (hcat : (rest.map fun v => v.category).sum ≤ 8) (hdg : decode cc pc = .ok (.invokevirtual 52, 3)) (kk : ∀ (rr : Int32) (uu : va_W), (fun r v => ∃ st', v = (XW ad dd n S L R U h k 0 st') ∧ r = nI (cntf (spf n S L R h) n)) rr uu → J (uu ++ wo) (pc + 3) lv (.int rr :: rest)) : J ((XW ad dd n S L R U h k 0 st) ++ wo) pc lv (.ref (ad 0) :: rest) :=
  gi_callL (n := 0) C (mx_spare hI) (lw_V q135 q136 q137 q17 q138) (by decide +kernel) hR 0 rfl rfl rfl rfl hcat hdg kk
theorem lm_pair {J : gJ} {cc : ByteArray} {nL fr lo pc : Nat} {lv : List (Nat × Value)} {rest : List Value} {l : Launch} {D : va_G} {ad : Nat → Nat} {dd : Nat → ClassId} {n : Nat} {S L R : Nat → Nat} {h k : Nat} {ch : Bool} {wo : va_W} {to : List (ClassId × FieldType)} (C : GC J l D vwCl (to ++ mtys dd) cc nL R_law fr lo) (hR : 2 + 1 ≤ fr ∧ 8 + (3 + 11) + 45 ≤ lo) {x y : Int32} (hO : tOK n S L R) (hcat : (rest.map fun v => v.category).sum ≤ 8) (hdg : decode cc pc = .ok (.invokevirtual 17, 3)) (kk : ∀ (rr : Int32) (uu : va_W), (fun r v => ∃ n' S' L' R', v = (MW ad dd n' S' L' R' h k ch) ∧ mkP n S L R 1 x y r n' S' L' R') rr uu → J (wo ++ uu) (pc + 3) lv (.int rr :: rest)) : J (wo ++ (MW ad dd n S L R h k ch)) pc lv (.int y :: .int x :: .ref (ad 0) :: rest) :=
  gi_callR (n := 2) C (mm_pair hO) (lw_V q168 q169 q170 q18 q171) (by decide +kernel) hR 0 rfl rfl rfl rfl hcat hdg kk
theorem lm_lock {J : gJ} {cc : ByteArray} {nL fr lo pc : Nat} {lv : List (Nat × Value)} {rest : List Value} {l : Launch} {D : va_G} {ad : Nat → Nat} {dd : Nat → ClassId} {n : Nat} {S L R : Nat → Nat} {h k : Nat} {ch : Bool} {wo : va_W} {to : List (ClassId × FieldType)} (C : GC J l D vwCl (to ++ mtys dd) cc nL R_law fr lo) (hR : 2 + 1 ≤ fr ∧ 8 + (3 + 11) + 45 ≤ lo) {x y : Int32} (hO : tOK n S L R) (hcat : (rest.map fun v => v.category).sum ≤ 8) (hdg : decode cc pc = .ok (.invokevirtual 21, 3)) (kk : ∀ (rr : Int32) (uu : va_W), (fun r v => ∃ n' S' L' R', v = (MW ad dd n' S' L' R' h k ch) ∧ mkP n S L R 2 x y r n' S' L' R') rr uu → J (wo ++ uu) (pc + 3) lv (.int rr :: rest)) : J (wo ++ (MW ad dd n S L R h k ch)) pc lv (.int y :: .int x :: .ref (ad 0) :: rest) :=
  gi_callR (n := 2) C (mm_lock hO) (lw_V q180 q181 q182 q18 q183) (by decide +kernel) hR 0 rfl rfl rfl rfl hcat hdg kk
theorem lm_hear {J : gJ} {cc : ByteArray} {nL fr lo pc : Nat} {lv : List (Nat × Value)} {rest : List Value} {l : Launch} {D : va_G} {ad : Nat → Nat} {dd : Nat → ClassId} {n : Nat} {S L R : Nat → Nat} {h k : Nat} {ch : Bool} {wo : va_W} {to : List (ClassId × FieldType)} (C : GC J l D vwCl (to ++ mtys dd) cc nL R_law fr lo) (hR : 4 + 1 ≤ fr ∧ 8 + (2 + 11) + 89 ≤ lo) {x : Int32} (hO : tOK n S L R) (hh : h < 2 ^ n) (hk : k < 268435456) (hcat : (rest.map fun v => v.category).sum ≤ 8) (hdg : decode cc pc = .ok (.invokevirtual 26, 3)) (kk : ∀ (rr : Int32) (uu : va_W), (fun r v => ∃ h' k' ch', v = (MW ad dd n S L R h' k' ch') ∧ k' < 268435456 ∧ ((¬ isT n x ∧ r = -1 ∧ h' = h) ∨ ∃ j, j < n ∧ x = nI j ∧ h' = setb h j true ∧ isC n S L R (tb h') k' ∧ r = nI (cnt k' n))) rr uu → J (wo ++ uu) (pc + 3) lv (.int rr :: rest)) : J (wo ++ (MW ad dd n S L R h k ch)) pc lv (.int x :: .ref (ad 0) :: rest) :=
  gi_callR (n := 1) C (mm_hear hO hh hk) (lw_V q184 q185 q186 q18 q187) (by decide +kernel) hR 0 rfl rfl rfl rfl hcat hdg kk
theorem lm_unhear {J : gJ} {cc : ByteArray} {nL fr lo pc : Nat} {lv : List (Nat × Value)} {rest : List Value} {l : Launch} {D : va_G} {ad : Nat → Nat} {dd : Nat → ClassId} {n : Nat} {S L R : Nat → Nat} {h k : Nat} {ch : Bool} {wo : va_W} {to : List (ClassId × FieldType)} (C : GC J l D vwCl (to ++ mtys dd) cc nL R_law fr lo) (hR : 4 + 1 ≤ fr ∧ 8 + (2 + 11) + 89 ≤ lo) {x : Int32} (hO : tOK n S L R) (hh : h < 2 ^ n) (hk : k < 268435456) (hcat : (rest.map fun v => v.category).sum ≤ 8) (hdg : decode cc pc = .ok (.invokevirtual 30, 3)) (kk : ∀ (rr : Int32) (uu : va_W), (fun r v => ∃ h' k' ch', v = (MW ad dd n S L R h' k' ch') ∧ k' < 268435456 ∧ ((¬ isT n x ∧ r = -1 ∧ h' = h) ∨ ∃ j, j < n ∧ x = nI j ∧ h' = setb h j false ∧ isC n S L R (tb h') k' ∧ r = nI (cnt k' n))) rr uu → J (wo ++ uu) (pc + 3) lv (.int rr :: rest)) : J (wo ++ (MW ad dd n S L R h k ch)) pc lv (.int x :: .ref (ad 0) :: rest) :=
  gi_callR (n := 1) C (mm_unhear hO hh hk) (lw_V q208 q209 q210 q18 q211) (by decide +kernel) hR 0 rfl rfl rfl rfl hcat hdg kk
theorem lm_knows {J : gJ} {cc : ByteArray} {nL fr lo pc : Nat} {lv : List (Nat × Value)} {rest : List Value} {l : Launch} {D : va_G} {ad : Nat → Nat} {dd : Nat → ClassId} {n : Nat} {S L R : Nat → Nat} {h k : Nat} {ch : Bool} {wo : va_W} {to : List (ClassId × FieldType)} (C : GC J l D vwCl (to ++ mtys dd) cc nL R_law fr lo) (hR : 3 + 1 ≤ fr ∧ 8 + (2 + 11) + 69 ≤ lo) {x : Int32} (hO : tOK n S L R) (hh : h < 2 ^ n) (hk : k < 268435456) (hcat : (rest.map fun v => v.category).sum ≤ 8) (hdg : decode cc pc = .ok (.invokevirtual 34, 3)) (kk : ∀ (rr : Int32) (uu : va_W), (fun r v => ∃ k' ch', v = (MW ad dd n S L R h k' ch') ∧ k' < 268435456 ∧ ((¬ isT n x ∧ r = -1) ∨ ∃ j, j < n ∧ x = nI j ∧ isC n S L R (tb h) k' ∧ r = b2i (k'.testBit j))) rr uu → J (wo ++ uu) (pc + 3) lv (.int rr :: rest)) : J (wo ++ (MW ad dd n S L R h k ch)) pc lv (.int x :: .ref (ad 0) :: rest) :=
  gi_callR (n := 1) C (mm_knows hO hh hk) (lw_V q212 q213 q214 q18 q215) (by decide +kernel) hR 0 rfl rfl rfl rfl hcat hdg kk
theorem lm_known {J : gJ} {cc : ByteArray} {nL fr lo pc : Nat} {lv : List (Nat × Value)} {rest : List Value} {l : Launch} {D : va_G} {ad : Nat → Nat} {dd : Nat → ClassId} {n : Nat} {S L R : Nat → Nat} {h k : Nat} {ch : Bool} {wo : va_W} {to : List (ClassId × FieldType)} (C : GC J l D vwCl (to ++ mtys dd) cc nL R_law fr lo) (hR : 3 + 1 ≤ fr ∧ 8 + (1 + 11) + 69 ≤ lo) (hO : tOK n S L R) (hh : h < 2 ^ n) (hk : k < 268435456) (hcat : (rest.map fun v => v.category).sum ≤ 8) (hdg : decode cc pc = .ok (.invokevirtual 39, 3)) (kk : ∀ (rr : Int32) (uu : va_W), (fun r v => ∃ k' ch', v = (MW ad dd n S L R h k' ch') ∧ isC n S L R (tb h) k' ∧ r = nI (cnt k' n)) rr uu → J (wo ++ uu) (pc + 3) lv (.int rr :: rest)) : J (wo ++ (MW ad dd n S L R h k ch)) pc lv (.ref (ad 0) :: rest) :=
  gi_callR (n := 0) C (mm_known hO hh hk) (lw_V q216 q189 q190 q18 q191) (by decide +kernel) hR 0 rfl rfl rfl rfl hcat hdg kk
theorem lm_would {J : gJ} {cc : ByteArray} {nL fr lo pc : Nat} {lv : List (Nat × Value)} {rest : List Value} {l : Launch} {D : va_G} {ad : Nat → Nat} {dd : Nat → ClassId} {n : Nat} {S L R : Nat → Nat} {h k : Nat} {ch : Bool} {wo : va_W} {to : List (ClassId × FieldType)} (C : GC J l D vwCl (to ++ mtys dd) cc nL R_law fr lo) (hR : 3 + 1 ≤ fr ∧ 8 + (3 + 11) + 69 ≤ lo) {x y : Int32} (hO : tOK n S L R) (hh : h < 2 ^ n) (hk : k < 268435456) (hcat : (rest.map fun v => v.category).sum ≤ 8) (hdg : decode cc pc = .ok (.invokevirtual 43, 3)) (kk : ∀ (rr : Int32) (uu : va_W), (fun r v => ∃ k' ch', v = (MW ad dd n S L R h k' ch') ∧ k' < 268435456 ∧ ((¬ (isT n x ∧ isT n y) ∧ r = -1) ∨ ∃ i j, i < n ∧ j < n ∧ x = nI i ∧ y = nI j ∧ isC n S L R (fun t => tb h t ∨ t = i) k' ∧ r = b2i (k'.testBit j))) rr uu → J (wo ++ uu) (pc + 3) lv (.int rr :: rest)) : J (wo ++ (MW ad dd n S L R h k ch)) pc lv (.int y :: .int x :: .ref (ad 0) :: rest) :=
  gi_callR (n := 2) C (mm_would hO hh hk) (lw_V q217 q218 q219 q18 q220) (by decide +kernel) hR 0 rfl rfl rfl rfl hcat hdg kk
theorem lm_leak {J : gJ} {cc : ByteArray} {nL fr lo pc : Nat} {lv : List (Nat × Value)} {rest : List Value} {l : Launch} {D : va_G} {ad : Nat → Nat} {dd : Nat → ClassId} {n : Nat} {S L R : Nat → Nat} {h k : Nat} {ch : Bool} {wo : va_W} {to : List (ClassId × FieldType)} (C : GC J l D vwCl (to ++ mtys dd) cc nL R_law fr lo) (hR : 4 + 1 ≤ fr ∧ 8 + (3 + 11) + 91 ≤ lo) {x : Int32} (hO : tOK n S L R) (hh : h < 2 ^ n) (hk : k < 268435456) (hcat : (rest.map fun v => v.category).sum ≤ 8) (hdg : decode cc pc = .ok (.invokevirtual 47, 3)) (kk : ∀ (rr : Int32) (uu : va_W), (fun r v => ∃ k' ch', v = (MW ad dd n S L R h k' ch') ∧ k' < 268435456 ∧ ((¬ isT n x ∧ r = -1) ∨ ∃ g, g < n ∧ x = nI g ∧ lkR n S L R h g r)) rr uu → J (wo ++ uu) (pc + 3) lv (.int rr :: rest)) : J (wo ++ (MW ad dd n S L R h k ch)) pc lv (.int x :: .ref (ad 0) :: rest) :=
  gi_callR (n := 1) C (mm_leak hO hh hk) (lw_V q221 q222 q223 q18 q224) (by decide +kernel) hR 0 rfl rfl rfl rfl hcat hdg kk
theorem lm_atomsFor {J : gJ} {cc : ByteArray} {nL fr lo pc : Nat} {lv : List (Nat × Value)} {rest : List Value} {l : Launch} {D : va_G} {ad : Nat → Nat} {dd : Nat → ClassId} {n : Nat} {S L R : Nat → Nat} {h k : Nat} {ch : Bool} {wo : va_W} {to : List (ClassId × FieldType)} (C : GC J l D vwCl (to ++ mtys dd) cc nL R_law fr lo) (hR : 3 + 1 ≤ fr ∧ 8 + (5 + 11) + 69 ≤ lo) {x : Int32} (hO : tOK n S L R) (hh : h < 2 ^ n) (hk : k < 268435456) (hcat : (rest.map fun v => v.category).sum ≤ 8) (hdg : decode cc pc = .ok (.invokevirtual 51, 3)) (kk : ∀ (rr : Int32) (uu : va_W), (fun r v => ∃ k' ch', v = (MW ad dd n S L R h k' ch') ∧ k' < 268435456 ∧ ((¬ isT n x ∧ r = -1) ∨ ∃ g, g < n ∧ x = nI g ∧ atR n S L R h g r)) rr uu → J (wo ++ uu) (pc + 3) lv (.int rr :: rest)) : J (wo ++ (MW ad dd n S L R h k ch)) pc lv (.int x :: .ref (ad 0) :: rest) :=
  gi_callR (n := 1) C (mm_atomsFor hO hh hk) (lw_V q227 q228 q229 q18 q230) (by decide +kernel) hR 0 rfl rfl rfl rfl hcat hdg kk
theorem lm_spare {J : gJ} {cc : ByteArray} {nL fr lo pc : Nat} {lv : List (Nat × Value)} {rest : List Value} {l : Launch} {D : va_G} {ad : Nat → Nat} {dd : Nat → ClassId} {n : Nat} {S L R : Nat → Nat} {h k : Nat} {ch : Bool} {wo : va_W} {to : List (ClassId × FieldType)} (C : GC J l D vwCl (to ++ mtys dd) cc nL R_law fr lo) (hR : 3 + 1 ≤ fr ∧ 8 + (3 + 11) + 69 ≤ lo) (hO : tOK n S L R) (hh : h < 2 ^ n) (hk : k < 268435456) (hcat : (rest.map fun v => v.category).sum ≤ 8) (hdg : decode cc pc = .ok (.invokevirtual 55, 3)) (kk : ∀ (rr : Int32) (uu : va_W), (fun r v => ∃ k' ch', v = (MW ad dd n S L R h k' ch') ∧ k' < 268435456 ∧ r = nI (cntf (spf n S L R h) n)) rr uu → J (wo ++ uu) (pc + 3) lv (.int rr :: rest)) : J (wo ++ (MW ad dd n S L R h k ch)) pc lv (.ref (ad 0) :: rest) :=
  gi_callR (n := 0) C (mm_spare hO hh hk) (lw_V q234 q235 q236 q18 q237) (by decide +kernel) hR 0 rfl rfl rfl rfl hcat hdg kk
end
section
/-! the answers agree -/
theorem eq_cnt {n : Nat} {S L R : Nat → Nat} {h k k2 : Nat} (hn : n ≤ 28) (h1 : isC n S L R (tb h) k) (h2 : isC n S L R (tb h) k2) : nI (cnt k 28) = nI (cnt k2 n) := by
  rw [← isC_unique h1 h2 (fun _ => Iff.rfl), cnt_top h1.1 28 hn]
theorem eq_hear {n : Nat} {S L R : Nat → Nat} {h h1 h2 k k2 : Nat} {x r r2 : Int32} {v : Bool} (hn : n ≤ 28) (hC : isC n S L R (tb h1) k) (hx : (¬ isT n x ∧ r = -1 ∧ h1 = h) ∨ ∃ j, j < n ∧ x = nI j ∧ h1 = setb h j v ∧ r = nI (cnt k 28)) (hm : (¬ isT n x ∧ r2 = -1 ∧ h2 = h) ∨ ∃ j, j < n ∧ x = nI j ∧ h2 = setb h j v ∧ isC n S L R (tb h2) k2 ∧ r2 = nI (cnt k2 n)) : r = r2 ∧ h1 = h2 := by
  rcases hx with ⟨q1, rfl, rfl⟩ | ⟨j, hj, ex, e1, rfl⟩
  · rcases hm with ⟨q2, rfl, rfl⟩ | ⟨j2, hj2, ex2, e2, hC2, rfl⟩
    · exact ⟨rfl, rfl⟩
    · exact absurd ⟨j2, hj2, ex2⟩ q1
  · rcases hm with ⟨q2, rfl, rfl⟩ | ⟨j2, hj2, ex2, e2, hC2, rfl⟩
    · exact absurd ⟨j, hj, ex⟩ q2
    · have ej := nI_inj hn hj hj2 (ex.symm.trans ex2)
      subst ej
      have e12 : h1 = h2 := e1.trans e2.symm
      rw [← e12] at hC2
      exact ⟨eq_cnt hn hC hC2, e12⟩
theorem eq_knows {n : Nat} {S L R : Nat → Nat} {h k k2 : Nat} {x r r2 : Int32} (hn : n ≤ 28) (hC : isC n S L R (tb h) k) (hx : (¬ isT n x ∧ r = -1) ∨ ∃ j, j < n ∧ x = nI j ∧ r = b2i (k.testBit j)) (hm : (¬ isT n x ∧ r2 = -1) ∨ ∃ j, j < n ∧ x = nI j ∧ isC n S L R (tb h) k2 ∧ r2 = b2i (k2.testBit j)) : r = r2 := by
  rcases hx with ⟨q1, rfl⟩ | ⟨j, hj, ex, rfl⟩
  · rcases hm with ⟨q2, rfl⟩ | ⟨j2, hj2, ex2, hC2, rfl⟩
    · rfl
    · exact absurd ⟨j2, hj2, ex2⟩ q1
  · rcases hm with ⟨q2, rfl⟩ | ⟨j2, hj2, ex2, hC2, rfl⟩
    · exact absurd ⟨j, hj, ex⟩ q2
    · rw [nI_inj hn hj hj2 (ex.symm.trans ex2), isC_unique hC hC2 (fun _ => Iff.rfl)]
theorem eq_would {n : Nat} {S L R : Nat → Nat} {h k2 : Nat} {x y r r2 : Int32} (hn : n ≤ 28) (hx : (¬ (isT n x ∧ isT n y) ∧ r = -1) ∨ ∃ i j k', i < n ∧ j < n ∧ x = nI i ∧ y = nI j ∧ isC n S L R (fun t => tb h t ∨ t = i) k' ∧ r = b2i (k'.testBit j)) (hm : (¬ (isT n x ∧ isT n y) ∧ r2 = -1) ∨ ∃ i j, i < n ∧ j < n ∧ x = nI i ∧ y = nI j ∧ isC n S L R (fun t => tb h t ∨ t = i) k2 ∧ r2 = b2i (k2.testBit j)) : r = r2 := by
  rcases hx with ⟨q1, rfl⟩ | ⟨i, j, k', hi, hj, ex, ey, hC, rfl⟩
  · rcases hm with ⟨q2, rfl⟩ | ⟨i2, j2, hi2, hj2, ex2, ey2, hC2, rfl⟩
    · rfl
    · exact absurd ⟨⟨i2, hi2, ex2⟩, ⟨j2, hj2, ey2⟩⟩ q1
  · rcases hm with ⟨q2, rfl⟩ | ⟨i2, j2, hi2, hj2, ex2, ey2, hC2, rfl⟩
    · exact absurd ⟨⟨i, hi, ex⟩, ⟨j, hj, ey⟩⟩ q2
    · have ei := nI_inj hn hi hi2 (ex.symm.trans ex2)
      subst ei
      rw [nI_inj hn hj hj2 (ey.symm.trans ey2), isC_unique hC hC2 (fun _ => Iff.rfl)]
theorem eq_ask {n : Nat} {x r r2 : Int32} {Q : Nat → Int32 → Prop} (hn : n ≤ 28) (hf : ∀ g a b, Q g a → Q g b → a = b) (hx : (¬ isT n x ∧ r = -1) ∨ ∃ g, g < n ∧ x = nI g ∧ Q g r) (hm : (¬ isT n x ∧ r2 = -1) ∨ ∃ g, g < n ∧ x = nI g ∧ Q g r2) : r = r2 := by
  rcases hx with ⟨q1, rfl⟩ | ⟨j, hj, ex, h1⟩
  · rcases hm with ⟨q2, rfl⟩ | ⟨j2, hj2, ex2, h2⟩
    · rfl
    · exact absurd ⟨j2, hj2, ex2⟩ q1
  · rcases hm with ⟨q2, rfl⟩ | ⟨j2, hj2, ex2, h2⟩
    · exact absurd ⟨j, hj, ex⟩ q2
    · have ej := nI_inj hn hj hj2 (ex.symm.trans ex2)
      subst ej
      exact hf j _ _ h1 h2
theorem law_gt {i N : Nat} (hi : i < 2 ^ 30) (hN : N < 2 ^ 30) : nI N - nI 3 < nI i ↔ ¬ (i + 3 ≤ N) := by
  rw [Int32.lt_iff_toInt_lt, pk_sub_toInt hN (by omega), nI_toInt (by omega)]
  omega
set_option maxRecDepth 100000 in
/-- THE LAW'S LOOP: at its head both hold the same terms and the same heard set -/
theorem law_loop {J : gJ} {l : Launch} {D : va_G} {ad ae : Nat → Nat} {dd de : Nat → ClassId} {b N : Nat} {xs : Nat → Int32} (hN : N ≤ 192) (C : GC J l D vwCl (xtys dd ++ mtys de) cL_law 4 R_law 10 352) (hld : ∀ {ws : va_W} {pc : Nat} {lv : List (Nat × Value)} {st : List Value} {j : Nat}, j < N → decode cL_law pc = .ok (.iaload, 1) → J ws (pc + 1) lv (.int (xs j) :: st) → J ws pc lv (.int (nI j) :: .ref b :: st)) (hlen : ∀ {ws : va_W} {pc : Nat} {lv : List (Nat × Value)} {st : List Value}, decode cL_law pc = .ok (.arraylength, 1) → J ws (pc + 1) lv (.int (nI N) :: st) → J ws pc lv (.ref b :: st)) (hret : ∀ (ws : va_W) (pc : Nat) (lv : List (Nat × Value)), decode cL_law pc = .ok (.ireturn, 1) → J ws pc lv [.int 1]) : ∀ (d i n : Nat) (S L R U : Nat → Nat) (h k : Nat) (st : Nat → Nat) (km : Nat) (ch : Bool), N + 1 ≤ i + d → i ≤ N + 3 → XI n S L R U h k → km < 268435456 → J ((XW ad dd n S L R U h k 0 st) ++ (MW ae de n S L R h km ch)) 18 [(0, .ref b), (1, .ref (ad 0)), (2, .ref (ae 0)), (3, .int (nI i))] [] := by
  intro d
  induction d with
  | zero =>
    intro i n S L R U h k st km ch hd hi hI hkm
    refine gi_iload_n C dL_law_18 rfl 3 rfl ?_
    refine gi_aload_n C dL_law_19 rfl 0 rfl ?_
    refine hlen dL_law_20 ?_
    refine gi_iconst (v := nI 3) C dL_law_21 (by decide) ?_
    refine gi_isub C dL_law_22 rfl ?_
    refine gi_icmp_gt (tgt := 334) C dL_law_23 (by decide) (fun h1 => ?_) (fun h1 => ?_)
    · refine gi_iconst (v := 1) C dL_law_334 (by decide) ?_
      exact hret _ _ _ dL_law_335
    · exact absurd ((law_gt (by omega) (by omega)).mpr (by omega)) h1
  | succ d ih =>
    intro i n S L R U h k st km ch hd hi hI hkm
    have next : ∀ (n : Nat) (S L R U : Nat → Nat) (h k : Nat) (st : Nat → Nat) (km : Nat) (ch : Bool), i + 3 ≤ N → XI n S L R U h k → km < 268435456 → J ((XW ad dd n S L R U h k 0 st) ++ (MW ae de n S L R h km ch)) 328 [(0, .ref b), (1, .ref (ad 0)), (2, .ref (ae 0)), (3, .int (nI i))] [] := by
      intro n S L R U h k st km ch hd2 hI hkm
      refine gi_iinc (x := nI (i + 3)) (lv' := [(3, _), (0, _), (1, _), (2, _)]) C dL_law_328 3 rfl (by rw [show Int32.ofInt 3 = nI 3 by decide]; exact nI_add i 3) (by decide) rfl ?_
      refine gi_goto (tgt := 18) C dL_law_331 (by decide) ?_
      refine gi_sub (lv' := [(0, _), (1, _), (2, _), (3, _)]) C [1, 2, 3, 0] rfl ?_
      exact ih (i + 3) n S L R U h k st km ch (by omega) (by omega) hI hkm
    refine gi_iload_n C dL_law_18 rfl 3 rfl ?_
    refine gi_aload_n C dL_law_19 rfl 0 rfl ?_
    refine hlen dL_law_20 ?_
    refine gi_iconst (v := nI 3) C dL_law_21 (by decide) ?_
    refine gi_isub C dL_law_22 rfl ?_
    refine gi_icmp_gt (tgt := 334) C dL_law_23 (by decide) (fun h1 => ?_) (fun h1 => ?_)
    · refine gi_iconst (v := 1) C dL_law_334 (by decide) ?_
      exact hret _ _ _ dL_law_335
    · have h3 : i + 3 ≤ N := by
        rcases Nat.lt_or_ge N (i + 3) with q | q
        · exact absurd ((law_gt (by omega) (by omega)).mpr (by omega)) h1
        · exact q
      have hn := hI.1.2.1
      have hO := hI.1
      have hh := hI.2.2.1
      refine gi_aload_n C dL_law_26 rfl 0 rfl ?_
      refine gi_iload_n C dL_law_27 rfl 3 rfl ?_
      refine hld (by omega) dL_law_28 ?_
      refine gi_bipush (v := nI 15) C dL_law_29 (by decide) ?_
      obtain ⟨j, hj, ej⟩ := pk_andE (xs i) (m := nI 15) 4 (by decide)
      refine gi_iand (v := nI j) C dL_law_31 ej ?_
      have hjc : j = 0 ∨ j = 1 ∨ j = 2 ∨ j = 3 ∨ j = 4 ∨ j = 5 ∨ j = 6 ∨ j = 7 ∨ j = 8 ∨ j = 9 ∨ 10 ≤ j := by omega
      rcases hjc with rfl | rfl | rfl | rfl | rfl | rfl | rfl | rfl | rfl | rfl | hj10
      · refine gi_tabIn (off := 56) (tgt := 88) C dL_law_32 (by decide) (by decide) (by decide) (by decide) ?_
        refine gi_aload_n C dL_law_88 rfl 1 rfl ?_
        refine gi_aload_n C dL_law_89 rfl 0 rfl ?_
        refine gi_iload_n C dL_law_90 rfl 3 rfl ?_
        refine gi_iconst (v := nI 1) C dL_law_91 (by decide) ?_
        refine gn_iadd C dL_law_92 ?_
        refine hld (by omega) dL_law_93 ?_
        refine gi_aload_n C dL_law_94 rfl 0 rfl ?_
        refine gi_iload_n C dL_law_95 rfl 3 rfl ?_
        refine gi_iconst (v := nI 2) C dL_law_96 (by decide) ?_
        refine gn_iadd C dL_law_97 ?_
        refine hld (by omega) dL_law_98 ?_
        refine lx_pair C (by decide) hI (Nat.le_of_ble_eq_true rfl) dL_law_99 (fun r1 u hu => ?_)
        obtain ⟨n', S', L', R', U', k', st', rfl, hm1, hI1⟩ := hu
        refine gi_aload_n C dL_law_102 rfl 2 rfl ?_
        refine gi_aload_n C dL_law_103 rfl 0 rfl ?_
        refine gi_iload_n C dL_law_104 rfl 3 rfl ?_
        refine gi_iconst (v := nI 1) C dL_law_105 (by decide) ?_
        refine gn_iadd C dL_law_106 ?_
        refine hld (by omega) dL_law_107 ?_
        refine gi_aload_n C dL_law_108 rfl 0 rfl ?_
        refine gi_iload_n C dL_law_109 rfl 3 rfl ?_
        refine gi_iconst (v := nI 2) C dL_law_110 (by decide) ?_
        refine gn_iadd C dL_law_111 ?_
        refine hld (by omega) dL_law_112 ?_
        refine lm_pair C (by decide) hO (Nat.le_of_ble_eq_true rfl) dL_law_113 (fun r2 v hv => ?_)
        obtain ⟨n2, S2, L2, R2, rfl, hm2⟩ := hv
        obtain ⟨er, rfl, rfl, rfl, rfl⟩ := mkP_fun hn hm1 hm2
        refine gi_icmp_eq (tgt := 328) C dL_law_116 (by decide) (fun hq => ?_) (fun hq => ?_)
        · exact next n' S' L' R' U' h k' st' km ch h3 hI1 hkm
        · exact absurd er hq
      · refine gi_tabIn (off := 89) (tgt := 121) C dL_law_32 (by decide) (by decide) (by decide) (by decide) ?_
        refine gi_aload_n C dL_law_121 rfl 1 rfl ?_
        refine gi_aload_n C dL_law_122 rfl 0 rfl ?_
        refine gi_iload_n C dL_law_123 rfl 3 rfl ?_
        refine gi_iconst (v := nI 1) C dL_law_124 (by decide) ?_
        refine gn_iadd C dL_law_125 ?_
        refine hld (by omega) dL_law_126 ?_
        refine gi_aload_n C dL_law_127 rfl 0 rfl ?_
        refine gi_iload_n C dL_law_128 rfl 3 rfl ?_
        refine gi_iconst (v := nI 2) C dL_law_129 (by decide) ?_
        refine gn_iadd C dL_law_130 ?_
        refine hld (by omega) dL_law_131 ?_
        refine lx_lock C (by decide) hI (Nat.le_of_ble_eq_true rfl) dL_law_132 (fun r1 u hu => ?_)
        obtain ⟨n', S', L', R', U', k', st', rfl, hm1, hI1⟩ := hu
        refine gi_aload_n C dL_law_135 rfl 2 rfl ?_
        refine gi_aload_n C dL_law_136 rfl 0 rfl ?_
        refine gi_iload_n C dL_law_137 rfl 3 rfl ?_
        refine gi_iconst (v := nI 1) C dL_law_138 (by decide) ?_
        refine gn_iadd C dL_law_139 ?_
        refine hld (by omega) dL_law_140 ?_
        refine gi_aload_n C dL_law_141 rfl 0 rfl ?_
        refine gi_iload_n C dL_law_142 rfl 3 rfl ?_
        refine gi_iconst (v := nI 2) C dL_law_143 (by decide) ?_
        refine gn_iadd C dL_law_144 ?_
        refine hld (by omega) dL_law_145 ?_
        refine lm_lock C (by decide) hO (Nat.le_of_ble_eq_true rfl) dL_law_146 (fun r2 v hv => ?_)
        obtain ⟨n2, S2, L2, R2, rfl, hm2⟩ := hv
        obtain ⟨er, rfl, rfl, rfl, rfl⟩ := mkP_fun hn hm1 hm2
        refine gi_icmp_eq (tgt := 328) C dL_law_149 (by decide) (fun hq => ?_) (fun hq => ?_)
        · exact next n' S' L' R' U' h k' st' km ch h3 hI1 hkm
        · exact absurd er hq
      · refine gi_tabIn (off := 122) (tgt := 154) C dL_law_32 (by decide) (by decide) (by decide) (by decide) ?_
        refine gi_aload_n C dL_law_154 rfl 1 rfl ?_
        refine gi_aload_n C dL_law_155 rfl 0 rfl ?_
        refine gi_iload_n C dL_law_156 rfl 3 rfl ?_
        refine gi_iconst (v := nI 1) C dL_law_157 (by decide) ?_
        refine gn_iadd C dL_law_158 ?_
        refine hld (by omega) dL_law_159 ?_
        refine lx_hear C (by decide) hI (Nat.le_of_ble_eq_true rfl) dL_law_160 (fun r1 u hu => ?_)
        obtain ⟨h', k', st', rfl, hI1, hr1⟩ := hu
        refine gi_aload_n C dL_law_163 rfl 2 rfl ?_
        refine gi_aload_n C dL_law_164 rfl 0 rfl ?_
        refine gi_iload_n C dL_law_165 rfl 3 rfl ?_
        refine gi_iconst (v := nI 1) C dL_law_166 (by decide) ?_
        refine gn_iadd C dL_law_167 ?_
        refine hld (by omega) dL_law_168 ?_
        refine lm_hear C (by decide) hO hh hkm (Nat.le_of_ble_eq_true rfl) dL_law_169 (fun r2 v hv => ?_)
        obtain ⟨h2, k2, ch2, rfl, hk2, hr2⟩ := hv
        obtain ⟨er, rfl⟩ := eq_hear hn hI1.2.2.2 hr1 hr2
        refine gi_icmp_eq (tgt := 328) C dL_law_172 (by decide) (fun hq => ?_) (fun hq => ?_)
        · exact next n S L R U h' k' st' k2 ch2 h3 hI1 hk2
        · exact absurd er hq
      · refine gi_tabIn (off := 145) (tgt := 177) C dL_law_32 (by decide) (by decide) (by decide) (by decide) ?_
        refine gi_aload_n C dL_law_177 rfl 1 rfl ?_
        refine gi_aload_n C dL_law_178 rfl 0 rfl ?_
        refine gi_iload_n C dL_law_179 rfl 3 rfl ?_
        refine gi_iconst (v := nI 1) C dL_law_180 (by decide) ?_
        refine gn_iadd C dL_law_181 ?_
        refine hld (by omega) dL_law_182 ?_
        refine lx_unhear C (by decide) hI (Nat.le_of_ble_eq_true rfl) dL_law_183 (fun r1 u hu => ?_)
        obtain ⟨h', k', st', rfl, hI1, hr1⟩ := hu
        refine gi_aload_n C dL_law_186 rfl 2 rfl ?_
        refine gi_aload_n C dL_law_187 rfl 0 rfl ?_
        refine gi_iload_n C dL_law_188 rfl 3 rfl ?_
        refine gi_iconst (v := nI 1) C dL_law_189 (by decide) ?_
        refine gn_iadd C dL_law_190 ?_
        refine hld (by omega) dL_law_191 ?_
        refine lm_unhear C (by decide) hO hh hkm (Nat.le_of_ble_eq_true rfl) dL_law_192 (fun r2 v hv => ?_)
        obtain ⟨h2, k2, ch2, rfl, hk2, hr2⟩ := hv
        obtain ⟨er, rfl⟩ := eq_hear hn hI1.2.2.2 hr1 hr2
        refine gi_icmp_eq (tgt := 328) C dL_law_195 (by decide) (fun hq => ?_) (fun hq => ?_)
        · exact next n S L R U h' k' st' k2 ch2 h3 hI1 hk2
        · exact absurd er hq
      · refine gi_tabIn (off := 168) (tgt := 200) C dL_law_32 (by decide) (by decide) (by decide) (by decide) ?_
        refine gi_aload_n C dL_law_200 rfl 1 rfl ?_
        refine gi_aload_n C dL_law_201 rfl 0 rfl ?_
        refine gi_iload_n C dL_law_202 rfl 3 rfl ?_
        refine gi_iconst (v := nI 1) C dL_law_203 (by decide) ?_
        refine gn_iadd C dL_law_204 ?_
        refine hld (by omega) dL_law_205 ?_
        refine lx_knows C (by decide) hI (Nat.le_of_ble_eq_true rfl) dL_law_206 (fun r1 u hu => ?_)
        obtain ⟨rfl, hr1⟩ := hu
        refine gi_aload_n C dL_law_209 rfl 2 rfl ?_
        refine gi_aload_n C dL_law_210 rfl 0 rfl ?_
        refine gi_iload_n C dL_law_211 rfl 3 rfl ?_
        refine gi_iconst (v := nI 1) C dL_law_212 (by decide) ?_
        refine gn_iadd C dL_law_213 ?_
        refine hld (by omega) dL_law_214 ?_
        refine lm_knows C (by decide) hO hh hkm (Nat.le_of_ble_eq_true rfl) dL_law_215 (fun r2 v hv => ?_)
        obtain ⟨k2, ch2, rfl, hk2, hr2⟩ := hv
        have er := eq_knows hn hI.2.2.2 hr1 hr2
        refine gi_icmp_eq (tgt := 328) C dL_law_218 (by decide) (fun hq => ?_) (fun hq => ?_)
        · exact next n S L R U h k st k2 ch2 h3 hI hk2
        · exact absurd er hq
      · refine gi_tabIn (off := 191) (tgt := 223) C dL_law_32 (by decide) (by decide) (by decide) (by decide) ?_
        refine gi_aload_n C dL_law_223 rfl 1 rfl ?_
        refine lx_known C (by decide) hI (Nat.le_of_ble_eq_true rfl) dL_law_224 (fun r1 u hu => ?_)
        obtain ⟨rfl, hr1⟩ := hu
        refine gi_aload_n C dL_law_227 rfl 2 rfl ?_
        refine lm_known C (by decide) hO hh hkm (Nat.le_of_ble_eq_true rfl) dL_law_228 (fun r2 v hv => ?_)
        obtain ⟨k2, ch2, rfl, hC2, hr2⟩ := hv
        have er : r1 = r2 := by rw [hr1, hr2]; exact eq_cnt hn hI.2.2.2 hC2
        refine gi_icmp_eq (tgt := 328) C dL_law_231 (by decide) (fun hq => ?_) (fun hq => ?_)
        · exact next n S L R U h k st k2 ch2 h3 hI (p2_le hC2.1 hn)
        · exact absurd er hq
      · refine gi_tabIn (off := 204) (tgt := 236) C dL_law_32 (by decide) (by decide) (by decide) (by decide) ?_
        refine gi_aload_n C dL_law_236 rfl 1 rfl ?_
        refine gi_aload_n C dL_law_237 rfl 0 rfl ?_
        refine gi_iload_n C dL_law_238 rfl 3 rfl ?_
        refine gi_iconst (v := nI 1) C dL_law_239 (by decide) ?_
        refine gn_iadd C dL_law_240 ?_
        refine hld (by omega) dL_law_241 ?_
        refine gi_aload_n C dL_law_242 rfl 0 rfl ?_
        refine gi_iload_n C dL_law_243 rfl 3 rfl ?_
        refine gi_iconst (v := nI 2) C dL_law_244 (by decide) ?_
        refine gn_iadd C dL_law_245 ?_
        refine hld (by omega) dL_law_246 ?_
        refine lx_would C (by decide) hI (Nat.le_of_ble_eq_true rfl) dL_law_247 (fun r1 u hu => ?_)
        obtain ⟨st', rfl, hr1⟩ := hu
        refine gi_aload_n C dL_law_250 rfl 2 rfl ?_
        refine gi_aload_n C dL_law_251 rfl 0 rfl ?_
        refine gi_iload_n C dL_law_252 rfl 3 rfl ?_
        refine gi_iconst (v := nI 1) C dL_law_253 (by decide) ?_
        refine gn_iadd C dL_law_254 ?_
        refine hld (by omega) dL_law_255 ?_
        refine gi_aload_n C dL_law_256 rfl 0 rfl ?_
        refine gi_iload_n C dL_law_257 rfl 3 rfl ?_
        refine gi_iconst (v := nI 2) C dL_law_258 (by decide) ?_
        refine gn_iadd C dL_law_259 ?_
        refine hld (by omega) dL_law_260 ?_
        refine lm_would C (by decide) hO hh hkm (Nat.le_of_ble_eq_true rfl) dL_law_261 (fun r2 v hv => ?_)
        obtain ⟨k2, ch2, rfl, hk2, hr2⟩ := hv
        have er := eq_would hn hr1 hr2
        refine gi_icmp_eq (tgt := 328) C dL_law_264 (by decide) (fun hq => ?_) (fun hq => ?_)
        · exact next n S L R U h k st' k2 ch2 h3 hI hk2
        · exact absurd er hq
      · refine gi_tabIn (off := 237) (tgt := 269) C dL_law_32 (by decide) (by decide) (by decide) (by decide) ?_
        refine gi_aload_n C dL_law_269 rfl 1 rfl ?_
        refine gi_aload_n C dL_law_270 rfl 0 rfl ?_
        refine gi_iload_n C dL_law_271 rfl 3 rfl ?_
        refine gi_iconst (v := nI 1) C dL_law_272 (by decide) ?_
        refine gn_iadd C dL_law_273 ?_
        refine hld (by omega) dL_law_274 ?_
        refine lx_leak C (by decide) hI (Nat.le_of_ble_eq_true rfl) dL_law_275 (fun r1 u hu => ?_)
        obtain ⟨st', rfl, hr1⟩ := hu
        refine gi_aload_n C dL_law_278 rfl 2 rfl ?_
        refine gi_aload_n C dL_law_279 rfl 0 rfl ?_
        refine gi_iload_n C dL_law_280 rfl 3 rfl ?_
        refine gi_iconst (v := nI 1) C dL_law_281 (by decide) ?_
        refine gn_iadd C dL_law_282 ?_
        refine hld (by omega) dL_law_283 ?_
        refine lm_leak C (by decide) hO hh hkm (Nat.le_of_ble_eq_true rfl) dL_law_284 (fun r2 v hv => ?_)
        obtain ⟨k2, ch2, rfl, hk2, hr2⟩ := hv
        have er := eq_ask (Q := lkR n S L R h) hn (fun g a b q1 q2 => lkR_fun q1 q2) hr1 hr2
        refine gi_icmp_eq (tgt := 328) C dL_law_287 (by decide) (fun hq => ?_) (fun hq => ?_)
        · exact next n S L R U h k st' k2 ch2 h3 hI hk2
        · exact absurd er hq
      · refine gi_tabIn (off := 260) (tgt := 292) C dL_law_32 (by decide) (by decide) (by decide) (by decide) ?_
        refine gi_aload_n C dL_law_292 rfl 1 rfl ?_
        refine gi_aload_n C dL_law_293 rfl 0 rfl ?_
        refine gi_iload_n C dL_law_294 rfl 3 rfl ?_
        refine gi_iconst (v := nI 1) C dL_law_295 (by decide) ?_
        refine gn_iadd C dL_law_296 ?_
        refine hld (by omega) dL_law_297 ?_
        refine lx_atomsFor C (by decide) hI (Nat.le_of_ble_eq_true rfl) dL_law_298 (fun r1 u hu => ?_)
        obtain ⟨st', rfl, hr1⟩ := hu
        refine gi_aload_n C dL_law_301 rfl 2 rfl ?_
        refine gi_aload_n C dL_law_302 rfl 0 rfl ?_
        refine gi_iload_n C dL_law_303 rfl 3 rfl ?_
        refine gi_iconst (v := nI 1) C dL_law_304 (by decide) ?_
        refine gn_iadd C dL_law_305 ?_
        refine hld (by omega) dL_law_306 ?_
        refine lm_atomsFor C (by decide) hO hh hkm (Nat.le_of_ble_eq_true rfl) dL_law_307 (fun r2 v hv => ?_)
        obtain ⟨k2, ch2, rfl, hk2, hr2⟩ := hv
        have er := eq_ask (Q := atR n S L R h) hn (fun g a b q1 q2 => atR_fun q1 q2) hr1 hr2
        refine gi_icmp_eq (tgt := 328) C dL_law_310 (by decide) (fun hq => ?_) (fun hq => ?_)
        · exact next n S L R U h k st' k2 ch2 h3 hI hk2
        · exact absurd er hq
      · refine gi_tabIn (off := 283) (tgt := 315) C dL_law_32 (by decide) (by decide) (by decide) (by decide) ?_
        refine gi_aload_n C dL_law_315 rfl 1 rfl ?_
        refine lx_spare C (by decide) hI (Nat.le_of_ble_eq_true rfl) dL_law_316 (fun r1 u hu => ?_)
        obtain ⟨st', rfl, hr1⟩ := hu
        refine gi_aload_n C dL_law_319 rfl 2 rfl ?_
        refine lm_spare C (by decide) hO hh hkm (Nat.le_of_ble_eq_true rfl) dL_law_320 (fun r2 v hv => ?_)
        obtain ⟨k2, ch2, rfl, hk2, hr2⟩ := hv
        have er : r1 = r2 := hr1.trans hr2.symm
        refine gi_icmp_eq (tgt := 328) C dL_law_323 (by decide) (fun hq => ?_) (fun hq => ?_)
        · exact next n S L R U h k st' k2 ch2 h3 hI hk2
        · exact absurd er hq
      · refine gi_tabOut (tgt := 328) C dL_law_32 (Or.inr (by rw [nI_toInt (by omega)]; omega)) (by decide) ?_
        exact next n S L R U h k st km ch h3 hI hkm
end
section
set_option maxHeartbeats 4000000 in
set_option maxRecDepth 100000 in
/-- THE LAW, from its entry -/
theorem whole_start {p : Program} {e : Env} {s : State} {m : MethodId} {below : List Frame} {meth : Method} {c : Code} (l : Launch) {b L : Nat} {xs : Nat → Int32} (hL : L ≤ 192) (C0 : lw_At p s m meth c b L xs) : W p l e room_1 s m #[Value.ref b] below meth c s.heap [] 0 0 (lw_Z below #[Value.ref b] s) (entryFrame m ([Value.ref b] : List Value).toArray 4) := by
  obtain ⟨hx, hb, hr, hml, hown, hts0, hX, hbl, hlocks, hgv⟩ := id C0
  have hts : ∀ w ∈ lw_all, w.before #[Value.ref b] s = true := fun w h => hts0 w (lw_all_tbl h)
  have hA : ∀ q : Nat, s.heap.size ≤ q → (fun q : Nat => s.heap.size ≤ q) q := fun _ h => h
  have hbA : ¬ (fun q : Nat => s.heap.size ≤ q) b := Nat.not_le.mpr hbl
  obtain ⟨c0, iS0, hKn0⟩ := u_known (C := RX0) (T := TX0) (N := 9) (n := 9) hts in_X0 (hts _ q20)
  obtain ⟨c1, iS1, hKn1⟩ := u_known (C := RX1) (T := TX1) (N := 7) (n := 7) hts in_X1 (hts _ q140)
  obtain ⟨D, hKc⟩ : ∃ D : va_G, ∀ (k : Nat) (q : vw_C), vwCl[k]? = some q → u_Kn s q.1 q.2.1 q.2.2 (D.1 k) (D.2 k) := by
    refine ⟨(fun k => if k = 0 then c0 else c1, fun k => if k = 0 then iS0 else iS1), ?_⟩
    intro k q hq
    match k, hq with
    | 0, hq => cases hq; exact hKn0
    | 1, hq => cases hq; exact hKn1
    | k + 2, hq => simp [vwCl] at hq
  have hS : va_S (fun q : Nat => s.heap.size ≤ q) s.heap s.heap [] := va_S.rf
  have hK : va_K D vwCl [] s := ⟨hKc, fun k q h => by simp at h⟩
  have hP : va_P D vwCl [] s.heap := fun k q h => by simp at h
  have hD : va_D (fun q : Nat => s.heap.size ≤ q) [] := ⟨fun i j p q h => by simp at h, fun k q h => by simp at h⟩
  have hl := lv_entry ([.ref b]) (n := 4) (Nat.le_of_ble_eq_true rfl)
  rw [lg_entry_eq]
  generalize (lg_sl ([.ref b]) ++ List.replicate (4 - (lg_sl ([.ref b])).length) Slot.unset).toArray = ls at hl ⊢
  have hl : lv_has ls 4 [(0, .ref b)] := hl
  refine va_new (ci := 0) (fs := [.int 0, .null, .null, .null, .null, .int 0, .int 0, .int 0, .null]) (C := RX0) (T := TX0) (N := 9) hx hb hts in_X0 tyX0 tyX0_ok hown (hts _ q19) (hts _ q20) (hts _ q17) hK hP hD hS hA rfl (fun j hj => by rcases (show j = 0 ∨ j = 1 ∨ j = 2 ∨ j = 3 ∨ j = 4 ∨ j = 5 ∨ j = 6 ∨ j = 7 ∨ j = 8 by omega) with rfl | rfl | rfl | rfl | rfl | rfl | rfl | rfl | rfl <;> rfl) (Nat.le_of_ble_eq_true rfl) (Nat.le_of_ble_eq_true rfl) dL_law_0 (fun q0 H hP hD hS => ?_)
  have hP : va_P D vwCl (XN q0) H := hP
  have hD : va_D (fun q : Nat => s.heap.size ≤ q) (XN q0) := hD
  refine lv_dup hx hb dL_law_3 rfl ?_
  have hPc := hP
  have hDc := hD
  have hKc := hK.sub (tys' := []) [] rfl
  have hFc := g_free hDc hS hA
  refine va_callv (va_runI (As := []) (rest := [.ref q0]) ⟨hx, hb, hml, hown, hts⟩ (mx_init l D q0 H.size) (cwI 0 hts (lw_meth q23) rfl rfl rfl (hts _ q17) (hts _ q21) (hts _ q22) rfl (by decide +kernel) ⟨(Nat.le_of_ble_eq_true rfl), (Nat.le_of_ble_eq_true rfl)⟩) ⟨fun a U g mk q => by obtain ⟨z0, z1, qP, qK, qD⟩ := q; exact ⟨z0, z1, qP, va_K.moved (u := U) (U := U.calling g mk a) (Vm.Alike.refl U.vm) qK, qD⟩, fun U hU hW => ⟨rfl, by rw [hU], by rw [hU]; exact hPc, va_K.moved hW.alike hKc, hDc.weaken (fun _ _ _ _ => trivial)⟩⟩ rfl rfl hl.1 rfl (lv_room (Nat.le_of_ble_eq_true rfl)) dL_law_4 ⟨(Nat.le_of_ble_eq_true rfl), (Nat.le_of_ble_eq_true rfl)⟩) hS (fun q _ h => hFc q h) hFc (fun u t H1 locs1 ht hvm hw hB hz1 hk1 hS1 => ?_)
  obtain ⟨ad, dd⟩ := u
  have hw : ad 0 = q0 := hw
  subst hw
  obtain ⟨hP, hK1, hD1⟩ := hB
  rw [ht] at hP
  have hK := va_K.moved hvm.symm hK1
  have hP : va_P D vwCl (XZ ad dd) H1 := hP
  have hD : va_D (fun q : Nat => s.heap.size ≤ q) (XZ ad dd) := hD1.weaken (fun _ _ _ h => hFc _ h)
  have hK : va_K D vwCl (xtys dd) s := hK
  refine lv_astore_n (lv' := [(1, .ref (ad 0)), (0, .ref b)]) hx hb dL_law_7 rfl hl (by decide) rfl (fun ls hl => ?_)
  generalize H1 = H at hP hS1 ⊢
  have hS := hS1
  refine va_new (ci := 1) (fs := [.int 0, .null, .null, .null, .null, .null, .int 0]) (C := RX1) (T := TX1) (N := 7) hx hb hts in_X1 tyX1 tyX1_ok hown (hts _ q139) (hts _ q140) (hts _ q18) hK hP hD hS hA rfl (fun j hj => by rcases (show j = 0 ∨ j = 1 ∨ j = 2 ∨ j = 3 ∨ j = 4 ∨ j = 5 ∨ j = 6 by omega) with rfl | rfl | rfl | rfl | rfl | rfl | rfl <;> rfl) (Nat.le_of_ble_eq_true rfl) (Nat.le_of_ble_eq_true rfl) dL_law_8 (fun q8 H hP hD hS => ?_)
  have hP : va_P D vwCl (XZ ad dd ++ MN q8) H := hP
  have hD : va_D (fun q : Nat => s.heap.size ≤ q) (XZ ad dd ++ MN q8) := hD
  refine lv_dup hx hb dL_law_11 rfl ?_
  have hPc := aP_r hP
  have hDc := aD_r hD
  have hKc := hK.sub (tys' := []) [] rfl
  have hFc := g_free hDc hS hA
  refine va_callv (va_runI (As := []) (rest := [.ref q8]) ⟨hx, hb, hml, hown, hts⟩ (mm_init l D q8 H.size) (cwI 0 hts (lw_meth q143) rfl rfl rfl (hts _ q18) (hts _ q141) (hts _ q142) rfl (by decide +kernel) ⟨(Nat.le_of_ble_eq_true rfl), (Nat.le_of_ble_eq_true rfl)⟩) ⟨fun a U g mk q => by obtain ⟨z0, z1, qP, qK, qD⟩ := q; exact ⟨z0, z1, qP, va_K.moved (u := U) (U := U.calling g mk a) (Vm.Alike.refl U.vm) qK, qD⟩, fun U hU hW => ⟨rfl, by rw [hU], by rw [hU]; exact hPc, va_K.moved hW.alike hKc, hDc.weaken (fun _ _ _ _ => trivial)⟩⟩ rfl rfl hl.1 rfl (lv_room (Nat.le_of_ble_eq_true rfl)) dL_law_12 ⟨(Nat.le_of_ble_eq_true rfl), (Nat.le_of_ble_eq_true rfl)⟩) hS (fun q _ h => hFc q h) hFc (fun u t H1 locs1 ht hvm hw hB hz1 hk1 hS1 => ?_)
  obtain ⟨ae, de⟩ := u
  have hw : ae 0 = q8 := hw
  subst hw
  obtain ⟨hP1, hK1, hD1⟩ := hB
  rw [ht] at hP1
  have hK2 := va_K.moved hvm.symm hK1
  obtain ⟨hPo, hxo⟩ := ap_keep (aP_l hP) (aD_l hD) (fun i j p q hi hj e => aD_x hD j i q p hj hi e.symm) hk1 hD1 hFc
  have hP : va_P D vwCl (XZ ad dd ++ MZ ae de) H1 := hPo.app hP1
  have hD : va_D (fun q : Nat => s.heap.size ≤ q) (XZ ad dd ++ MZ ae de) := va_D.app (aD_l hD) (hD1.weaken (fun _ _ _ h => hFc _ h)) (fun i j p q hi hj e => hxo j i q p hj hi e.symm)
  have hK : va_K D vwCl (xtys dd ++ mtys de) s := hK.app hK2
  refine lv_astore_n (lv' := [(2, .ref (ae 0)), (1, .ref (ad 0)), (0, .ref b)]) hx hb dL_law_15 rfl hl (by decide) rfl (fun ls hl => ?_)
  refine lv_iconst (v := nI 0) hx hb dL_law_16 (by decide) ?_
  refine lv_istore_n (lv' := [(3, .int (nI 0)), (2, .ref (ae 0)), (1, .ref (ad 0)), (0, .ref b)]) hx hb dL_law_17 rfl hl (by decide) rfl (fun ls hl => ?_)
  refine W.widen (k := 600000) (n := 7290000) (Nat.le_of_ble_eq_true rfl) (Nat.le_of_ble_eq_true rfl) ?_
  have tO : tOK 8 (fun _ => 0) (fun _ => 0) (fun _ => 0) := ⟨Nat.le_refl 8, by decide, fun _ _ => rfl, fun t q1 q2 => absurd q1 (by omega)⟩
  have uO : uOK 8 (fun _ => 0) (fun _ => 0) (fun _ => 0) := fun t _ u => ⟨fun q => absurd q (tb_zero u), fun q => absurd q.1 (by omega)⟩
  have hI : XI 8 (fun _ => 0) (fun _ => 0) (fun _ => 0) (fun _ => 0) 0 0 := ⟨tO, uO, by decide, by decide, fun _ q => q, Clo_0 _ _ _ _, fun c _ hp => hp⟩
  refine law_loop (J := gj p l e room_1 s m #[Value.ref b] below meth c D vwCl (fun q : Nat => s.heap.size ≤ q) 4 600000 7290000 (lw_Z below #[Value.ref b] s)) (xs := xs) hL ⟨p, e, room_1, s, m, #[Value.ref b], below, meth, c, _, 600000, 7290000, _, rfl, hx, hb, hml, hown, hts, hK, hA, rfl, rfl, (Nat.le_of_ble_eq_true rfl), (Nat.le_of_ble_eq_true rfl)⟩ ?_ ?_ ?_ (L + 1) 0 8 _ _ _ _ 0 0 _ 0 false (by omega) (by omega) hI (by decide) H1 locs1 ls hP hD hS1 (lv_sub hl [3, 2, 1, 0] rfl)
  · intro ws pc lv st j hj hd k H locs ls hP hD hS hl
    exact va_sld hx hb hX hbl hbA hS (vp_in_nI hj (by omega)) hd (by rw [nI_clamp (by omega)]; exact k H locs ls hP hD hS hl)
  · intro ws pc lv st hd k H locs ls hP hD hS hl
    exact va_slen hx hb hX hbl hbA hS hd (k H locs ls hP hD hS hl)
  · intro ws pc lv hd H locs ls hP hD hS hl
    exact va_forget (fun q hq => hS.2.2 q hq) (lw_ret hx hb hr hlocks hd)
end
section
set_option maxHeartbeats 4000000 in
theorem lw_walk (l : Launch) (b : Addr) (xs : List Int32) : MetFree l x (headSpec (Jvm.Cond.code x code maxLocals ret :: tables_1) room_1) (lw_P b xs) (fun _ _ _ _ _ => True) lw_Q := by
  refine MetFree.of_bodyS (code := code) (maxLocals := maxLocals) (ret := ret) (by decide) ?_ ?_
  · intro args s m h hn
    obtain ⟨meth, c, h1, h2, h3, h4, h5, h6, -, -⟩ := Cond.code_spec hn (atoms_spec (ws := Jvm.Cond.code x code maxLocals ret :: tables_1) h _ List.mem_cons_self)
    exact ⟨meth, c, h1, h2, h3, h4, h5, h6⟩
  · intro p e s m args below meth c s₁ B hml0 hP _
    obtain ⟨rfl, hx, hbd, hgv⟩ := hP
    obtain ⟨scr, harrAt, hlist, hof, hsmall⟩ := hx
    obtain ⟨hcb, hkn, -, -⟩ := State.arrayAt?_spec harrAt
    have hown : s.vm.findClass R_law = some m.cls := findClass_of_methodNamed B.named
    have hts0 : ∀ c ∈ (Jvm.Cond.code x code maxLocals ret :: tables_1), c.before #[Value.ref b] s = true := atoms_spec (ws := Jvm.Cond.code x code maxLocals ret :: tables_1) B.pre
    have hts : ∀ w ∈ lw_tbl, w.before #[Value.ref b] s = true := k2_hts_sels lw_privs (fun w hw => hts0 w (List.mem_cons_of_mem _ hw)) lw_privs_ok
    have hml : c.maxLocals = 4 := B.maxLocals_eq (hts0 _ List.mem_cons_self)
    have X₀ : Stand p l e room_1 s m #[Value.ref b] below meth c s₁ [] 0 0 := Stand.of_body B
    have hh0 : s₁.heap = s.heap := by rw [B.state]; rfl
    have hsz : scr.slots.size = xs.length := by rw [← Array.length_toList, hlist, List.length_map]
    have hval : ∀ j : Nat, j < xs.length → scr.slots[j]? = some (.int (xs.getD j 0)) := fun j hj => by
      rw [← Array.getElem?_toList, hlist]
      simp [hj]
    have hbl : b < s.heap.size := (Array.getElem?_eq_some_iff.mp hcb).1
    have hX : va_X b xs.length (fun j => xs.getD j 0) s s.heap := ⟨scr, hcb, hof, hkn, hsz, hval⟩
    have K : W p l e room_1 s m #[Value.ref b] below meth c s₁.heap [] 0 0 (lw_Z below #[Value.ref b] s) (entryFrame m ([Value.ref b] : List Value).toArray 4) := by
      rw [hh0]
      exact whole_start l hbd ⟨B.exec, B.bytes, B.returns, hml, hown, hts, hX, hbl, B.notSynchronized, hgv⟩
    obtain ⟨t, a1, o, b1, b2, b3⟩ := K s₁ rfl X₀
    exact ⟨t, o, a1, b1, b2, b3⟩
theorem lw_pre_spec {args : Array Value} {s : State} (h : (Jvm.Cond.and given_1 narrow_1).before args s = true) (hr : rest_1_c.before args s = true) : ∃ (b : Addr) (xs : List Int32), lw_P b xs args s := by
  have hs := flat_of_before _ h
  have hq := flat_of_before _ hr
  have hc : (Cond.count 1).before args s = true := hs _ (by decide +kernel)
  have harr : (Cond.arrayOf (.arg 0) .int).before args s = true := hs _ (by decide +kernel)
  have hle : (Cond.le (.length (.arg 0)) (.int 192)).before args s = true := hs _ (by decide +kernel)
  have hlen : (Cond.isInt (.length (.arg 0))).before args s = true := hq _ (by decide +kernel)
  have hall : (Cond.all (.arg 0) (.isInt (.elem (.arg 0) (.index 0)))).before args s = true := hq _ (by decide +kernel)
  obtain ⟨b, xs, hb, hx⟩ := State.ints_of_pre rfl harr hlen hall
  have hsm : xs.length < 2 ^ 31 := hx.choose_spec.2.2.2
  have hev : (Term.length (.arg 0)).eval args s none [] s = some (.int xs.length.toInt32) := hx.length_eval hb
  have hv := Cond.le_ints hev (show (Term.int 192).eval args s none [] s = some (.int 192) from rfl)
  have hd : xs.length.toInt32 ≤ 192 := by
    simpa [Cond.before, Cond.holds, hv] using hle
  have hN : xs.length ≤ 192 := (Int32.ofNat_le_ofNat hsm (by decide)).mp (show Int32.ofNat xs.length ≤ Int32.ofNat 192 from hd)
  exact ⟨b, xs, Cond.one_arg hc (show args[0]? = some (.ref b) from hb), hx, hN, h⟩
theorem lw_comes (l : Launch) : Comes l x (Jvm.Cond.code x code maxLocals ret :: tables_1) room_1 (fun tb e args s => Calls_1 tb e args s ∧ rest_1 tb e args s ∧ Pre_1 tb e args s)
    (fun _ _ args s o t => lw_Q args s o t) := by
  intro p e ha hc hk s m args below hf hfit hheap happ hpre
  obtain ⟨b, xs, hP⟩ := lw_pre_spec hpre.2.2 hpre.2.1
  obtain ⟨k, o, h1, h2, h3, hQ⟩ := lw_walk l b xs p e ha hc hk s m args below hf ((Spec.applies_iff_loose hf).mp happ).1 hP trivial
  exact ⟨k, o, h1, h2, h3, hQ⟩
theorem lw_frame {s t : State} {o : Outcome} {args : Array Value} (h : Framed s o t [] 600000 7290000) :
    Framed s o t (fieldLocs frame_1_writes args s ++ arrayLocs frame_1_arrays args s ++ staticLocs frame_1_statics s) 600000 7290000 := h
theorem lw_limb (L : Cond) (hL : ∀ (args : Array Value) (s t : State), L.after args s (.returned (some (.int 1))) t = true) :
    ArmFor flags0 classFile x code maxLocals ret World_1 tables_1 room_1 Calls_1 rest_1 Pre_1
      (fun tb e a s o t => postC L tb e a s o t ∧ Framed s o t (fieldLocs frame_1_writes a s ++ arrayLocs frame_1_arrays a s ++ staticLocs frame_1_statics s) 600000 7290000) := by
  intro l _ _ _ p e ha hc hk s m args below hf hfit hheap happ hpre
  obtain ⟨k, o, h1, h2, h3, rfl, hF⟩ := lw_comes l p e ha hc hk s m args below hf hfit hheap happ hpre
  exact ⟨k, _, h1, h2, h3, hL args s _, lw_frame hF⟩
theorem i_vc : Claimed_1_1 ∧ Claimed_1_2 := ⟨lw_limb limb_1_1 (fun args s t => by simp [limb_1_1, Cond.after, Cond.holds, Cond.value]), lw_limb limb_1_2 (fun args s t => Cond.after_iff.mpr (by
  first | (rw [show limb_1_2 = Cond.eq .result (.int 1) from rfl, Cond.eq_ints (x := 1) (y := 1) rfl rfl]; simp; done) | (simp [limb_1_2, Cond.value, Term.eval]; done)))⟩
end
