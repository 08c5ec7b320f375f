section
-- ===== PART A: goes FIRST, ahead of the names: the tables' words, and 'selects' of the private methods out of them =====
/-- a private method of a class that the tables say can be made, by its rows of tables_1 -/
def lw_okq (q : MethodName × Nat) : Prop := (q.1.cls ≠ "java/lang/invoke/MethodHandle" ∧ q.1.cls ≠ "java/lang/invoke/VarHandle") ∧ Cond.instantiable q.1.cls q.2 ∈ tables_1 ∧ Cond.privateMethod q.1 ∈ tables_1 ∧ Cond.instanceMethod q.1 ∈ tables_1
set_option maxRecDepth 100000
theorem lw_p0 : lw_okq (⟨"PrimeDesk", "primeTest", "(I)Z"⟩, 6) := ⟨⟨by decide +kernel, by decide +kernel⟩, List.mem_of_getElem? (i := 4) rfl, List.mem_of_getElem? (i := 40) rfl, List.mem_of_getElem? (i := 41) rfl⟩
theorem lw_p1 : lw_okq (⟨"PrimeDesk", "passes", "(II)Z"⟩, 6) := ⟨⟨by decide +kernel, by decide +kernel⟩, List.mem_of_getElem? (i := 4) rfl, List.mem_of_getElem? (i := 44) rfl, List.mem_of_getElem? (i := 45) rfl⟩
theorem lw_p2 : lw_okq (⟨"PrimeDesk", "powerRest", "(III)I"⟩, 6) := ⟨⟨by decide +kernel, by decide +kernel⟩, List.mem_of_getElem? (i := 4) rfl, List.mem_of_getElem? (i := 48) rfl, List.mem_of_getElem? (i := 49) rfl⟩
theorem lw_p3 : lw_okq (⟨"PrimeDesk", "timesRest", "(III)I"⟩, 6) := ⟨⟨by decide +kernel, by decide +kernel⟩, List.mem_of_getElem? (i := 4) rfl, List.mem_of_getElem? (i := 52) rfl, List.mem_of_getElem? (i := 53) rfl⟩
theorem lw_p4 : lw_okq (⟨"PrimeDesk", "findFactors", "()V"⟩, 6) := ⟨⟨by decide +kernel, by decide +kernel⟩, List.mem_of_getElem? (i := 4) rfl, List.mem_of_getElem? (i := 60) rfl, List.mem_of_getElem? (i := 61) rfl⟩
theorem lw_p5 : lw_okq (⟨"PrimeDesk", "pushPart", "(I)V"⟩, 6) := ⟨⟨by decide +kernel, by decide +kernel⟩, List.mem_of_getElem? (i := 4) rfl, List.mem_of_getElem? (i := 64) rfl, List.mem_of_getElem? (i := 65) rfl⟩
theorem lw_p6 : lw_okq (⟨"PrimeDesk", "insertFactor", "(I)V"⟩, 6) := ⟨⟨by decide +kernel, by decide +kernel⟩, List.mem_of_getElem? (i := 4) rfl, List.mem_of_getElem? (i := 68) rfl, List.mem_of_getElem? (i := 69) rfl⟩
theorem lw_p7 : lw_okq (⟨"PrimeDesk", "splitter", "(I)I"⟩, 6) := ⟨⟨by decide +kernel, by decide +kernel⟩, List.mem_of_getElem? (i := 4) rfl, List.mem_of_getElem? (i := 72) rfl, List.mem_of_getElem? (i := 73) rfl⟩
theorem lw_p8 : lw_okq (⟨"PrimeDesk", "walk", "(II)I"⟩, 6) := ⟨⟨by decide +kernel, by decide +kernel⟩, List.mem_of_getElem? (i := 4) rfl, List.mem_of_getElem? (i := 76) rfl, List.mem_of_getElem? (i := 77) rfl⟩
theorem lw_p9 : lw_okq (⟨"PrimeDesk", "commonDivisor", "(II)I"⟩, 6) := ⟨⟨by decide +kernel, by decide +kernel⟩, List.mem_of_getElem? (i := 4) rfl, List.mem_of_getElem? (i := 80) rfl, List.mem_of_getElem? (i := 81) rfl⟩
theorem lw_p10 : lw_okq (⟨"PrimeDesk", "rootModulo", "(II)I"⟩, 6) := ⟨⟨by decide +kernel, by decide +kernel⟩, List.mem_of_getElem? (i := 4) rfl, List.mem_of_getElem? (i := 117) rfl, List.mem_of_getElem? (i := 118) rfl⟩
theorem lw_p11 : lw_okq (⟨"PrimeDesk", "leastPower", "(II)I"⟩, 6) := ⟨⟨by decide +kernel, by decide +kernel⟩, List.mem_of_getElem? (i := 4) rfl, List.mem_of_getElem? (i := 121) rfl, List.mem_of_getElem? (i := 122) rfl⟩
theorem lw_p12 : lw_okq (⟨"PrimeDesk", "generates", "(I)Z"⟩, 6) := ⟨⟨by decide +kernel, by decide +kernel⟩, List.mem_of_getElem? (i := 4) rfl, List.mem_of_getElem? (i := 129) rfl, List.mem_of_getElem? (i := 130) rfl⟩
theorem lw_p13 : lw_okq (⟨"PrimeDeskModel", "prime", "(I)Z"⟩, 1) := ⟨⟨by decide +kernel, by decide +kernel⟩, List.mem_of_getElem? (i := 133) rfl, List.mem_of_getElem? (i := 151) rfl, List.mem_of_getElem? (i := 152) rfl⟩
theorem lw_p14 : lw_okq (⟨"PrimeDeskModel", "common", "(II)I"⟩, 1) := ⟨⟨by decide +kernel, by decide +kernel⟩, List.mem_of_getElem? (i := 133) rfl, List.mem_of_getElem? (i := 175) rfl, List.mem_of_getElem? (i := 176) rfl⟩
theorem lw_p15 : lw_okq (⟨"PrimeDeskModel", "orderOf", "(I)I"⟩, 1) := ⟨⟨by decide +kernel, by decide +kernel⟩, List.mem_of_getElem? (i := 133) rfl, List.mem_of_getElem? (i := 191) rfl, List.mem_of_getElem? (i := 192) rfl⟩
def lw_privs_1 : List (MethodName × Nat) := [(⟨"PrimeDesk", "primeTest", "(I)Z"⟩, 6), (⟨"PrimeDesk", "passes", "(II)Z"⟩, 6), (⟨"PrimeDesk", "powerRest", "(III)I"⟩, 6), (⟨"PrimeDesk", "timesRest", "(III)I"⟩, 6), (⟨"PrimeDesk", "findFactors", "()V"⟩, 6), (⟨"PrimeDesk", "pushPart", "(I)V"⟩, 6), (⟨"PrimeDesk", "insertFactor", "(I)V"⟩, 6), (⟨"PrimeDesk", "splitter", "(I)I"⟩, 6), (⟨"PrimeDesk", "walk", "(II)I"⟩, 6), (⟨"PrimeDesk", "commonDivisor", "(II)I"⟩, 6), (⟨"PrimeDesk", "rootModulo", "(II)I"⟩, 6), (⟨"PrimeDesk", "leastPower", "(II)I"⟩, 6), (⟨"PrimeDesk", "generates", "(I)Z"⟩, 6), (⟨"PrimeDeskModel", "prime", "(I)Z"⟩, 1), (⟨"PrimeDeskModel", "common", "(II)I"⟩, 1), (⟨"PrimeDeskModel", "orderOf", "(I)I"⟩, 1)]
theorem lw_r1 : ∀ q ∈ lw_privs_1, lw_okq q := List.forall_mem_cons.mpr ⟨lw_p0, List.forall_mem_cons.mpr ⟨lw_p1, List.forall_mem_cons.mpr ⟨lw_p2, List.forall_mem_cons.mpr ⟨lw_p3, List.forall_mem_cons.mpr ⟨lw_p4, List.forall_mem_cons.mpr ⟨lw_p5, List.forall_mem_cons.mpr ⟨lw_p6, List.forall_mem_cons.mpr ⟨lw_p7, List.forall_mem_cons.mpr ⟨lw_p8, List.forall_mem_cons.mpr ⟨lw_p9, List.forall_mem_cons.mpr ⟨lw_p10, List.forall_mem_cons.mpr ⟨lw_p11, List.forall_mem_cons.mpr ⟨lw_p12, List.forall_mem_cons.mpr ⟨lw_p13, List.forall_mem_cons.mpr ⟨lw_p14, List.forall_mem_cons.mpr ⟨lw_p15, fun _ h => absurd h List.not_mem_nil⟩⟩⟩⟩⟩⟩⟩⟩⟩⟩⟩⟩⟩⟩⟩⟩
def lw_privs : List (MethodName × Nat) := lw_privs_1
def lw_tbl : List Cond := k2_sels lw_privs ++ tables_1
theorem lw_privs_ok : ∀ q ∈ lw_privs, lw_okq q := lw_r1
-- ===== ONE list of words for every method: the tables' words that hold all through a run =====
def lw_all : List Cond := lw_tbl.filter goodWord
/-- a word of the tables by its place: claim/WORDS.tsv -/
theorem lw_w {w : Cond} (i : Nat) (h : lw_tbl[i]? = some w) (g : goodWord w = true) : w ∈ lw_all := List.mem_filter.mpr ⟨List.mem_of_getElem? h, g⟩
theorem lw_all_tbl {w : Cond} (h : w ∈ lw_all) : w ∈ lw_tbl := (List.mem_filter.mp h).1
theorem lw_self : GoodIn lw_all lw_all := fun w h => ⟨h, good_of_word (List.mem_filter.mp h).2⟩
/-- a class's field words, by their places -/
theorem lw_in (ws : List Cond) (ps : List Nat) (hp : ws = ps.filterMap (fun i => lw_tbl[i]?)) (hg : ws.all goodWord = true) : ∀ w ∈ ws, w ∈ lw_all := by
  intro w h
  have h1 := List.all_eq_true.mp hg w h
  rw [hp] at h
  obtain ⟨i, -, hi⟩ := List.mem_filterMap.mp h
  exact lw_w i hi h1
/-- the words of a contract for the method y with code b, L locals, answer r -/
abbrev ws_ (y : MethodName) (b : ByteArray) (L : Nat) (r : Option FieldType) : List Cond := Cond.code y b L r :: lw_all
theorem lw_meth {y : MethodName} {b : ByteArray} {L : Nat} {r : Option FieldType} (h : Cond.code y b L r ∈ lw_all) : GoodIn lw_all (ws_ y b L r) := by
  intro w hw
  rcases List.mem_cons.mp hw with e | e
  · rw [e]
    exact lw_self _ h
  · exact lw_self _ e
theorem lw_app {a c : List Cond} (ha : ∀ w ∈ a, w ∈ lw_all) (hc : GoodIn lw_all c) : GoodIn lw_all (a ++ c) := by
  intro w hw
  rcases List.mem_append.mp hw with e | e
  · exact lw_self w (ha w e)
  · exact hc w e
/-- what a call through an object asks: cwV n hts (lw_V ..) -/
theorem lw_V {own : String} {idx : Nat} {C : String} {y : MethodName} {b : ByteArray} {L : Nat} {r : Option FieldType} (h1 : Cond.methodLink own idx y ∈ lw_all) (h2 : Cond.instanceMethod y ∈ lw_all) (h3 : Cond.selects C y y ∈ lw_all) (h4 : Cond.initialized C ∈ lw_all) (h5 : Cond.code y b L r ∈ lw_all) : GoodIn lw_all (wsV own idx C y (ws_ y b L r)) := by
  refine lw_app ?_ (lw_meth h5)
  intro w hw
  simp only [List.mem_cons, List.not_mem_nil, or_false] at hw
  rcases hw with e | e | e | e
  · rw [e]; exact h1
  · rw [e]; exact h2
  · rw [e]; exact h3
  · rw [e]; exact h4
/-- what a static call asks: va_cwS n hts (lw_S ..) -/
theorem lw_S {own : String} {idx : Nat} {y : MethodName} {b : ByteArray} {L : Nat} {r : Option FieldType} (h1 : Cond.methodLink own idx y ∈ lw_all) (h2 : Cond.static y ∈ lw_all) (h3 : Cond.initialized y.cls ∈ lw_all) (h4 : Cond.code y b L r ∈ lw_all) : GoodIn lw_all (va_wsS own idx y (ws_ y b L r)) := by
  refine lw_app ?_ (lw_meth h4)
  intro w hw
  simp only [List.mem_cons, List.not_mem_nil, or_false] at hw
  rcases hw with e | e | e
  · rw [e]; exact h1
  · rw [e]; exact h2
  · rw [e]; exact h3
/-- the words of a contract for a method WITH HANDLERS (hh: its table) -/
abbrev wsW_ (y : MethodName) (b : ByteArray) (L : Nat) (r : Option FieldType) (hh : List (Nat × Nat × Nat × Nat)) : List Cond := Cond.codeWith y b L r hh :: lw_all
theorem lw_methW {y : MethodName} {b : ByteArray} {L : Nat} {r : Option FieldType} {hh : List (Nat × Nat × Nat × Nat)} (h : Cond.codeWith y b L r hh ∈ lw_all) : GoodIn lw_all (wsW_ y b L r hh) := by
  intro w hw
  rcases List.mem_cons.mp hw with e | e
  · rw [e]
    exact lw_self _ h
  · exact lw_self _ e
/-- any list of words by their places (lw_in), good -/
theorem lw_good {ws : List Cond} (h : ∀ w ∈ ws, w ∈ lw_all) : GoodIn lw_all ws := fun w hw => lw_self w (h w hw)
/-- what a call of a method with handlers asks: vx_cwVW n hts (lw_VW ..), vx_cwSW n hts (lw_SW ..) -/
theorem lw_VW {own : String} {idx : Nat} {C : String} {y : MethodName} {b : ByteArray} {L : Nat} {r : Option FieldType} {hh : List (Nat × Nat × Nat × Nat)} (h1 : Cond.methodLink own idx y ∈ lw_all) (h2 : Cond.instanceMethod y ∈ lw_all) (h3 : Cond.selects C y y ∈ lw_all) (h4 : Cond.initialized C ∈ lw_all) (h5 : Cond.codeWith y b L r hh ∈ lw_all) : GoodIn lw_all (wsV own idx C y (wsW_ y b L r hh)) := by
  refine lw_app ?_ (lw_methW h5)
  intro w hw
  simp only [List.mem_cons, List.not_mem_nil, or_false] at hw
  rcases hw with e | e | e | e
  · rw [e]; exact h1
  · rw [e]; exact h2
  · rw [e]; exact h3
  · rw [e]; exact h4
theorem lw_SW {own : String} {idx : Nat} {y : MethodName} {b : ByteArray} {L : Nat} {r : Option FieldType} {hh : List (Nat × Nat × Nat × Nat)} (h1 : Cond.methodLink own idx y ∈ lw_all) (h2 : Cond.static y ∈ lw_all) (h3 : Cond.initialized y.cls ∈ lw_all) (h4 : Cond.codeWith y b L r hh ∈ lw_all) : GoodIn lw_all (va_wsS own idx y (wsW_ y b L r hh)) := by
  refine lw_app ?_ (lw_methW h4)
  intro w hw
  simp only [List.mem_cons, List.not_mem_nil, or_false] at hw
  rcases hw with e | e | e
  · rw [e]; exact h1
  · rw [e]; exact h2
  · rw [e]; exact h3
/-- a word by its place in its run of the tables -/
theorem lw_at {r : List Cond} (hr : ∀ w ∈ r, w ∈ lw_tbl) {w : Cond} (i : Nat) (h : r[i]? = some w) : w ∈ lw_tbl := hr w (List.mem_of_getElem? h)
theorem lw_g {w : Cond} (h : w ∈ lw_tbl) (g : goodWord w = true) : w ∈ lw_all := List.mem_filter.mpr ⟨h, g⟩
theorem lw_ms : ∀ w ∈ k2_sels lw_privs, w ∈ lw_tbl := fun w h => show w ∈ k2_sels lw_privs ++ tables_1 from List.mem_append_left _ h
theorem lw_m0 : ∀ w ∈ tables_1, w ∈ lw_tbl := fun w h => show w ∈ k2_sels lw_privs ++ tables_1 from List.mem_append_right (k2_sels lw_privs) h
theorem qs0 : (Cond.selects "PrimeDesk" ⟨"PrimeDesk", "primeTest", "(I)Z"⟩ ⟨"PrimeDesk", "primeTest", "(I)Z"⟩) ∈ lw_all := lw_g (lw_at lw_ms 0 rfl) rfl
theorem qs1 : (Cond.selects "PrimeDesk" ⟨"PrimeDesk", "passes", "(II)Z"⟩ ⟨"PrimeDesk", "passes", "(II)Z"⟩) ∈ lw_all := lw_g (lw_at lw_ms 1 rfl) rfl
theorem qs2 : (Cond.selects "PrimeDesk" ⟨"PrimeDesk", "powerRest", "(III)I"⟩ ⟨"PrimeDesk", "powerRest", "(III)I"⟩) ∈ lw_all := lw_g (lw_at lw_ms 2 rfl) rfl
theorem qs3 : (Cond.selects "PrimeDesk" ⟨"PrimeDesk", "timesRest", "(III)I"⟩ ⟨"PrimeDesk", "timesRest", "(III)I"⟩) ∈ lw_all := lw_g (lw_at lw_ms 3 rfl) rfl
theorem qs4 : (Cond.selects "PrimeDesk" ⟨"PrimeDesk", "findFactors", "()V"⟩ ⟨"PrimeDesk", "findFactors", "()V"⟩) ∈ lw_all := lw_g (lw_at lw_ms 4 rfl) rfl
theorem qs5 : (Cond.selects "PrimeDesk" ⟨"PrimeDesk", "pushPart", "(I)V"⟩ ⟨"PrimeDesk", "pushPart", "(I)V"⟩) ∈ lw_all := lw_g (lw_at lw_ms 5 rfl) rfl
theorem qs6 : (Cond.selects "PrimeDesk" ⟨"PrimeDesk", "insertFactor", "(I)V"⟩ ⟨"PrimeDesk", "insertFactor", "(I)V"⟩) ∈ lw_all := lw_g (lw_at lw_ms 6 rfl) rfl
theorem qs7 : (Cond.selects "PrimeDesk" ⟨"PrimeDesk", "splitter", "(I)I"⟩ ⟨"PrimeDesk", "splitter", "(I)I"⟩) ∈ lw_all := lw_g (lw_at lw_ms 7 rfl) rfl
theorem qs8 : (Cond.selects "PrimeDesk" ⟨"PrimeDesk", "walk", "(II)I"⟩ ⟨"PrimeDesk", "walk", "(II)I"⟩) ∈ lw_all := lw_g (lw_at lw_ms 8 rfl) rfl
theorem qs9 : (Cond.selects "PrimeDesk" ⟨"PrimeDesk", "commonDivisor", "(II)I"⟩ ⟨"PrimeDesk", "commonDivisor", "(II)I"⟩) ∈ lw_all := lw_g (lw_at lw_ms 9 rfl) rfl
theorem qs10 : (Cond.selects "PrimeDesk" ⟨"PrimeDesk", "rootModulo", "(II)I"⟩ ⟨"PrimeDesk", "rootModulo", "(II)I"⟩) ∈ lw_all := lw_g (lw_at lw_ms 10 rfl) rfl
theorem qs11 : (Cond.selects "PrimeDesk" ⟨"PrimeDesk", "leastPower", "(II)I"⟩ ⟨"PrimeDesk", "leastPower", "(II)I"⟩) ∈ lw_all := lw_g (lw_at lw_ms 11 rfl) rfl
theorem qs12 : (Cond.selects "PrimeDesk" ⟨"PrimeDesk", "generates", "(I)Z"⟩ ⟨"PrimeDesk", "generates", "(I)Z"⟩) ∈ lw_all := lw_g (lw_at lw_ms 12 rfl) rfl
theorem qs13 : (Cond.selects "PrimeDeskModel" ⟨"PrimeDeskModel", "prime", "(I)Z"⟩ ⟨"PrimeDeskModel", "prime", "(I)Z"⟩) ∈ lw_all := lw_g (lw_at lw_ms 13 rfl) rfl
theorem qs14 : (Cond.selects "PrimeDeskModel" ⟨"PrimeDeskModel", "common", "(II)I"⟩ ⟨"PrimeDeskModel", "common", "(II)I"⟩) ∈ lw_all := lw_g (lw_at lw_ms 14 rfl) rfl
theorem qs15 : (Cond.selects "PrimeDeskModel" ⟨"PrimeDeskModel", "orderOf", "(I)I"⟩ ⟨"PrimeDeskModel", "orderOf", "(I)I"⟩) ∈ lw_all := lw_g (lw_at lw_ms 15 rfl) rfl
end
section
/-! PrimeDesk -/
set_option maxRecDepth 100000
def RX0 : String := "PrimeDesk"
def TX0 : u_T := fun k => match k with
  | 0 => ("PrimeDesk", "number", "I", false)
  | 1 => ("PrimeDesk", "split", "Z", false)
  | 2 => ("PrimeDesk", "factorCount", "I", false)
  | 3 => ("PrimeDesk", "factorList", "[I", true)
  | 4 => ("PrimeDesk", "partCount", "I", false)
  | _ => ("PrimeDesk", "parts", "[I", true)
def tyX0 : Nat → FieldType := fun k => match k with
  | 0 => .int
  | 1 => .boolean
  | 2 => .int
  | 3 => .array .int
  | 4 => .int
  | _ => .array .int
abbrev wsX00 : List Cond := u_ws RX0 TX0 6
theorem nmX0 : ∀ a, a < 6 → ∀ b, b < 6 → a ≠ b → (TX0 a).2.1 ≠ (TX0 b).2.1 := by decide +kernel
theorem tyX0_ok : ∀ k, k < 6 → parseFieldDescriptor (TX0 k).2.2.1 = some (tyX0 k) := by decide +kernel
abbrev cX0_init : ByteArray := prog_1_method_1_code
def yX0_init : MethodName := ⟨RX0, "<init>", "()V"⟩
theorem dX0_init_0 : decode cX0_init 0 = .ok (.aload_n 0, 1) := by decide +kernel
theorem dX0_init_1 : decode cX0_init 1 = .ok (.invokespecial 1, 3) := by decide +kernel
theorem dX0_init_4 : decode cX0_init 4 = .ok (.aload_n 0, 1) := by decide +kernel
theorem dX0_init_5 : decode cX0_init 5 = .ok (.bipush 20, 2) := by decide +kernel
theorem dX0_init_7 : decode cX0_init 7 = .ok (.newarray .int, 2) := by decide +kernel
theorem dX0_init_9 : decode cX0_init 9 = .ok (.putfield 7, 3) := by decide +kernel
theorem dX0_init_12 : decode cX0_init 12 = .ok (.aload_n 0, 1) := by decide +kernel
theorem dX0_init_13 : decode cX0_init 13 = .ok (.bipush 20, 2) := by decide +kernel
theorem dX0_init_15 : decode cX0_init 15 = .ok (.newarray .int, 2) := by decide +kernel
theorem dX0_init_17 : decode cX0_init 17 = .ok (.putfield 13, 3) := by decide +kernel
theorem dX0_init_20 : decode cX0_init 20 = .ok (.aload_n 0, 1) := by decide +kernel
theorem dX0_init_21 : decode cX0_init 21 = .ok (.iconst 1, 1) := by decide +kernel
theorem dX0_init_22 : decode cX0_init 22 = .ok (.putfield 16, 3) := by decide +kernel
theorem dX0_init_25 : decode cX0_init 25 = .ok (.return_, 1) := by decide +kernel
abbrev cX0_take : ByteArray := prog_1_method_2_code
def yX0_take : MethodName := ⟨RX0, "take", "(I)Z"⟩
theorem dX0_take_0 : decode cX0_take 0 = .ok (.iload_n 1, 1) := by decide +kernel
theorem dX0_take_1 : decode cX0_take 1 = .ok (.iconst 1, 1) := by decide +kernel
theorem dX0_take_2 : decode cX0_take 2 = .ok (.if_icmp .lt 10, 3) := by decide +kernel
theorem dX0_take_5 : decode cX0_take 5 = .ok (.iload_n 1, 1) := by decide +kernel
theorem dX0_take_6 : decode cX0_take 6 = .ok (.sipush 30000, 3) := by decide +kernel
theorem dX0_take_9 : decode cX0_take 9 = .ok (.if_icmp .le 5, 3) := by decide +kernel
theorem dX0_take_12 : decode cX0_take 12 = .ok (.iconst 0, 1) := by decide +kernel
theorem dX0_take_13 : decode cX0_take 13 = .ok (.ireturn, 1) := by decide +kernel
theorem dX0_take_14 : decode cX0_take 14 = .ok (.aload_n 0, 1) := by decide +kernel
theorem dX0_take_15 : decode cX0_take 15 = .ok (.iload_n 1, 1) := by decide +kernel
theorem dX0_take_16 : decode cX0_take 16 = .ok (.putfield 16, 3) := by decide +kernel
theorem dX0_take_19 : decode cX0_take 19 = .ok (.aload_n 0, 1) := by decide +kernel
theorem dX0_take_20 : decode cX0_take 20 = .ok (.iconst 0, 1) := by decide +kernel
theorem dX0_take_21 : decode cX0_take 21 = .ok (.putfield 20, 3) := by decide +kernel
theorem dX0_take_24 : decode cX0_take 24 = .ok (.iconst 1, 1) := by decide +kernel
theorem dX0_take_25 : decode cX0_take 25 = .ok (.ireturn, 1) := by decide +kernel
abbrev cX0_isPrime : ByteArray := prog_1_method_3_code
def yX0_isPrime : MethodName := ⟨RX0, "isPrime", "()Z"⟩
theorem dX0_isPrime_0 : decode cX0_isPrime 0 = .ok (.aload_n 0, 1) := by decide +kernel
theorem dX0_isPrime_1 : decode cX0_isPrime 1 = .ok (.aload_n 0, 1) := by decide +kernel
theorem dX0_isPrime_2 : decode cX0_isPrime 2 = .ok (.getfield 16, 3) := by decide +kernel
theorem dX0_isPrime_5 : decode cX0_isPrime 5 = .ok (.invokevirtual 24, 3) := by decide +kernel
theorem dX0_isPrime_8 : decode cX0_isPrime 8 = .ok (.ireturn, 1) := by decide +kernel
abbrev cX0_primeTest : ByteArray := prog_1_method_18_code
def yX0_primeTest : MethodName := ⟨RX0, "primeTest", "(I)Z"⟩
theorem dX0_primeTest_0 : decode cX0_primeTest 0 = .ok (.iload_n 1, 1) := by decide +kernel
theorem dX0_primeTest_1 : decode cX0_primeTest 1 = .ok (.iconst 4, 1) := by decide +kernel
theorem dX0_primeTest_2 : decode cX0_primeTest 2 = .ok (.if_icmp .ge 14, 3) := by decide +kernel
theorem dX0_primeTest_5 : decode cX0_primeTest 5 = .ok (.iload_n 1, 1) := by decide +kernel
theorem dX0_primeTest_6 : decode cX0_primeTest 6 = .ok (.iconst 1, 1) := by decide +kernel
theorem dX0_primeTest_7 : decode cX0_primeTest 7 = .ok (.if_icmp .le 7, 3) := by decide +kernel
theorem dX0_primeTest_10 : decode cX0_primeTest 10 = .ok (.iconst 1, 1) := by decide +kernel
theorem dX0_primeTest_11 : decode cX0_primeTest 11 = .ok (.goto 4, 3) := by decide +kernel
theorem dX0_primeTest_14 : decode cX0_primeTest 14 = .ok (.iconst 0, 1) := by decide +kernel
theorem dX0_primeTest_15 : decode cX0_primeTest 15 = .ok (.ireturn, 1) := by decide +kernel
theorem dX0_primeTest_16 : decode cX0_primeTest 16 = .ok (.iload_n 1, 1) := by decide +kernel
theorem dX0_primeTest_17 : decode cX0_primeTest 17 = .ok (.iconst 2, 1) := by decide +kernel
theorem dX0_primeTest_18 : decode cX0_primeTest 18 = .ok (.irem, 1) := by decide +kernel
theorem dX0_primeTest_19 : decode cX0_primeTest 19 = .ok (.ifCond .eq 9, 3) := by decide +kernel
theorem dX0_primeTest_22 : decode cX0_primeTest 22 = .ok (.iload_n 1, 1) := by decide +kernel
theorem dX0_primeTest_23 : decode cX0_primeTest 23 = .ok (.iconst 3, 1) := by decide +kernel
theorem dX0_primeTest_24 : decode cX0_primeTest 24 = .ok (.irem, 1) := by decide +kernel
theorem dX0_primeTest_25 : decode cX0_primeTest 25 = .ok (.ifCond .ne 14, 3) := by decide +kernel
theorem dX0_primeTest_28 : decode cX0_primeTest 28 = .ok (.iload_n 1, 1) := by decide +kernel
theorem dX0_primeTest_29 : decode cX0_primeTest 29 = .ok (.iconst 3, 1) := by decide +kernel
theorem dX0_primeTest_30 : decode cX0_primeTest 30 = .ok (.if_icmp .ne 7, 3) := by decide +kernel
theorem dX0_primeTest_33 : decode cX0_primeTest 33 = .ok (.iconst 1, 1) := by decide +kernel
theorem dX0_primeTest_34 : decode cX0_primeTest 34 = .ok (.goto 4, 3) := by decide +kernel
theorem dX0_primeTest_37 : decode cX0_primeTest 37 = .ok (.iconst 0, 1) := by decide +kernel
theorem dX0_primeTest_38 : decode cX0_primeTest 38 = .ok (.ireturn, 1) := by decide +kernel
theorem dX0_primeTest_39 : decode cX0_primeTest 39 = .ok (.aload_n 0, 1) := by decide +kernel
theorem dX0_primeTest_40 : decode cX0_primeTest 40 = .ok (.iload_n 1, 1) := by decide +kernel
theorem dX0_primeTest_41 : decode cX0_primeTest 41 = .ok (.iconst 2, 1) := by decide +kernel
theorem dX0_primeTest_42 : decode cX0_primeTest 42 = .ok (.invokevirtual 55, 3) := by decide +kernel
theorem dX0_primeTest_45 : decode cX0_primeTest 45 = .ok (.ifCond .eq 16, 3) := by decide +kernel
theorem dX0_primeTest_48 : decode cX0_primeTest 48 = .ok (.aload_n 0, 1) := by decide +kernel
theorem dX0_primeTest_49 : decode cX0_primeTest 49 = .ok (.iload_n 1, 1) := by decide +kernel
theorem dX0_primeTest_50 : decode cX0_primeTest 50 = .ok (.iconst 3, 1) := by decide +kernel
theorem dX0_primeTest_51 : decode cX0_primeTest 51 = .ok (.invokevirtual 55, 3) := by decide +kernel
theorem dX0_primeTest_54 : decode cX0_primeTest 54 = .ok (.ifCond .eq 7, 3) := by decide +kernel
theorem dX0_primeTest_57 : decode cX0_primeTest 57 = .ok (.iconst 1, 1) := by decide +kernel
theorem dX0_primeTest_58 : decode cX0_primeTest 58 = .ok (.goto 4, 3) := by decide +kernel
theorem dX0_primeTest_61 : decode cX0_primeTest 61 = .ok (.iconst 0, 1) := by decide +kernel
theorem dX0_primeTest_62 : decode cX0_primeTest 62 = .ok (.ireturn, 1) := by decide +kernel
abbrev cX0_passes : ByteArray := prog_1_method_19_code
def yX0_passes : MethodName := ⟨RX0, "passes", "(II)Z"⟩
theorem dX0_passes_0 : decode cX0_passes 0 = .ok (.iload_n 1, 1) := by decide +kernel
theorem dX0_passes_1 : decode cX0_passes 1 = .ok (.iconst 1, 1) := by decide +kernel
theorem dX0_passes_2 : decode cX0_passes 2 = .ok (.isub, 1) := by decide +kernel
theorem dX0_passes_3 : decode cX0_passes 3 = .ok (.istore_n 3, 1) := by decide +kernel
theorem dX0_passes_4 : decode cX0_passes 4 = .ok (.iconst 0, 1) := by decide +kernel
theorem dX0_passes_5 : decode cX0_passes 5 = .ok (.istore 4, 2) := by decide +kernel
theorem dX0_passes_7 : decode cX0_passes 7 = .ok (.iload_n 3, 1) := by decide +kernel
theorem dX0_passes_8 : decode cX0_passes 8 = .ok (.iconst 1, 1) := by decide +kernel
theorem dX0_passes_9 : decode cX0_passes 9 = .ok (.iand, 1) := by decide +kernel
theorem dX0_passes_10 : decode cX0_passes 10 = .ok (.ifCond .ne 13, 3) := by decide +kernel
theorem dX0_passes_13 : decode cX0_passes 13 = .ok (.iload_n 3, 1) := by decide +kernel
theorem dX0_passes_14 : decode cX0_passes 14 = .ok (.iconst 1, 1) := by decide +kernel
theorem dX0_passes_15 : decode cX0_passes 15 = .ok (.ishr, 1) := by decide +kernel
theorem dX0_passes_16 : decode cX0_passes 16 = .ok (.istore_n 3, 1) := by decide +kernel
theorem dX0_passes_17 : decode cX0_passes 17 = .ok (.iinc 4 1, 3) := by decide +kernel
theorem dX0_passes_20 : decode cX0_passes 20 = .ok (.goto (-13), 3) := by decide +kernel
theorem dX0_passes_23 : decode cX0_passes 23 = .ok (.aload_n 0, 1) := by decide +kernel
theorem dX0_passes_24 : decode cX0_passes 24 = .ok (.iload_n 2, 1) := by decide +kernel
theorem dX0_passes_25 : decode cX0_passes 25 = .ok (.iload_n 3, 1) := by decide +kernel
theorem dX0_passes_26 : decode cX0_passes 26 = .ok (.iload_n 1, 1) := by decide +kernel
theorem dX0_passes_27 : decode cX0_passes 27 = .ok (.invokevirtual 34, 3) := by decide +kernel
theorem dX0_passes_30 : decode cX0_passes 30 = .ok (.istore 5, 2) := by decide +kernel
theorem dX0_passes_32 : decode cX0_passes 32 = .ok (.iload 5, 2) := by decide +kernel
theorem dX0_passes_34 : decode cX0_passes 34 = .ok (.iconst 1, 1) := by decide +kernel
theorem dX0_passes_35 : decode cX0_passes 35 = .ok (.if_icmp .eq 11, 3) := by decide +kernel
theorem dX0_passes_38 : decode cX0_passes 38 = .ok (.iload 5, 2) := by decide +kernel
theorem dX0_passes_40 : decode cX0_passes 40 = .ok (.iload_n 1, 1) := by decide +kernel
theorem dX0_passes_41 : decode cX0_passes 41 = .ok (.iconst 1, 1) := by decide +kernel
theorem dX0_passes_42 : decode cX0_passes 42 = .ok (.isub, 1) := by decide +kernel
theorem dX0_passes_43 : decode cX0_passes 43 = .ok (.if_icmp .ne 5, 3) := by decide +kernel
theorem dX0_passes_46 : decode cX0_passes 46 = .ok (.iconst 1, 1) := by decide +kernel
theorem dX0_passes_47 : decode cX0_passes 47 = .ok (.ireturn, 1) := by decide +kernel
theorem dX0_passes_48 : decode cX0_passes 48 = .ok (.iconst 1, 1) := by decide +kernel
theorem dX0_passes_49 : decode cX0_passes 49 = .ok (.istore 6, 2) := by decide +kernel
theorem dX0_passes_51 : decode cX0_passes 51 = .ok (.iload 6, 2) := by decide +kernel
theorem dX0_passes_53 : decode cX0_passes 53 = .ok (.iload 4, 2) := by decide +kernel
theorem dX0_passes_55 : decode cX0_passes 55 = .ok (.if_icmp .ge 30, 3) := by decide +kernel
theorem dX0_passes_58 : decode cX0_passes 58 = .ok (.aload_n 0, 1) := by decide +kernel
theorem dX0_passes_59 : decode cX0_passes 59 = .ok (.iload 5, 2) := by decide +kernel
theorem dX0_passes_61 : decode cX0_passes 61 = .ok (.iload 5, 2) := by decide +kernel
theorem dX0_passes_63 : decode cX0_passes 63 = .ok (.iload_n 1, 1) := by decide +kernel
theorem dX0_passes_64 : decode cX0_passes 64 = .ok (.invokevirtual 52, 3) := by decide +kernel
theorem dX0_passes_67 : decode cX0_passes 67 = .ok (.istore 5, 2) := by decide +kernel
theorem dX0_passes_69 : decode cX0_passes 69 = .ok (.iload 5, 2) := by decide +kernel
theorem dX0_passes_71 : decode cX0_passes 71 = .ok (.iload_n 1, 1) := by decide +kernel
theorem dX0_passes_72 : decode cX0_passes 72 = .ok (.iconst 1, 1) := by decide +kernel
theorem dX0_passes_73 : decode cX0_passes 73 = .ok (.isub, 1) := by decide +kernel
theorem dX0_passes_74 : decode cX0_passes 74 = .ok (.if_icmp .ne 5, 3) := by decide +kernel
theorem dX0_passes_77 : decode cX0_passes 77 = .ok (.iconst 1, 1) := by decide +kernel
theorem dX0_passes_78 : decode cX0_passes 78 = .ok (.ireturn, 1) := by decide +kernel
theorem dX0_passes_79 : decode cX0_passes 79 = .ok (.iinc 6 1, 3) := by decide +kernel
theorem dX0_passes_82 : decode cX0_passes 82 = .ok (.goto (-31), 3) := by decide +kernel
theorem dX0_passes_85 : decode cX0_passes 85 = .ok (.iconst 0, 1) := by decide +kernel
theorem dX0_passes_86 : decode cX0_passes 86 = .ok (.ireturn, 1) := by decide +kernel
abbrev cX0_powerRest : ByteArray := prog_1_method_15_code
def yX0_powerRest : MethodName := ⟨RX0, "powerRest", "(III)I"⟩
theorem dX0_powerRest_0 : decode cX0_powerRest 0 = .ok (.iconst 1, 1) := by decide +kernel
theorem dX0_powerRest_1 : decode cX0_powerRest 1 = .ok (.iload_n 3, 1) := by decide +kernel
theorem dX0_powerRest_2 : decode cX0_powerRest 2 = .ok (.irem, 1) := by decide +kernel
theorem dX0_powerRest_3 : decode cX0_powerRest 3 = .ok (.istore 4, 2) := by decide +kernel
theorem dX0_powerRest_5 : decode cX0_powerRest 5 = .ok (.iload_n 1, 1) := by decide +kernel
theorem dX0_powerRest_6 : decode cX0_powerRest 6 = .ok (.iload_n 3, 1) := by decide +kernel
theorem dX0_powerRest_7 : decode cX0_powerRest 7 = .ok (.irem, 1) := by decide +kernel
theorem dX0_powerRest_8 : decode cX0_powerRest 8 = .ok (.istore 5, 2) := by decide +kernel
theorem dX0_powerRest_10 : decode cX0_powerRest 10 = .ok (.iload_n 2, 1) := by decide +kernel
theorem dX0_powerRest_11 : decode cX0_powerRest 11 = .ok (.istore 6, 2) := by decide +kernel
theorem dX0_powerRest_13 : decode cX0_powerRest 13 = .ok (.iload 6, 2) := by decide +kernel
theorem dX0_powerRest_15 : decode cX0_powerRest 15 = .ok (.ifCond .le 41, 3) := by decide +kernel
theorem dX0_powerRest_18 : decode cX0_powerRest 18 = .ok (.iload 6, 2) := by decide +kernel
theorem dX0_powerRest_20 : decode cX0_powerRest 20 = .ok (.iconst 1, 1) := by decide +kernel
theorem dX0_powerRest_21 : decode cX0_powerRest 21 = .ok (.iand, 1) := by decide +kernel
theorem dX0_powerRest_22 : decode cX0_powerRest 22 = .ok (.ifCond .eq 14, 3) := by decide +kernel
theorem dX0_powerRest_25 : decode cX0_powerRest 25 = .ok (.aload_n 0, 1) := by decide +kernel
theorem dX0_powerRest_26 : decode cX0_powerRest 26 = .ok (.iload 4, 2) := by decide +kernel
theorem dX0_powerRest_28 : decode cX0_powerRest 28 = .ok (.iload 5, 2) := by decide +kernel
theorem dX0_powerRest_30 : decode cX0_powerRest 30 = .ok (.iload_n 3, 1) := by decide +kernel
theorem dX0_powerRest_31 : decode cX0_powerRest 31 = .ok (.invokevirtual 52, 3) := by decide +kernel
theorem dX0_powerRest_34 : decode cX0_powerRest 34 = .ok (.istore 4, 2) := by decide +kernel
theorem dX0_powerRest_36 : decode cX0_powerRest 36 = .ok (.aload_n 0, 1) := by decide +kernel
theorem dX0_powerRest_37 : decode cX0_powerRest 37 = .ok (.iload 5, 2) := by decide +kernel
theorem dX0_powerRest_39 : decode cX0_powerRest 39 = .ok (.iload 5, 2) := by decide +kernel
theorem dX0_powerRest_41 : decode cX0_powerRest 41 = .ok (.iload_n 3, 1) := by decide +kernel
theorem dX0_powerRest_42 : decode cX0_powerRest 42 = .ok (.invokevirtual 52, 3) := by decide +kernel
theorem dX0_powerRest_45 : decode cX0_powerRest 45 = .ok (.istore 5, 2) := by decide +kernel
theorem dX0_powerRest_47 : decode cX0_powerRest 47 = .ok (.iload 6, 2) := by decide +kernel
theorem dX0_powerRest_49 : decode cX0_powerRest 49 = .ok (.iconst 1, 1) := by decide +kernel
theorem dX0_powerRest_50 : decode cX0_powerRest 50 = .ok (.ishr, 1) := by decide +kernel
theorem dX0_powerRest_51 : decode cX0_powerRest 51 = .ok (.istore 6, 2) := by decide +kernel
theorem dX0_powerRest_53 : decode cX0_powerRest 53 = .ok (.goto (-40), 3) := by decide +kernel
theorem dX0_powerRest_56 : decode cX0_powerRest 56 = .ok (.iload 4, 2) := by decide +kernel
theorem dX0_powerRest_58 : decode cX0_powerRest 58 = .ok (.ireturn, 1) := by decide +kernel
abbrev cX0_timesRest : ByteArray := prog_1_method_14_code
def yX0_timesRest : MethodName := ⟨RX0, "timesRest", "(III)I"⟩
theorem dX0_timesRest_0 : decode cX0_timesRest 0 = .ok (.iload_n 1, 1) := by decide +kernel
theorem dX0_timesRest_1 : decode cX0_timesRest 1 = .ok (.i2l, 1) := by decide +kernel
theorem dX0_timesRest_2 : decode cX0_timesRest 2 = .ok (.iload_n 2, 1) := by decide +kernel
theorem dX0_timesRest_3 : decode cX0_timesRest 3 = .ok (.i2l, 1) := by decide +kernel
theorem dX0_timesRest_4 : decode cX0_timesRest 4 = .ok (.lmul, 1) := by decide +kernel
theorem dX0_timesRest_5 : decode cX0_timesRest 5 = .ok (.iload_n 3, 1) := by decide +kernel
theorem dX0_timesRest_6 : decode cX0_timesRest 6 = .ok (.i2l, 1) := by decide +kernel
theorem dX0_timesRest_7 : decode cX0_timesRest 7 = .ok (.lrem, 1) := by decide +kernel
theorem dX0_timesRest_8 : decode cX0_timesRest 8 = .ok (.l2i, 1) := by decide +kernel
theorem dX0_timesRest_9 : decode cX0_timesRest 9 = .ok (.ireturn, 1) := by decide +kernel
abbrev cX0_factors : ByteArray := prog_1_method_4_code
def yX0_factors : MethodName := ⟨RX0, "factors", "()I"⟩
theorem dX0_factors_0 : decode cX0_factors 0 = .ok (.aload_n 0, 1) := by decide +kernel
theorem dX0_factors_1 : decode cX0_factors 1 = .ok (.invokevirtual 28, 3) := by decide +kernel
theorem dX0_factors_4 : decode cX0_factors 4 = .ok (.aload_n 0, 1) := by decide +kernel
theorem dX0_factors_5 : decode cX0_factors 5 = .ok (.getfield 31, 3) := by decide +kernel
theorem dX0_factors_8 : decode cX0_factors 8 = .ok (.ireturn, 1) := by decide +kernel
abbrev cX0_findFactors : ByteArray := prog_1_method_20_code
def yX0_findFactors : MethodName := ⟨RX0, "findFactors", "()V"⟩
theorem dX0_findFactors_0 : decode cX0_findFactors 0 = .ok (.aload_n 0, 1) := by decide +kernel
theorem dX0_findFactors_1 : decode cX0_findFactors 1 = .ok (.getfield 20, 3) := by decide +kernel
theorem dX0_findFactors_4 : decode cX0_findFactors 4 = .ok (.ifCond .eq 4, 3) := by decide +kernel
theorem dX0_findFactors_7 : decode cX0_findFactors 7 = .ok (.return_, 1) := by decide +kernel
theorem dX0_findFactors_8 : decode cX0_findFactors 8 = .ok (.aload_n 0, 1) := by decide +kernel
theorem dX0_findFactors_9 : decode cX0_findFactors 9 = .ok (.iconst 1, 1) := by decide +kernel
theorem dX0_findFactors_10 : decode cX0_findFactors 10 = .ok (.putfield 20, 3) := by decide +kernel
theorem dX0_findFactors_13 : decode cX0_findFactors 13 = .ok (.aload_n 0, 1) := by decide +kernel
theorem dX0_findFactors_14 : decode cX0_findFactors 14 = .ok (.iconst 0, 1) := by decide +kernel
theorem dX0_findFactors_15 : decode cX0_findFactors 15 = .ok (.putfield 31, 3) := by decide +kernel
theorem dX0_findFactors_18 : decode cX0_findFactors 18 = .ok (.aload_n 0, 1) := by decide +kernel
theorem dX0_findFactors_19 : decode cX0_findFactors 19 = .ok (.iconst 0, 1) := by decide +kernel
theorem dX0_findFactors_20 : decode cX0_findFactors 20 = .ok (.putfield 59, 3) := by decide +kernel
theorem dX0_findFactors_23 : decode cX0_findFactors 23 = .ok (.aload_n 0, 1) := by decide +kernel
theorem dX0_findFactors_24 : decode cX0_findFactors 24 = .ok (.getfield 16, 3) := by decide +kernel
theorem dX0_findFactors_27 : decode cX0_findFactors 27 = .ok (.iconst 1, 1) := by decide +kernel
theorem dX0_findFactors_28 : decode cX0_findFactors 28 = .ok (.if_icmp .le 11, 3) := by decide +kernel
theorem dX0_findFactors_31 : decode cX0_findFactors 31 = .ok (.aload_n 0, 1) := by decide +kernel
theorem dX0_findFactors_32 : decode cX0_findFactors 32 = .ok (.aload_n 0, 1) := by decide +kernel
theorem dX0_findFactors_33 : decode cX0_findFactors 33 = .ok (.getfield 16, 3) := by decide +kernel
theorem dX0_findFactors_36 : decode cX0_findFactors 36 = .ok (.invokevirtual 62, 3) := by decide +kernel
theorem dX0_findFactors_39 : decode cX0_findFactors 39 = .ok (.aload_n 0, 1) := by decide +kernel
theorem dX0_findFactors_40 : decode cX0_findFactors 40 = .ok (.getfield 59, 3) := by decide +kernel
theorem dX0_findFactors_43 : decode cX0_findFactors 43 = .ok (.ifCond .le 60, 3) := by decide +kernel
theorem dX0_findFactors_46 : decode cX0_findFactors 46 = .ok (.aload_n 0, 1) := by decide +kernel
theorem dX0_findFactors_47 : decode cX0_findFactors 47 = .ok (.dup, 1) := by decide +kernel
theorem dX0_findFactors_48 : decode cX0_findFactors 48 = .ok (.getfield 59, 3) := by decide +kernel
theorem dX0_findFactors_51 : decode cX0_findFactors 51 = .ok (.iconst 1, 1) := by decide +kernel
theorem dX0_findFactors_52 : decode cX0_findFactors 52 = .ok (.isub, 1) := by decide +kernel
theorem dX0_findFactors_53 : decode cX0_findFactors 53 = .ok (.putfield 59, 3) := by decide +kernel
theorem dX0_findFactors_56 : decode cX0_findFactors 56 = .ok (.aload_n 0, 1) := by decide +kernel
theorem dX0_findFactors_57 : decode cX0_findFactors 57 = .ok (.getfield 13, 3) := by decide +kernel
theorem dX0_findFactors_60 : decode cX0_findFactors 60 = .ok (.aload_n 0, 1) := by decide +kernel
theorem dX0_findFactors_61 : decode cX0_findFactors 61 = .ok (.getfield 59, 3) := by decide +kernel
theorem dX0_findFactors_64 : decode cX0_findFactors 64 = .ok (.iaload, 1) := by decide +kernel
theorem dX0_findFactors_65 : decode cX0_findFactors 65 = .ok (.istore_n 1, 1) := by decide +kernel
theorem dX0_findFactors_66 : decode cX0_findFactors 66 = .ok (.aload_n 0, 1) := by decide +kernel
theorem dX0_findFactors_67 : decode cX0_findFactors 67 = .ok (.iload_n 1, 1) := by decide +kernel
theorem dX0_findFactors_68 : decode cX0_findFactors 68 = .ok (.invokevirtual 24, 3) := by decide +kernel
theorem dX0_findFactors_71 : decode cX0_findFactors 71 = .ok (.ifCond .eq 11, 3) := by decide +kernel
theorem dX0_findFactors_74 : decode cX0_findFactors 74 = .ok (.aload_n 0, 1) := by decide +kernel
theorem dX0_findFactors_75 : decode cX0_findFactors 75 = .ok (.iload_n 1, 1) := by decide +kernel
theorem dX0_findFactors_76 : decode cX0_findFactors 76 = .ok (.invokevirtual 66, 3) := by decide +kernel
theorem dX0_findFactors_79 : decode cX0_findFactors 79 = .ok (.goto (-40), 3) := by decide +kernel
theorem dX0_findFactors_82 : decode cX0_findFactors 82 = .ok (.aload_n 0, 1) := by decide +kernel
theorem dX0_findFactors_83 : decode cX0_findFactors 83 = .ok (.iload_n 1, 1) := by decide +kernel
theorem dX0_findFactors_84 : decode cX0_findFactors 84 = .ok (.invokevirtual 69, 3) := by decide +kernel
theorem dX0_findFactors_87 : decode cX0_findFactors 87 = .ok (.istore_n 2, 1) := by decide +kernel
theorem dX0_findFactors_88 : decode cX0_findFactors 88 = .ok (.aload_n 0, 1) := by decide +kernel
theorem dX0_findFactors_89 : decode cX0_findFactors 89 = .ok (.iload_n 2, 1) := by decide +kernel
theorem dX0_findFactors_90 : decode cX0_findFactors 90 = .ok (.invokevirtual 62, 3) := by decide +kernel
theorem dX0_findFactors_93 : decode cX0_findFactors 93 = .ok (.aload_n 0, 1) := by decide +kernel
theorem dX0_findFactors_94 : decode cX0_findFactors 94 = .ok (.iload_n 1, 1) := by decide +kernel
theorem dX0_findFactors_95 : decode cX0_findFactors 95 = .ok (.iload_n 2, 1) := by decide +kernel
theorem dX0_findFactors_96 : decode cX0_findFactors 96 = .ok (.idiv, 1) := by decide +kernel
theorem dX0_findFactors_97 : decode cX0_findFactors 97 = .ok (.invokevirtual 62, 3) := by decide +kernel
theorem dX0_findFactors_100 : decode cX0_findFactors 100 = .ok (.goto (-61), 3) := by decide +kernel
theorem dX0_findFactors_103 : decode cX0_findFactors 103 = .ok (.return_, 1) := by decide +kernel
abbrev cX0_pushPart : ByteArray := prog_1_method_21_code
def yX0_pushPart : MethodName := ⟨RX0, "pushPart", "(I)V"⟩
theorem dX0_pushPart_0 : decode cX0_pushPart 0 = .ok (.aload_n 0, 1) := by decide +kernel
theorem dX0_pushPart_1 : decode cX0_pushPart 1 = .ok (.getfield 13, 3) := by decide +kernel
theorem dX0_pushPart_4 : decode cX0_pushPart 4 = .ok (.aload_n 0, 1) := by decide +kernel
theorem dX0_pushPart_5 : decode cX0_pushPart 5 = .ok (.getfield 59, 3) := by decide +kernel
theorem dX0_pushPart_8 : decode cX0_pushPart 8 = .ok (.iload_n 1, 1) := by decide +kernel
theorem dX0_pushPart_9 : decode cX0_pushPart 9 = .ok (.iastore, 1) := by decide +kernel
theorem dX0_pushPart_10 : decode cX0_pushPart 10 = .ok (.aload_n 0, 1) := by decide +kernel
theorem dX0_pushPart_11 : decode cX0_pushPart 11 = .ok (.dup, 1) := by decide +kernel
theorem dX0_pushPart_12 : decode cX0_pushPart 12 = .ok (.getfield 59, 3) := by decide +kernel
theorem dX0_pushPart_15 : decode cX0_pushPart 15 = .ok (.iconst 1, 1) := by decide +kernel
theorem dX0_pushPart_16 : decode cX0_pushPart 16 = .ok (.iadd, 1) := by decide +kernel
theorem dX0_pushPart_17 : decode cX0_pushPart 17 = .ok (.putfield 59, 3) := by decide +kernel
theorem dX0_pushPart_20 : decode cX0_pushPart 20 = .ok (.return_, 1) := by decide +kernel
abbrev cX0_insertFactor : ByteArray := prog_1_method_22_code
def yX0_insertFactor : MethodName := ⟨RX0, "insertFactor", "(I)V"⟩
theorem dX0_insertFactor_0 : decode cX0_insertFactor 0 = .ok (.aload_n 0, 1) := by decide +kernel
theorem dX0_insertFactor_1 : decode cX0_insertFactor 1 = .ok (.getfield 31, 3) := by decide +kernel
theorem dX0_insertFactor_4 : decode cX0_insertFactor 4 = .ok (.istore_n 2, 1) := by decide +kernel
theorem dX0_insertFactor_5 : decode cX0_insertFactor 5 = .ok (.iload_n 2, 1) := by decide +kernel
theorem dX0_insertFactor_6 : decode cX0_insertFactor 6 = .ok (.ifCond .le 35, 3) := by decide +kernel
theorem dX0_insertFactor_9 : decode cX0_insertFactor 9 = .ok (.aload_n 0, 1) := by decide +kernel
theorem dX0_insertFactor_10 : decode cX0_insertFactor 10 = .ok (.getfield 7, 3) := by decide +kernel
theorem dX0_insertFactor_13 : decode cX0_insertFactor 13 = .ok (.iload_n 2, 1) := by decide +kernel
theorem dX0_insertFactor_14 : decode cX0_insertFactor 14 = .ok (.iconst 1, 1) := by decide +kernel
theorem dX0_insertFactor_15 : decode cX0_insertFactor 15 = .ok (.isub, 1) := by decide +kernel
theorem dX0_insertFactor_16 : decode cX0_insertFactor 16 = .ok (.iaload, 1) := by decide +kernel
theorem dX0_insertFactor_17 : decode cX0_insertFactor 17 = .ok (.iload_n 1, 1) := by decide +kernel
theorem dX0_insertFactor_18 : decode cX0_insertFactor 18 = .ok (.if_icmp .le 23, 3) := by decide +kernel
theorem dX0_insertFactor_21 : decode cX0_insertFactor 21 = .ok (.aload_n 0, 1) := by decide +kernel
theorem dX0_insertFactor_22 : decode cX0_insertFactor 22 = .ok (.getfield 7, 3) := by decide +kernel
theorem dX0_insertFactor_25 : decode cX0_insertFactor 25 = .ok (.iload_n 2, 1) := by decide +kernel
theorem dX0_insertFactor_26 : decode cX0_insertFactor 26 = .ok (.aload_n 0, 1) := by decide +kernel
theorem dX0_insertFactor_27 : decode cX0_insertFactor 27 = .ok (.getfield 7, 3) := by decide +kernel
theorem dX0_insertFactor_30 : decode cX0_insertFactor 30 = .ok (.iload_n 2, 1) := by decide +kernel
theorem dX0_insertFactor_31 : decode cX0_insertFactor 31 = .ok (.iconst 1, 1) := by decide +kernel
theorem dX0_insertFactor_32 : decode cX0_insertFactor 32 = .ok (.isub, 1) := by decide +kernel
theorem dX0_insertFactor_33 : decode cX0_insertFactor 33 = .ok (.iaload, 1) := by decide +kernel
theorem dX0_insertFactor_34 : decode cX0_insertFactor 34 = .ok (.iastore, 1) := by decide +kernel
theorem dX0_insertFactor_35 : decode cX0_insertFactor 35 = .ok (.iinc 2 (-1), 3) := by decide +kernel
theorem dX0_insertFactor_38 : decode cX0_insertFactor 38 = .ok (.goto (-33), 3) := by decide +kernel
theorem dX0_insertFactor_41 : decode cX0_insertFactor 41 = .ok (.aload_n 0, 1) := by decide +kernel
theorem dX0_insertFactor_42 : decode cX0_insertFactor 42 = .ok (.getfield 7, 3) := by decide +kernel
theorem dX0_insertFactor_45 : decode cX0_insertFactor 45 = .ok (.iload_n 2, 1) := by decide +kernel
theorem dX0_insertFactor_46 : decode cX0_insertFactor 46 = .ok (.iload_n 1, 1) := by decide +kernel
theorem dX0_insertFactor_47 : decode cX0_insertFactor 47 = .ok (.iastore, 1) := by decide +kernel
theorem dX0_insertFactor_48 : decode cX0_insertFactor 48 = .ok (.aload_n 0, 1) := by decide +kernel
theorem dX0_insertFactor_49 : decode cX0_insertFactor 49 = .ok (.dup, 1) := by decide +kernel
theorem dX0_insertFactor_50 : decode cX0_insertFactor 50 = .ok (.getfield 31, 3) := by decide +kernel
theorem dX0_insertFactor_53 : decode cX0_insertFactor 53 = .ok (.iconst 1, 1) := by decide +kernel
theorem dX0_insertFactor_54 : decode cX0_insertFactor 54 = .ok (.iadd, 1) := by decide +kernel
theorem dX0_insertFactor_55 : decode cX0_insertFactor 55 = .ok (.putfield 31, 3) := by decide +kernel
theorem dX0_insertFactor_58 : decode cX0_insertFactor 58 = .ok (.return_, 1) := by decide +kernel
abbrev cX0_splitter : ByteArray := prog_1_method_23_code
def yX0_splitter : MethodName := ⟨RX0, "splitter", "(I)I"⟩
theorem dX0_splitter_0 : decode cX0_splitter 0 = .ok (.iload_n 1, 1) := by decide +kernel
theorem dX0_splitter_1 : decode cX0_splitter 1 = .ok (.iconst 2, 1) := by decide +kernel
theorem dX0_splitter_2 : decode cX0_splitter 2 = .ok (.irem, 1) := by decide +kernel
theorem dX0_splitter_3 : decode cX0_splitter 3 = .ok (.ifCond .ne 5, 3) := by decide +kernel
theorem dX0_splitter_6 : decode cX0_splitter 6 = .ok (.iconst 2, 1) := by decide +kernel
theorem dX0_splitter_7 : decode cX0_splitter 7 = .ok (.ireturn, 1) := by decide +kernel
theorem dX0_splitter_8 : decode cX0_splitter 8 = .ok (.iconst 1, 1) := by decide +kernel
theorem dX0_splitter_9 : decode cX0_splitter 9 = .ok (.istore_n 2, 1) := by decide +kernel
theorem dX0_splitter_10 : decode cX0_splitter 10 = .ok (.iload_n 2, 1) := by decide +kernel
theorem dX0_splitter_11 : decode cX0_splitter 11 = .ok (.bipush 8, 2) := by decide +kernel
theorem dX0_splitter_13 : decode cX0_splitter 13 = .ok (.if_icmp .gt 28, 3) := by decide +kernel
theorem dX0_splitter_16 : decode cX0_splitter 16 = .ok (.aload_n 0, 1) := by decide +kernel
theorem dX0_splitter_17 : decode cX0_splitter 17 = .ok (.iload_n 1, 1) := by decide +kernel
theorem dX0_splitter_18 : decode cX0_splitter 18 = .ok (.iload_n 2, 1) := by decide +kernel
theorem dX0_splitter_19 : decode cX0_splitter 19 = .ok (.invokevirtual 73, 3) := by decide +kernel
theorem dX0_splitter_22 : decode cX0_splitter 22 = .ok (.istore_n 3, 1) := by decide +kernel
theorem dX0_splitter_23 : decode cX0_splitter 23 = .ok (.iload_n 3, 1) := by decide +kernel
theorem dX0_splitter_24 : decode cX0_splitter 24 = .ok (.iconst 1, 1) := by decide +kernel
theorem dX0_splitter_25 : decode cX0_splitter 25 = .ok (.if_icmp .le 10, 3) := by decide +kernel
theorem dX0_splitter_28 : decode cX0_splitter 28 = .ok (.iload_n 3, 1) := by decide +kernel
theorem dX0_splitter_29 : decode cX0_splitter 29 = .ok (.iload_n 1, 1) := by decide +kernel
theorem dX0_splitter_30 : decode cX0_splitter 30 = .ok (.if_icmp .ge 5, 3) := by decide +kernel
theorem dX0_splitter_33 : decode cX0_splitter 33 = .ok (.iload_n 3, 1) := by decide +kernel
theorem dX0_splitter_34 : decode cX0_splitter 34 = .ok (.ireturn, 1) := by decide +kernel
theorem dX0_splitter_35 : decode cX0_splitter 35 = .ok (.iinc 2 1, 3) := by decide +kernel
theorem dX0_splitter_38 : decode cX0_splitter 38 = .ok (.goto (-28), 3) := by decide +kernel
theorem dX0_splitter_41 : decode cX0_splitter 41 = .ok (.iconst 3, 1) := by decide +kernel
theorem dX0_splitter_42 : decode cX0_splitter 42 = .ok (.istore_n 2, 1) := by decide +kernel
theorem dX0_splitter_43 : decode cX0_splitter 43 = .ok (.iload_n 1, 1) := by decide +kernel
theorem dX0_splitter_44 : decode cX0_splitter 44 = .ok (.iload_n 2, 1) := by decide +kernel
theorem dX0_splitter_45 : decode cX0_splitter 45 = .ok (.irem, 1) := by decide +kernel
theorem dX0_splitter_46 : decode cX0_splitter 46 = .ok (.ifCond .eq 9, 3) := by decide +kernel
theorem dX0_splitter_49 : decode cX0_splitter 49 = .ok (.iinc 2 2, 3) := by decide +kernel
theorem dX0_splitter_52 : decode cX0_splitter 52 = .ok (.goto (-9), 3) := by decide +kernel
theorem dX0_splitter_55 : decode cX0_splitter 55 = .ok (.iload_n 2, 1) := by decide +kernel
theorem dX0_splitter_56 : decode cX0_splitter 56 = .ok (.ireturn, 1) := by decide +kernel
abbrev cX0_walk : ByteArray := prog_1_method_24_code
def yX0_walk : MethodName := ⟨RX0, "walk", "(II)I"⟩
theorem dX0_walk_0 : decode cX0_walk 0 = .ok (.iconst 2, 1) := by decide +kernel
theorem dX0_walk_1 : decode cX0_walk 1 = .ok (.istore_n 3, 1) := by decide +kernel
theorem dX0_walk_2 : decode cX0_walk 2 = .ok (.iconst 2, 1) := by decide +kernel
theorem dX0_walk_3 : decode cX0_walk 3 = .ok (.istore 4, 2) := by decide +kernel
theorem dX0_walk_5 : decode cX0_walk 5 = .ok (.iconst 1, 1) := by decide +kernel
theorem dX0_walk_6 : decode cX0_walk 6 = .ok (.istore 5, 2) := by decide +kernel
theorem dX0_walk_8 : decode cX0_walk 8 = .ok (.iconst 0, 1) := by decide +kernel
theorem dX0_walk_9 : decode cX0_walk 9 = .ok (.istore 6, 2) := by decide +kernel
theorem dX0_walk_11 : decode cX0_walk 11 = .ok (.iload 6, 2) := by decide +kernel
theorem dX0_walk_13 : decode cX0_walk 13 = .ok (.sipush 2000, 3) := by decide +kernel
theorem dX0_walk_16 : decode cX0_walk 16 = .ok (.if_icmp .ge 94, 3) := by decide +kernel
theorem dX0_walk_19 : decode cX0_walk 19 = .ok (.iload 5, 2) := by decide +kernel
theorem dX0_walk_21 : decode cX0_walk 21 = .ok (.iconst 1, 1) := by decide +kernel
theorem dX0_walk_22 : decode cX0_walk 22 = .ok (.if_icmp .ne 88, 3) := by decide +kernel
theorem dX0_walk_25 : decode cX0_walk 25 = .ok (.aload_n 0, 1) := by decide +kernel
theorem dX0_walk_26 : decode cX0_walk 26 = .ok (.iload_n 3, 1) := by decide +kernel
theorem dX0_walk_27 : decode cX0_walk 27 = .ok (.iload_n 3, 1) := by decide +kernel
theorem dX0_walk_28 : decode cX0_walk 28 = .ok (.iload_n 1, 1) := by decide +kernel
theorem dX0_walk_29 : decode cX0_walk 29 = .ok (.invokevirtual 52, 3) := by decide +kernel
theorem dX0_walk_32 : decode cX0_walk 32 = .ok (.iload_n 2, 1) := by decide +kernel
theorem dX0_walk_33 : decode cX0_walk 33 = .ok (.iadd, 1) := by decide +kernel
theorem dX0_walk_34 : decode cX0_walk 34 = .ok (.iload_n 1, 1) := by decide +kernel
theorem dX0_walk_35 : decode cX0_walk 35 = .ok (.irem, 1) := by decide +kernel
theorem dX0_walk_36 : decode cX0_walk 36 = .ok (.istore_n 3, 1) := by decide +kernel
theorem dX0_walk_37 : decode cX0_walk 37 = .ok (.aload_n 0, 1) := by decide +kernel
theorem dX0_walk_38 : decode cX0_walk 38 = .ok (.iload 4, 2) := by decide +kernel
theorem dX0_walk_40 : decode cX0_walk 40 = .ok (.iload 4, 2) := by decide +kernel
theorem dX0_walk_42 : decode cX0_walk 42 = .ok (.iload_n 1, 1) := by decide +kernel
theorem dX0_walk_43 : decode cX0_walk 43 = .ok (.invokevirtual 52, 3) := by decide +kernel
theorem dX0_walk_46 : decode cX0_walk 46 = .ok (.iload_n 2, 1) := by decide +kernel
theorem dX0_walk_47 : decode cX0_walk 47 = .ok (.iadd, 1) := by decide +kernel
theorem dX0_walk_48 : decode cX0_walk 48 = .ok (.iload_n 1, 1) := by decide +kernel
theorem dX0_walk_49 : decode cX0_walk 49 = .ok (.irem, 1) := by decide +kernel
theorem dX0_walk_50 : decode cX0_walk 50 = .ok (.istore 4, 2) := by decide +kernel
theorem dX0_walk_52 : decode cX0_walk 52 = .ok (.aload_n 0, 1) := by decide +kernel
theorem dX0_walk_53 : decode cX0_walk 53 = .ok (.iload 4, 2) := by decide +kernel
theorem dX0_walk_55 : decode cX0_walk 55 = .ok (.iload 4, 2) := by decide +kernel
theorem dX0_walk_57 : decode cX0_walk 57 = .ok (.iload_n 1, 1) := by decide +kernel
theorem dX0_walk_58 : decode cX0_walk 58 = .ok (.invokevirtual 52, 3) := by decide +kernel
theorem dX0_walk_61 : decode cX0_walk 61 = .ok (.iload_n 2, 1) := by decide +kernel
theorem dX0_walk_62 : decode cX0_walk 62 = .ok (.iadd, 1) := by decide +kernel
theorem dX0_walk_63 : decode cX0_walk 63 = .ok (.iload_n 1, 1) := by decide +kernel
theorem dX0_walk_64 : decode cX0_walk 64 = .ok (.irem, 1) := by decide +kernel
theorem dX0_walk_65 : decode cX0_walk 65 = .ok (.istore 4, 2) := by decide +kernel
theorem dX0_walk_67 : decode cX0_walk 67 = .ok (.iload_n 3, 1) := by decide +kernel
theorem dX0_walk_68 : decode cX0_walk 68 = .ok (.iload 4, 2) := by decide +kernel
theorem dX0_walk_70 : decode cX0_walk 70 = .ok (.if_icmp .le 10, 3) := by decide +kernel
theorem dX0_walk_73 : decode cX0_walk 73 = .ok (.iload_n 3, 1) := by decide +kernel
theorem dX0_walk_74 : decode cX0_walk 74 = .ok (.iload 4, 2) := by decide +kernel
theorem dX0_walk_76 : decode cX0_walk 76 = .ok (.isub, 1) := by decide +kernel
theorem dX0_walk_77 : decode cX0_walk 77 = .ok (.goto 7, 3) := by decide +kernel
theorem dX0_walk_80 : decode cX0_walk 80 = .ok (.iload 4, 2) := by decide +kernel
theorem dX0_walk_82 : decode cX0_walk 82 = .ok (.iload_n 3, 1) := by decide +kernel
theorem dX0_walk_83 : decode cX0_walk 83 = .ok (.isub, 1) := by decide +kernel
theorem dX0_walk_84 : decode cX0_walk 84 = .ok (.istore 7, 2) := by decide +kernel
theorem dX0_walk_86 : decode cX0_walk 86 = .ok (.iload 7, 2) := by decide +kernel
theorem dX0_walk_88 : decode cX0_walk 88 = .ok (.ifCond .ne 7, 3) := by decide +kernel
theorem dX0_walk_91 : decode cX0_walk 91 = .ok (.iload_n 1, 1) := by decide +kernel
theorem dX0_walk_92 : decode cX0_walk 92 = .ok (.goto 10, 3) := by decide +kernel
theorem dX0_walk_95 : decode cX0_walk 95 = .ok (.aload_n 0, 1) := by decide +kernel
theorem dX0_walk_96 : decode cX0_walk 96 = .ok (.iload 7, 2) := by decide +kernel
theorem dX0_walk_98 : decode cX0_walk 98 = .ok (.iload_n 1, 1) := by decide +kernel
theorem dX0_walk_99 : decode cX0_walk 99 = .ok (.invokevirtual 38, 3) := by decide +kernel
theorem dX0_walk_102 : decode cX0_walk 102 = .ok (.istore 5, 2) := by decide +kernel
theorem dX0_walk_104 : decode cX0_walk 104 = .ok (.iinc 6 1, 3) := by decide +kernel
theorem dX0_walk_107 : decode cX0_walk 107 = .ok (.goto (-96), 3) := by decide +kernel
theorem dX0_walk_110 : decode cX0_walk 110 = .ok (.iload 5, 2) := by decide +kernel
theorem dX0_walk_112 : decode cX0_walk 112 = .ok (.ireturn, 1) := by decide +kernel
abbrev cX0_commonDivisor : ByteArray := prog_1_method_16_code
def yX0_commonDivisor : MethodName := ⟨RX0, "commonDivisor", "(II)I"⟩
theorem dX0_commonDivisor_0 : decode cX0_commonDivisor 0 = .ok (.iload_n 1, 1) := by decide +kernel
theorem dX0_commonDivisor_1 : decode cX0_commonDivisor 1 = .ok (.istore_n 3, 1) := by decide +kernel
theorem dX0_commonDivisor_2 : decode cX0_commonDivisor 2 = .ok (.iload_n 2, 1) := by decide +kernel
theorem dX0_commonDivisor_3 : decode cX0_commonDivisor 3 = .ok (.istore 4, 2) := by decide +kernel
theorem dX0_commonDivisor_5 : decode cX0_commonDivisor 5 = .ok (.iload_n 3, 1) := by decide +kernel
theorem dX0_commonDivisor_6 : decode cX0_commonDivisor 6 = .ok (.ifCond .eq 18, 3) := by decide +kernel
theorem dX0_commonDivisor_9 : decode cX0_commonDivisor 9 = .ok (.iload 4, 2) := by decide +kernel
theorem dX0_commonDivisor_11 : decode cX0_commonDivisor 11 = .ok (.iload_n 3, 1) := by decide +kernel
theorem dX0_commonDivisor_12 : decode cX0_commonDivisor 12 = .ok (.irem, 1) := by decide +kernel
theorem dX0_commonDivisor_13 : decode cX0_commonDivisor 13 = .ok (.istore 5, 2) := by decide +kernel
theorem dX0_commonDivisor_15 : decode cX0_commonDivisor 15 = .ok (.iload_n 3, 1) := by decide +kernel
theorem dX0_commonDivisor_16 : decode cX0_commonDivisor 16 = .ok (.istore 4, 2) := by decide +kernel
theorem dX0_commonDivisor_18 : decode cX0_commonDivisor 18 = .ok (.iload 5, 2) := by decide +kernel
theorem dX0_commonDivisor_20 : decode cX0_commonDivisor 20 = .ok (.istore_n 3, 1) := by decide +kernel
theorem dX0_commonDivisor_21 : decode cX0_commonDivisor 21 = .ok (.goto (-16), 3) := by decide +kernel
theorem dX0_commonDivisor_24 : decode cX0_commonDivisor 24 = .ok (.iload 4, 2) := by decide +kernel
theorem dX0_commonDivisor_26 : decode cX0_commonDivisor 26 = .ok (.ireturn, 1) := by decide +kernel
abbrev cX0_factor : ByteArray := prog_1_method_5_code
def yX0_factor : MethodName := ⟨RX0, "factor", "(I)I"⟩
theorem dX0_factor_0 : decode cX0_factor 0 = .ok (.aload_n 0, 1) := by decide +kernel
theorem dX0_factor_1 : decode cX0_factor 1 = .ok (.invokevirtual 28, 3) := by decide +kernel
theorem dX0_factor_4 : decode cX0_factor 4 = .ok (.iload_n 1, 1) := by decide +kernel
theorem dX0_factor_5 : decode cX0_factor 5 = .ok (.ifCond .lt 11, 3) := by decide +kernel
theorem dX0_factor_8 : decode cX0_factor 8 = .ok (.iload_n 1, 1) := by decide +kernel
theorem dX0_factor_9 : decode cX0_factor 9 = .ok (.aload_n 0, 1) := by decide +kernel
theorem dX0_factor_10 : decode cX0_factor 10 = .ok (.getfield 31, 3) := by decide +kernel
theorem dX0_factor_13 : decode cX0_factor 13 = .ok (.if_icmp .lt 8, 3) := by decide +kernel
theorem dX0_factor_16 : decode cX0_factor 16 = .ok (.bipush (-2), 2) := by decide +kernel
theorem dX0_factor_18 : decode cX0_factor 18 = .ok (.goto 9, 3) := by decide +kernel
theorem dX0_factor_21 : decode cX0_factor 21 = .ok (.aload_n 0, 1) := by decide +kernel
theorem dX0_factor_22 : decode cX0_factor 22 = .ok (.getfield 7, 3) := by decide +kernel
theorem dX0_factor_25 : decode cX0_factor 25 = .ok (.iload_n 1, 1) := by decide +kernel
theorem dX0_factor_26 : decode cX0_factor 26 = .ok (.iaload, 1) := by decide +kernel
theorem dX0_factor_27 : decode cX0_factor 27 = .ok (.ireturn, 1) := by decide +kernel
abbrev cX0_divisors : ByteArray := prog_1_method_6_code
def yX0_divisors : MethodName := ⟨RX0, "divisors", "()I"⟩
theorem dX0_divisors_0 : decode cX0_divisors 0 = .ok (.aload_n 0, 1) := by decide +kernel
theorem dX0_divisors_1 : decode cX0_divisors 1 = .ok (.invokevirtual 28, 3) := by decide +kernel
theorem dX0_divisors_4 : decode cX0_divisors 4 = .ok (.iconst 1, 1) := by decide +kernel
theorem dX0_divisors_5 : decode cX0_divisors 5 = .ok (.istore_n 1, 1) := by decide +kernel
theorem dX0_divisors_6 : decode cX0_divisors 6 = .ok (.iconst 0, 1) := by decide +kernel
theorem dX0_divisors_7 : decode cX0_divisors 7 = .ok (.istore_n 2, 1) := by decide +kernel
theorem dX0_divisors_8 : decode cX0_divisors 8 = .ok (.iconst 0, 1) := by decide +kernel
theorem dX0_divisors_9 : decode cX0_divisors 9 = .ok (.istore_n 3, 1) := by decide +kernel
theorem dX0_divisors_10 : decode cX0_divisors 10 = .ok (.iload_n 3, 1) := by decide +kernel
theorem dX0_divisors_11 : decode cX0_divisors 11 = .ok (.aload_n 0, 1) := by decide +kernel
theorem dX0_divisors_12 : decode cX0_divisors 12 = .ok (.getfield 31, 3) := by decide +kernel
theorem dX0_divisors_15 : decode cX0_divisors 15 = .ok (.if_icmp .ge 50, 3) := by decide +kernel
theorem dX0_divisors_18 : decode cX0_divisors 18 = .ok (.iinc 2 1, 3) := by decide +kernel
theorem dX0_divisors_21 : decode cX0_divisors 21 = .ok (.iload_n 3, 1) := by decide +kernel
theorem dX0_divisors_22 : decode cX0_divisors 22 = .ok (.iconst 1, 1) := by decide +kernel
theorem dX0_divisors_23 : decode cX0_divisors 23 = .ok (.iadd, 1) := by decide +kernel
theorem dX0_divisors_24 : decode cX0_divisors 24 = .ok (.aload_n 0, 1) := by decide +kernel
theorem dX0_divisors_25 : decode cX0_divisors 25 = .ok (.getfield 31, 3) := by decide +kernel
theorem dX0_divisors_28 : decode cX0_divisors 28 = .ok (.if_icmp .ge 23, 3) := by decide +kernel
theorem dX0_divisors_31 : decode cX0_divisors 31 = .ok (.aload_n 0, 1) := by decide +kernel
theorem dX0_divisors_32 : decode cX0_divisors 32 = .ok (.getfield 7, 3) := by decide +kernel
theorem dX0_divisors_35 : decode cX0_divisors 35 = .ok (.iload_n 3, 1) := by decide +kernel
theorem dX0_divisors_36 : decode cX0_divisors 36 = .ok (.iconst 1, 1) := by decide +kernel
theorem dX0_divisors_37 : decode cX0_divisors 37 = .ok (.iadd, 1) := by decide +kernel
theorem dX0_divisors_38 : decode cX0_divisors 38 = .ok (.iaload, 1) := by decide +kernel
theorem dX0_divisors_39 : decode cX0_divisors 39 = .ok (.aload_n 0, 1) := by decide +kernel
theorem dX0_divisors_40 : decode cX0_divisors 40 = .ok (.getfield 7, 3) := by decide +kernel
theorem dX0_divisors_43 : decode cX0_divisors 43 = .ok (.iload_n 3, 1) := by decide +kernel
theorem dX0_divisors_44 : decode cX0_divisors 44 = .ok (.iaload, 1) := by decide +kernel
theorem dX0_divisors_45 : decode cX0_divisors 45 = .ok (.if_icmp .ne 6, 3) := by decide +kernel
theorem dX0_divisors_48 : decode cX0_divisors 48 = .ok (.goto 11, 3) := by decide +kernel
theorem dX0_divisors_51 : decode cX0_divisors 51 = .ok (.iload_n 1, 1) := by decide +kernel
theorem dX0_divisors_52 : decode cX0_divisors 52 = .ok (.iload_n 2, 1) := by decide +kernel
theorem dX0_divisors_53 : decode cX0_divisors 53 = .ok (.iconst 1, 1) := by decide +kernel
theorem dX0_divisors_54 : decode cX0_divisors 54 = .ok (.iadd, 1) := by decide +kernel
theorem dX0_divisors_55 : decode cX0_divisors 55 = .ok (.imul, 1) := by decide +kernel
theorem dX0_divisors_56 : decode cX0_divisors 56 = .ok (.istore_n 1, 1) := by decide +kernel
theorem dX0_divisors_57 : decode cX0_divisors 57 = .ok (.iconst 0, 1) := by decide +kernel
theorem dX0_divisors_58 : decode cX0_divisors 58 = .ok (.istore_n 2, 1) := by decide +kernel
theorem dX0_divisors_59 : decode cX0_divisors 59 = .ok (.iinc 3 1, 3) := by decide +kernel
theorem dX0_divisors_62 : decode cX0_divisors 62 = .ok (.goto (-52), 3) := by decide +kernel
theorem dX0_divisors_65 : decode cX0_divisors 65 = .ok (.iload_n 1, 1) := by decide +kernel
theorem dX0_divisors_66 : decode cX0_divisors 66 = .ok (.ireturn, 1) := by decide +kernel
abbrev cX0_sum : ByteArray := prog_1_method_7_code
def yX0_sum : MethodName := ⟨RX0, "sum", "()I"⟩
theorem dX0_sum_0 : decode cX0_sum 0 = .ok (.aload_n 0, 1) := by decide +kernel
theorem dX0_sum_1 : decode cX0_sum 1 = .ok (.invokevirtual 28, 3) := by decide +kernel
theorem dX0_sum_4 : decode cX0_sum 4 = .ok (.iconst 1, 1) := by decide +kernel
theorem dX0_sum_5 : decode cX0_sum 5 = .ok (.istore_n 1, 1) := by decide +kernel
theorem dX0_sum_6 : decode cX0_sum 6 = .ok (.iconst 1, 1) := by decide +kernel
theorem dX0_sum_7 : decode cX0_sum 7 = .ok (.istore_n 2, 1) := by decide +kernel
theorem dX0_sum_8 : decode cX0_sum 8 = .ok (.iconst 0, 1) := by decide +kernel
theorem dX0_sum_9 : decode cX0_sum 9 = .ok (.istore_n 3, 1) := by decide +kernel
theorem dX0_sum_10 : decode cX0_sum 10 = .ok (.iload_n 3, 1) := by decide +kernel
theorem dX0_sum_11 : decode cX0_sum 11 = .ok (.aload_n 0, 1) := by decide +kernel
theorem dX0_sum_12 : decode cX0_sum 12 = .ok (.getfield 31, 3) := by decide +kernel
theorem dX0_sum_15 : decode cX0_sum 15 = .ok (.if_icmp .ge 56, 3) := by decide +kernel
theorem dX0_sum_18 : decode cX0_sum 18 = .ok (.iload_n 2, 1) := by decide +kernel
theorem dX0_sum_19 : decode cX0_sum 19 = .ok (.aload_n 0, 1) := by decide +kernel
theorem dX0_sum_20 : decode cX0_sum 20 = .ok (.getfield 7, 3) := by decide +kernel
theorem dX0_sum_23 : decode cX0_sum 23 = .ok (.iload_n 3, 1) := by decide +kernel
theorem dX0_sum_24 : decode cX0_sum 24 = .ok (.iaload, 1) := by decide +kernel
theorem dX0_sum_25 : decode cX0_sum 25 = .ok (.imul, 1) := by decide +kernel
theorem dX0_sum_26 : decode cX0_sum 26 = .ok (.iconst 1, 1) := by decide +kernel
theorem dX0_sum_27 : decode cX0_sum 27 = .ok (.iadd, 1) := by decide +kernel
theorem dX0_sum_28 : decode cX0_sum 28 = .ok (.istore_n 2, 1) := by decide +kernel
theorem dX0_sum_29 : decode cX0_sum 29 = .ok (.iload_n 3, 1) := by decide +kernel
theorem dX0_sum_30 : decode cX0_sum 30 = .ok (.iconst 1, 1) := by decide +kernel
theorem dX0_sum_31 : decode cX0_sum 31 = .ok (.iadd, 1) := by decide +kernel
theorem dX0_sum_32 : decode cX0_sum 32 = .ok (.aload_n 0, 1) := by decide +kernel
theorem dX0_sum_33 : decode cX0_sum 33 = .ok (.getfield 31, 3) := by decide +kernel
theorem dX0_sum_36 : decode cX0_sum 36 = .ok (.if_icmp .ge 23, 3) := by decide +kernel
theorem dX0_sum_39 : decode cX0_sum 39 = .ok (.aload_n 0, 1) := by decide +kernel
theorem dX0_sum_40 : decode cX0_sum 40 = .ok (.getfield 7, 3) := by decide +kernel
theorem dX0_sum_43 : decode cX0_sum 43 = .ok (.iload_n 3, 1) := by decide +kernel
theorem dX0_sum_44 : decode cX0_sum 44 = .ok (.iconst 1, 1) := by decide +kernel
theorem dX0_sum_45 : decode cX0_sum 45 = .ok (.iadd, 1) := by decide +kernel
theorem dX0_sum_46 : decode cX0_sum 46 = .ok (.iaload, 1) := by decide +kernel
theorem dX0_sum_47 : decode cX0_sum 47 = .ok (.aload_n 0, 1) := by decide +kernel
theorem dX0_sum_48 : decode cX0_sum 48 = .ok (.getfield 7, 3) := by decide +kernel
theorem dX0_sum_51 : decode cX0_sum 51 = .ok (.iload_n 3, 1) := by decide +kernel
theorem dX0_sum_52 : decode cX0_sum 52 = .ok (.iaload, 1) := by decide +kernel
theorem dX0_sum_53 : decode cX0_sum 53 = .ok (.if_icmp .ne 6, 3) := by decide +kernel
theorem dX0_sum_56 : decode cX0_sum 56 = .ok (.goto 9, 3) := by decide +kernel
theorem dX0_sum_59 : decode cX0_sum 59 = .ok (.iload_n 1, 1) := by decide +kernel
theorem dX0_sum_60 : decode cX0_sum 60 = .ok (.iload_n 2, 1) := by decide +kernel
theorem dX0_sum_61 : decode cX0_sum 61 = .ok (.imul, 1) := by decide +kernel
theorem dX0_sum_62 : decode cX0_sum 62 = .ok (.istore_n 1, 1) := by decide +kernel
theorem dX0_sum_63 : decode cX0_sum 63 = .ok (.iconst 1, 1) := by decide +kernel
theorem dX0_sum_64 : decode cX0_sum 64 = .ok (.istore_n 2, 1) := by decide +kernel
theorem dX0_sum_65 : decode cX0_sum 65 = .ok (.iinc 3 1, 3) := by decide +kernel
theorem dX0_sum_68 : decode cX0_sum 68 = .ok (.goto (-58), 3) := by decide +kernel
theorem dX0_sum_71 : decode cX0_sum 71 = .ok (.iload_n 1, 1) := by decide +kernel
theorem dX0_sum_72 : decode cX0_sum 72 = .ok (.ireturn, 1) := by decide +kernel
abbrev cX0_coprimes : ByteArray := prog_1_method_8_code
def yX0_coprimes : MethodName := ⟨RX0, "coprimes", "()I"⟩
theorem dX0_coprimes_0 : decode cX0_coprimes 0 = .ok (.aload_n 0, 1) := by decide +kernel
theorem dX0_coprimes_1 : decode cX0_coprimes 1 = .ok (.invokevirtual 28, 3) := by decide +kernel
theorem dX0_coprimes_4 : decode cX0_coprimes 4 = .ok (.aload_n 0, 1) := by decide +kernel
theorem dX0_coprimes_5 : decode cX0_coprimes 5 = .ok (.getfield 16, 3) := by decide +kernel
theorem dX0_coprimes_8 : decode cX0_coprimes 8 = .ok (.istore_n 1, 1) := by decide +kernel
theorem dX0_coprimes_9 : decode cX0_coprimes 9 = .ok (.iconst 0, 1) := by decide +kernel
theorem dX0_coprimes_10 : decode cX0_coprimes 10 = .ok (.istore_n 2, 1) := by decide +kernel
theorem dX0_coprimes_11 : decode cX0_coprimes 11 = .ok (.iload_n 2, 1) := by decide +kernel
theorem dX0_coprimes_12 : decode cX0_coprimes 12 = .ok (.aload_n 0, 1) := by decide +kernel
theorem dX0_coprimes_13 : decode cX0_coprimes 13 = .ok (.getfield 31, 3) := by decide +kernel
theorem dX0_coprimes_16 : decode cX0_coprimes 16 = .ok (.if_icmp .ge 51, 3) := by decide +kernel
theorem dX0_coprimes_19 : decode cX0_coprimes 19 = .ok (.iload_n 2, 1) := by decide +kernel
theorem dX0_coprimes_20 : decode cX0_coprimes 20 = .ok (.ifCond .le 23, 3) := by decide +kernel
theorem dX0_coprimes_23 : decode cX0_coprimes 23 = .ok (.aload_n 0, 1) := by decide +kernel
theorem dX0_coprimes_24 : decode cX0_coprimes 24 = .ok (.getfield 7, 3) := by decide +kernel
theorem dX0_coprimes_27 : decode cX0_coprimes 27 = .ok (.iload_n 2, 1) := by decide +kernel
theorem dX0_coprimes_28 : decode cX0_coprimes 28 = .ok (.iconst 1, 1) := by decide +kernel
theorem dX0_coprimes_29 : decode cX0_coprimes 29 = .ok (.isub, 1) := by decide +kernel
theorem dX0_coprimes_30 : decode cX0_coprimes 30 = .ok (.iaload, 1) := by decide +kernel
theorem dX0_coprimes_31 : decode cX0_coprimes 31 = .ok (.aload_n 0, 1) := by decide +kernel
theorem dX0_coprimes_32 : decode cX0_coprimes 32 = .ok (.getfield 7, 3) := by decide +kernel
theorem dX0_coprimes_35 : decode cX0_coprimes 35 = .ok (.iload_n 2, 1) := by decide +kernel
theorem dX0_coprimes_36 : decode cX0_coprimes 36 = .ok (.iaload, 1) := by decide +kernel
theorem dX0_coprimes_37 : decode cX0_coprimes 37 = .ok (.if_icmp .ne 6, 3) := by decide +kernel
theorem dX0_coprimes_40 : decode cX0_coprimes 40 = .ok (.goto 21, 3) := by decide +kernel
theorem dX0_coprimes_43 : decode cX0_coprimes 43 = .ok (.iload_n 1, 1) := by decide +kernel
theorem dX0_coprimes_44 : decode cX0_coprimes 44 = .ok (.aload_n 0, 1) := by decide +kernel
theorem dX0_coprimes_45 : decode cX0_coprimes 45 = .ok (.getfield 7, 3) := by decide +kernel
theorem dX0_coprimes_48 : decode cX0_coprimes 48 = .ok (.iload_n 2, 1) := by decide +kernel
theorem dX0_coprimes_49 : decode cX0_coprimes 49 = .ok (.iaload, 1) := by decide +kernel
theorem dX0_coprimes_50 : decode cX0_coprimes 50 = .ok (.idiv, 1) := by decide +kernel
theorem dX0_coprimes_51 : decode cX0_coprimes 51 = .ok (.aload_n 0, 1) := by decide +kernel
theorem dX0_coprimes_52 : decode cX0_coprimes 52 = .ok (.getfield 7, 3) := by decide +kernel
theorem dX0_coprimes_55 : decode cX0_coprimes 55 = .ok (.iload_n 2, 1) := by decide +kernel
theorem dX0_coprimes_56 : decode cX0_coprimes 56 = .ok (.iaload, 1) := by decide +kernel
theorem dX0_coprimes_57 : decode cX0_coprimes 57 = .ok (.iconst 1, 1) := by decide +kernel
theorem dX0_coprimes_58 : decode cX0_coprimes 58 = .ok (.isub, 1) := by decide +kernel
theorem dX0_coprimes_59 : decode cX0_coprimes 59 = .ok (.imul, 1) := by decide +kernel
theorem dX0_coprimes_60 : decode cX0_coprimes 60 = .ok (.istore_n 1, 1) := by decide +kernel
theorem dX0_coprimes_61 : decode cX0_coprimes 61 = .ok (.iinc 2 1, 3) := by decide +kernel
theorem dX0_coprimes_64 : decode cX0_coprimes 64 = .ok (.goto (-53), 3) := by decide +kernel
theorem dX0_coprimes_67 : decode cX0_coprimes 67 = .ok (.iload_n 1, 1) := by decide +kernel
theorem dX0_coprimes_68 : decode cX0_coprimes 68 = .ok (.ireturn, 1) := by decide +kernel
abbrev cX0_nextPrime : ByteArray := prog_1_method_9_code
def yX0_nextPrime : MethodName := ⟨RX0, "nextPrime", "()I"⟩
theorem dX0_nextPrime_0 : decode cX0_nextPrime 0 = .ok (.aload_n 0, 1) := by decide +kernel
theorem dX0_nextPrime_1 : decode cX0_nextPrime 1 = .ok (.getfield 16, 3) := by decide +kernel
theorem dX0_nextPrime_4 : decode cX0_nextPrime 4 = .ok (.iconst 1, 1) := by decide +kernel
theorem dX0_nextPrime_5 : decode cX0_nextPrime 5 = .ok (.iadd, 1) := by decide +kernel
theorem dX0_nextPrime_6 : decode cX0_nextPrime 6 = .ok (.istore_n 1, 1) := by decide +kernel
theorem dX0_nextPrime_7 : decode cX0_nextPrime 7 = .ok (.iconst 0, 1) := by decide +kernel
theorem dX0_nextPrime_8 : decode cX0_nextPrime 8 = .ok (.istore_n 2, 1) := by decide +kernel
theorem dX0_nextPrime_9 : decode cX0_nextPrime 9 = .ok (.iload_n 2, 1) := by decide +kernel
theorem dX0_nextPrime_10 : decode cX0_nextPrime 10 = .ok (.bipush 80, 2) := by decide +kernel
theorem dX0_nextPrime_12 : decode cX0_nextPrime 12 = .ok (.if_icmp .ge 20, 3) := by decide +kernel
theorem dX0_nextPrime_15 : decode cX0_nextPrime 15 = .ok (.aload_n 0, 1) := by decide +kernel
theorem dX0_nextPrime_16 : decode cX0_nextPrime 16 = .ok (.iload_n 1, 1) := by decide +kernel
theorem dX0_nextPrime_17 : decode cX0_nextPrime 17 = .ok (.invokevirtual 24, 3) := by decide +kernel
theorem dX0_nextPrime_20 : decode cX0_nextPrime 20 = .ok (.ifCond .ne 12, 3) := by decide +kernel
theorem dX0_nextPrime_23 : decode cX0_nextPrime 23 = .ok (.iinc 1 1, 3) := by decide +kernel
theorem dX0_nextPrime_26 : decode cX0_nextPrime 26 = .ok (.iinc 2 1, 3) := by decide +kernel
theorem dX0_nextPrime_29 : decode cX0_nextPrime 29 = .ok (.goto (-20), 3) := by decide +kernel
theorem dX0_nextPrime_32 : decode cX0_nextPrime 32 = .ok (.iload_n 1, 1) := by decide +kernel
theorem dX0_nextPrime_33 : decode cX0_nextPrime 33 = .ok (.ireturn, 1) := by decide +kernel
abbrev cX0_power : ByteArray := prog_1_method_10_code
def yX0_power : MethodName := ⟨RX0, "power", "(II)I"⟩
theorem dX0_power_0 : decode cX0_power 0 = .ok (.iload_n 1, 1) := by decide +kernel
theorem dX0_power_1 : decode cX0_power 1 = .ok (.ifCond .lt 21, 3) := by decide +kernel
theorem dX0_power_4 : decode cX0_power 4 = .ok (.iload_n 1, 1) := by decide +kernel
theorem dX0_power_5 : decode cX0_power 5 = .ok (.sipush 30000, 3) := by decide +kernel
theorem dX0_power_8 : decode cX0_power 8 = .ok (.if_icmp .gt 14, 3) := by decide +kernel
theorem dX0_power_11 : decode cX0_power 11 = .ok (.iload_n 2, 1) := by decide +kernel
theorem dX0_power_12 : decode cX0_power 12 = .ok (.ifCond .lt 10, 3) := by decide +kernel
theorem dX0_power_15 : decode cX0_power 15 = .ok (.iload_n 2, 1) := by decide +kernel
theorem dX0_power_16 : decode cX0_power 16 = .ok (.sipush 30000, 3) := by decide +kernel
theorem dX0_power_19 : decode cX0_power 19 = .ok (.if_icmp .le 5, 3) := by decide +kernel
theorem dX0_power_22 : decode cX0_power 22 = .ok (.iconst (-1), 1) := by decide +kernel
theorem dX0_power_23 : decode cX0_power 23 = .ok (.ireturn, 1) := by decide +kernel
theorem dX0_power_24 : decode cX0_power 24 = .ok (.aload_n 0, 1) := by decide +kernel
theorem dX0_power_25 : decode cX0_power 25 = .ok (.iload_n 1, 1) := by decide +kernel
theorem dX0_power_26 : decode cX0_power 26 = .ok (.iload_n 2, 1) := by decide +kernel
theorem dX0_power_27 : decode cX0_power 27 = .ok (.aload_n 0, 1) := by decide +kernel
theorem dX0_power_28 : decode cX0_power 28 = .ok (.getfield 16, 3) := by decide +kernel
theorem dX0_power_31 : decode cX0_power 31 = .ok (.invokevirtual 34, 3) := by decide +kernel
theorem dX0_power_34 : decode cX0_power 34 = .ok (.ireturn, 1) := by decide +kernel
abbrev cX0_order : ByteArray := prog_1_method_11_code
def yX0_order : MethodName := ⟨RX0, "order", "(I)I"⟩
theorem dX0_order_0 : decode cX0_order 0 = .ok (.iload_n 1, 1) := by decide +kernel
theorem dX0_order_1 : decode cX0_order 1 = .ok (.iconst 1, 1) := by decide +kernel
theorem dX0_order_2 : decode cX0_order 2 = .ok (.if_icmp .lt 10, 3) := by decide +kernel
theorem dX0_order_5 : decode cX0_order 5 = .ok (.iload_n 1, 1) := by decide +kernel
theorem dX0_order_6 : decode cX0_order 6 = .ok (.sipush 30000, 3) := by decide +kernel
theorem dX0_order_9 : decode cX0_order 9 = .ok (.if_icmp .le 5, 3) := by decide +kernel
theorem dX0_order_12 : decode cX0_order 12 = .ok (.iconst (-1), 1) := by decide +kernel
theorem dX0_order_13 : decode cX0_order 13 = .ok (.ireturn, 1) := by decide +kernel
theorem dX0_order_14 : decode cX0_order 14 = .ok (.aload_n 0, 1) := by decide +kernel
theorem dX0_order_15 : decode cX0_order 15 = .ok (.getfield 16, 3) := by decide +kernel
theorem dX0_order_18 : decode cX0_order 18 = .ok (.iconst 1, 1) := by decide +kernel
theorem dX0_order_19 : decode cX0_order 19 = .ok (.if_icmp .eq 16, 3) := by decide +kernel
theorem dX0_order_22 : decode cX0_order 22 = .ok (.aload_n 0, 1) := by decide +kernel
theorem dX0_order_23 : decode cX0_order 23 = .ok (.iload_n 1, 1) := by decide +kernel
theorem dX0_order_24 : decode cX0_order 24 = .ok (.aload_n 0, 1) := by decide +kernel
theorem dX0_order_25 : decode cX0_order 25 = .ok (.getfield 16, 3) := by decide +kernel
theorem dX0_order_28 : decode cX0_order 28 = .ok (.invokevirtual 38, 3) := by decide +kernel
theorem dX0_order_31 : decode cX0_order 31 = .ok (.iconst 1, 1) := by decide +kernel
theorem dX0_order_32 : decode cX0_order 32 = .ok (.if_icmp .eq 6, 3) := by decide +kernel
theorem dX0_order_35 : decode cX0_order 35 = .ok (.bipush (-2), 2) := by decide +kernel
theorem dX0_order_37 : decode cX0_order 37 = .ok (.ireturn, 1) := by decide +kernel
theorem dX0_order_38 : decode cX0_order 38 = .ok (.aload_n 0, 1) := by decide +kernel
theorem dX0_order_39 : decode cX0_order 39 = .ok (.invokevirtual 42, 3) := by decide +kernel
theorem dX0_order_42 : decode cX0_order 42 = .ok (.istore_n 2, 1) := by decide +kernel
theorem dX0_order_43 : decode cX0_order 43 = .ok (.iload_n 2, 1) := by decide +kernel
theorem dX0_order_44 : decode cX0_order 44 = .ok (.istore_n 3, 1) := by decide +kernel
theorem dX0_order_45 : decode cX0_order 45 = .ok (.iconst 2, 1) := by decide +kernel
theorem dX0_order_46 : decode cX0_order 46 = .ok (.istore 4, 2) := by decide +kernel
theorem dX0_order_48 : decode cX0_order 48 = .ok (.iload_n 3, 1) := by decide +kernel
theorem dX0_order_49 : decode cX0_order 49 = .ok (.iconst 1, 1) := by decide +kernel
theorem dX0_order_50 : decode cX0_order 50 = .ok (.if_icmp .le 58, 3) := by decide +kernel
theorem dX0_order_53 : decode cX0_order 53 = .ok (.iload 4, 2) := by decide +kernel
theorem dX0_order_55 : decode cX0_order 55 = .ok (.iload 4, 2) := by decide +kernel
theorem dX0_order_57 : decode cX0_order 57 = .ok (.imul, 1) := by decide +kernel
theorem dX0_order_58 : decode cX0_order 58 = .ok (.iload_n 3, 1) := by decide +kernel
theorem dX0_order_59 : decode cX0_order 59 = .ok (.if_icmp .le 6, 3) := by decide +kernel
theorem dX0_order_62 : decode cX0_order 62 = .ok (.iload_n 3, 1) := by decide +kernel
theorem dX0_order_63 : decode cX0_order 63 = .ok (.istore 4, 2) := by decide +kernel
theorem dX0_order_65 : decode cX0_order 65 = .ok (.iload_n 3, 1) := by decide +kernel
theorem dX0_order_66 : decode cX0_order 66 = .ok (.iload 4, 2) := by decide +kernel
theorem dX0_order_68 : decode cX0_order 68 = .ok (.irem, 1) := by decide +kernel
theorem dX0_order_69 : decode cX0_order 69 = .ok (.ifCond .ne 33, 3) := by decide +kernel
theorem dX0_order_72 : decode cX0_order 72 = .ok (.iload_n 3, 1) := by decide +kernel
theorem dX0_order_73 : decode cX0_order 73 = .ok (.iload 4, 2) := by decide +kernel
theorem dX0_order_75 : decode cX0_order 75 = .ok (.idiv, 1) := by decide +kernel
theorem dX0_order_76 : decode cX0_order 76 = .ok (.istore_n 3, 1) := by decide +kernel
theorem dX0_order_77 : decode cX0_order 77 = .ok (.aload_n 0, 1) := by decide +kernel
theorem dX0_order_78 : decode cX0_order 78 = .ok (.iload_n 1, 1) := by decide +kernel
theorem dX0_order_79 : decode cX0_order 79 = .ok (.iload_n 2, 1) := by decide +kernel
theorem dX0_order_80 : decode cX0_order 80 = .ok (.iload 4, 2) := by decide +kernel
theorem dX0_order_82 : decode cX0_order 82 = .ok (.idiv, 1) := by decide +kernel
theorem dX0_order_83 : decode cX0_order 83 = .ok (.aload_n 0, 1) := by decide +kernel
theorem dX0_order_84 : decode cX0_order 84 = .ok (.getfield 16, 3) := by decide +kernel
theorem dX0_order_87 : decode cX0_order 87 = .ok (.invokevirtual 34, 3) := by decide +kernel
theorem dX0_order_90 : decode cX0_order 90 = .ok (.iconst 1, 1) := by decide +kernel
theorem dX0_order_91 : decode cX0_order 91 = .ok (.if_icmp .ne (-26), 3) := by decide +kernel
theorem dX0_order_94 : decode cX0_order 94 = .ok (.iload_n 2, 1) := by decide +kernel
theorem dX0_order_95 : decode cX0_order 95 = .ok (.iload 4, 2) := by decide +kernel
theorem dX0_order_97 : decode cX0_order 97 = .ok (.idiv, 1) := by decide +kernel
theorem dX0_order_98 : decode cX0_order 98 = .ok (.istore_n 2, 1) := by decide +kernel
theorem dX0_order_99 : decode cX0_order 99 = .ok (.goto (-34), 3) := by decide +kernel
theorem dX0_order_102 : decode cX0_order 102 = .ok (.iinc 4 1, 3) := by decide +kernel
theorem dX0_order_105 : decode cX0_order 105 = .ok (.goto (-57), 3) := by decide +kernel
theorem dX0_order_108 : decode cX0_order 108 = .ok (.iload_n 2, 1) := by decide +kernel
theorem dX0_order_109 : decode cX0_order 109 = .ok (.ireturn, 1) := by decide +kernel
abbrev cX0_root : ByteArray := prog_1_method_12_code
def yX0_root : MethodName := ⟨RX0, "root", "(I)I"⟩
theorem dX0_root_0 : decode cX0_root 0 = .ok (.iload_n 1, 1) := by decide +kernel
theorem dX0_root_1 : decode cX0_root 1 = .ok (.ifCond .lt 10, 3) := by decide +kernel
theorem dX0_root_4 : decode cX0_root 4 = .ok (.iload_n 1, 1) := by decide +kernel
theorem dX0_root_5 : decode cX0_root 5 = .ok (.sipush 30000, 3) := by decide +kernel
theorem dX0_root_8 : decode cX0_root 8 = .ok (.if_icmp .le 5, 3) := by decide +kernel
theorem dX0_root_11 : decode cX0_root 11 = .ok (.iconst (-1), 1) := by decide +kernel
theorem dX0_root_12 : decode cX0_root 12 = .ok (.ireturn, 1) := by decide +kernel
theorem dX0_root_13 : decode cX0_root 13 = .ok (.aload_n 0, 1) := by decide +kernel
theorem dX0_root_14 : decode cX0_root 14 = .ok (.aload_n 0, 1) := by decide +kernel
theorem dX0_root_15 : decode cX0_root 15 = .ok (.getfield 16, 3) := by decide +kernel
theorem dX0_root_18 : decode cX0_root 18 = .ok (.invokevirtual 24, 3) := by decide +kernel
theorem dX0_root_21 : decode cX0_root 21 = .ok (.ifCond .ne 6, 3) := by decide +kernel
theorem dX0_root_24 : decode cX0_root 24 = .ok (.bipush (-2), 2) := by decide +kernel
theorem dX0_root_26 : decode cX0_root 26 = .ok (.ireturn, 1) := by decide +kernel
theorem dX0_root_27 : decode cX0_root 27 = .ok (.iload_n 1, 1) := by decide +kernel
theorem dX0_root_28 : decode cX0_root 28 = .ok (.aload_n 0, 1) := by decide +kernel
theorem dX0_root_29 : decode cX0_root 29 = .ok (.getfield 16, 3) := by decide +kernel
theorem dX0_root_32 : decode cX0_root 32 = .ok (.irem, 1) := by decide +kernel
theorem dX0_root_33 : decode cX0_root 33 = .ok (.istore_n 2, 1) := by decide +kernel
theorem dX0_root_34 : decode cX0_root 34 = .ok (.aload_n 0, 1) := by decide +kernel
theorem dX0_root_35 : decode cX0_root 35 = .ok (.getfield 16, 3) := by decide +kernel
theorem dX0_root_38 : decode cX0_root 38 = .ok (.iconst 2, 1) := by decide +kernel
theorem dX0_root_39 : decode cX0_root 39 = .ok (.if_icmp .eq 7, 3) := by decide +kernel
theorem dX0_root_42 : decode cX0_root 42 = .ok (.iload_n 2, 1) := by decide +kernel
theorem dX0_root_43 : decode cX0_root 43 = .ok (.ifCond .ne 5, 3) := by decide +kernel
theorem dX0_root_46 : decode cX0_root 46 = .ok (.iload_n 2, 1) := by decide +kernel
theorem dX0_root_47 : decode cX0_root 47 = .ok (.ireturn, 1) := by decide +kernel
theorem dX0_root_48 : decode cX0_root 48 = .ok (.aload_n 0, 1) := by decide +kernel
theorem dX0_root_49 : decode cX0_root 49 = .ok (.iload_n 2, 1) := by decide +kernel
theorem dX0_root_50 : decode cX0_root 50 = .ok (.aload_n 0, 1) := by decide +kernel
theorem dX0_root_51 : decode cX0_root 51 = .ok (.getfield 16, 3) := by decide +kernel
theorem dX0_root_54 : decode cX0_root 54 = .ok (.iconst 1, 1) := by decide +kernel
theorem dX0_root_55 : decode cX0_root 55 = .ok (.isub, 1) := by decide +kernel
theorem dX0_root_56 : decode cX0_root 56 = .ok (.iconst 2, 1) := by decide +kernel
theorem dX0_root_57 : decode cX0_root 57 = .ok (.idiv, 1) := by decide +kernel
theorem dX0_root_58 : decode cX0_root 58 = .ok (.aload_n 0, 1) := by decide +kernel
theorem dX0_root_59 : decode cX0_root 59 = .ok (.getfield 16, 3) := by decide +kernel
theorem dX0_root_62 : decode cX0_root 62 = .ok (.invokevirtual 34, 3) := by decide +kernel
theorem dX0_root_65 : decode cX0_root 65 = .ok (.iconst 1, 1) := by decide +kernel
theorem dX0_root_66 : decode cX0_root 66 = .ok (.if_icmp .eq 6, 3) := by decide +kernel
theorem dX0_root_69 : decode cX0_root 69 = .ok (.bipush (-2), 2) := by decide +kernel
theorem dX0_root_71 : decode cX0_root 71 = .ok (.ireturn, 1) := by decide +kernel
theorem dX0_root_72 : decode cX0_root 72 = .ok (.aload_n 0, 1) := by decide +kernel
theorem dX0_root_73 : decode cX0_root 73 = .ok (.iload_n 2, 1) := by decide +kernel
theorem dX0_root_74 : decode cX0_root 74 = .ok (.aload_n 0, 1) := by decide +kernel
theorem dX0_root_75 : decode cX0_root 75 = .ok (.getfield 16, 3) := by decide +kernel
theorem dX0_root_78 : decode cX0_root 78 = .ok (.invokevirtual 46, 3) := by decide +kernel
theorem dX0_root_81 : decode cX0_root 81 = .ok (.istore_n 3, 1) := by decide +kernel
theorem dX0_root_82 : decode cX0_root 82 = .ok (.iload_n 3, 1) := by decide +kernel
theorem dX0_root_83 : decode cX0_root 83 = .ok (.aload_n 0, 1) := by decide +kernel
theorem dX0_root_84 : decode cX0_root 84 = .ok (.getfield 16, 3) := by decide +kernel
theorem dX0_root_87 : decode cX0_root 87 = .ok (.iload_n 3, 1) := by decide +kernel
theorem dX0_root_88 : decode cX0_root 88 = .ok (.isub, 1) := by decide +kernel
theorem dX0_root_89 : decode cX0_root 89 = .ok (.if_icmp .gt 7, 3) := by decide +kernel
theorem dX0_root_92 : decode cX0_root 92 = .ok (.iload_n 3, 1) := by decide +kernel
theorem dX0_root_93 : decode cX0_root 93 = .ok (.goto 9, 3) := by decide +kernel
theorem dX0_root_96 : decode cX0_root 96 = .ok (.aload_n 0, 1) := by decide +kernel
theorem dX0_root_97 : decode cX0_root 97 = .ok (.getfield 16, 3) := by decide +kernel
theorem dX0_root_100 : decode cX0_root 100 = .ok (.iload_n 3, 1) := by decide +kernel
theorem dX0_root_101 : decode cX0_root 101 = .ok (.isub, 1) := by decide +kernel
theorem dX0_root_102 : decode cX0_root 102 = .ok (.ireturn, 1) := by decide +kernel
abbrev cX0_rootModulo : ByteArray := prog_1_method_25_code
def yX0_rootModulo : MethodName := ⟨RX0, "rootModulo", "(II)I"⟩
theorem dX0_rootModulo_0 : decode cX0_rootModulo 0 = .ok (.iload_n 2, 1) := by decide +kernel
theorem dX0_rootModulo_1 : decode cX0_rootModulo 1 = .ok (.iconst 1, 1) := by decide +kernel
theorem dX0_rootModulo_2 : decode cX0_rootModulo 2 = .ok (.isub, 1) := by decide +kernel
theorem dX0_rootModulo_3 : decode cX0_rootModulo 3 = .ok (.istore_n 3, 1) := by decide +kernel
theorem dX0_rootModulo_4 : decode cX0_rootModulo 4 = .ok (.iconst 0, 1) := by decide +kernel
theorem dX0_rootModulo_5 : decode cX0_rootModulo 5 = .ok (.istore 4, 2) := by decide +kernel
theorem dX0_rootModulo_7 : decode cX0_rootModulo 7 = .ok (.iload_n 3, 1) := by decide +kernel
theorem dX0_rootModulo_8 : decode cX0_rootModulo 8 = .ok (.iconst 1, 1) := by decide +kernel
theorem dX0_rootModulo_9 : decode cX0_rootModulo 9 = .ok (.iand, 1) := by decide +kernel
theorem dX0_rootModulo_10 : decode cX0_rootModulo 10 = .ok (.ifCond .ne 13, 3) := by decide +kernel
theorem dX0_rootModulo_13 : decode cX0_rootModulo 13 = .ok (.iload_n 3, 1) := by decide +kernel
theorem dX0_rootModulo_14 : decode cX0_rootModulo 14 = .ok (.iconst 1, 1) := by decide +kernel
theorem dX0_rootModulo_15 : decode cX0_rootModulo 15 = .ok (.ishr, 1) := by decide +kernel
theorem dX0_rootModulo_16 : decode cX0_rootModulo 16 = .ok (.istore_n 3, 1) := by decide +kernel
theorem dX0_rootModulo_17 : decode cX0_rootModulo 17 = .ok (.iinc 4 1, 3) := by decide +kernel
theorem dX0_rootModulo_20 : decode cX0_rootModulo 20 = .ok (.goto (-13), 3) := by decide +kernel
theorem dX0_rootModulo_23 : decode cX0_rootModulo 23 = .ok (.iconst 2, 1) := by decide +kernel
theorem dX0_rootModulo_24 : decode cX0_rootModulo 24 = .ok (.istore 5, 2) := by decide +kernel
theorem dX0_rootModulo_26 : decode cX0_rootModulo 26 = .ok (.aload_n 0, 1) := by decide +kernel
theorem dX0_rootModulo_27 : decode cX0_rootModulo 27 = .ok (.iload 5, 2) := by decide +kernel
theorem dX0_rootModulo_29 : decode cX0_rootModulo 29 = .ok (.iload_n 2, 1) := by decide +kernel
theorem dX0_rootModulo_30 : decode cX0_rootModulo 30 = .ok (.iconst 1, 1) := by decide +kernel
theorem dX0_rootModulo_31 : decode cX0_rootModulo 31 = .ok (.isub, 1) := by decide +kernel
theorem dX0_rootModulo_32 : decode cX0_rootModulo 32 = .ok (.iconst 2, 1) := by decide +kernel
theorem dX0_rootModulo_33 : decode cX0_rootModulo 33 = .ok (.idiv, 1) := by decide +kernel
theorem dX0_rootModulo_34 : decode cX0_rootModulo 34 = .ok (.iload_n 2, 1) := by decide +kernel
theorem dX0_rootModulo_35 : decode cX0_rootModulo 35 = .ok (.invokevirtual 34, 3) := by decide +kernel
theorem dX0_rootModulo_38 : decode cX0_rootModulo 38 = .ok (.iconst 1, 1) := by decide +kernel
theorem dX0_rootModulo_39 : decode cX0_rootModulo 39 = .ok (.if_icmp .ne 9, 3) := by decide +kernel
theorem dX0_rootModulo_42 : decode cX0_rootModulo 42 = .ok (.iinc 5 1, 3) := by decide +kernel
theorem dX0_rootModulo_45 : decode cX0_rootModulo 45 = .ok (.goto (-19), 3) := by decide +kernel
theorem dX0_rootModulo_48 : decode cX0_rootModulo 48 = .ok (.aload_n 0, 1) := by decide +kernel
theorem dX0_rootModulo_49 : decode cX0_rootModulo 49 = .ok (.iload 5, 2) := by decide +kernel
theorem dX0_rootModulo_51 : decode cX0_rootModulo 51 = .ok (.iload_n 3, 1) := by decide +kernel
theorem dX0_rootModulo_52 : decode cX0_rootModulo 52 = .ok (.iload_n 2, 1) := by decide +kernel
theorem dX0_rootModulo_53 : decode cX0_rootModulo 53 = .ok (.invokevirtual 34, 3) := by decide +kernel
theorem dX0_rootModulo_56 : decode cX0_rootModulo 56 = .ok (.istore 6, 2) := by decide +kernel
theorem dX0_rootModulo_58 : decode cX0_rootModulo 58 = .ok (.aload_n 0, 1) := by decide +kernel
theorem dX0_rootModulo_59 : decode cX0_rootModulo 59 = .ok (.iload_n 1, 1) := by decide +kernel
theorem dX0_rootModulo_60 : decode cX0_rootModulo 60 = .ok (.iload_n 3, 1) := by decide +kernel
theorem dX0_rootModulo_61 : decode cX0_rootModulo 61 = .ok (.iconst 1, 1) := by decide +kernel
theorem dX0_rootModulo_62 : decode cX0_rootModulo 62 = .ok (.iadd, 1) := by decide +kernel
theorem dX0_rootModulo_63 : decode cX0_rootModulo 63 = .ok (.iconst 2, 1) := by decide +kernel
theorem dX0_rootModulo_64 : decode cX0_rootModulo 64 = .ok (.idiv, 1) := by decide +kernel
theorem dX0_rootModulo_65 : decode cX0_rootModulo 65 = .ok (.iload_n 2, 1) := by decide +kernel
theorem dX0_rootModulo_66 : decode cX0_rootModulo 66 = .ok (.invokevirtual 34, 3) := by decide +kernel
theorem dX0_rootModulo_69 : decode cX0_rootModulo 69 = .ok (.istore 7, 2) := by decide +kernel
theorem dX0_rootModulo_71 : decode cX0_rootModulo 71 = .ok (.aload_n 0, 1) := by decide +kernel
theorem dX0_rootModulo_72 : decode cX0_rootModulo 72 = .ok (.iload_n 1, 1) := by decide +kernel
theorem dX0_rootModulo_73 : decode cX0_rootModulo 73 = .ok (.iload_n 3, 1) := by decide +kernel
theorem dX0_rootModulo_74 : decode cX0_rootModulo 74 = .ok (.iload_n 2, 1) := by decide +kernel
theorem dX0_rootModulo_75 : decode cX0_rootModulo 75 = .ok (.invokevirtual 34, 3) := by decide +kernel
theorem dX0_rootModulo_78 : decode cX0_rootModulo 78 = .ok (.istore 8, 2) := by decide +kernel
theorem dX0_rootModulo_80 : decode cX0_rootModulo 80 = .ok (.iload 4, 2) := by decide +kernel
theorem dX0_rootModulo_82 : decode cX0_rootModulo 82 = .ok (.istore 9, 2) := by decide +kernel
theorem dX0_rootModulo_84 : decode cX0_rootModulo 84 = .ok (.iload 8, 2) := by decide +kernel
theorem dX0_rootModulo_86 : decode cX0_rootModulo 86 = .ok (.iconst 1, 1) := by decide +kernel
theorem dX0_rootModulo_87 : decode cX0_rootModulo 87 = .ok (.if_icmp .eq 88, 3) := by decide +kernel
theorem dX0_rootModulo_90 : decode cX0_rootModulo 90 = .ok (.aload_n 0, 1) := by decide +kernel
theorem dX0_rootModulo_91 : decode cX0_rootModulo 91 = .ok (.iload 8, 2) := by decide +kernel
theorem dX0_rootModulo_93 : decode cX0_rootModulo 93 = .ok (.iload_n 2, 1) := by decide +kernel
theorem dX0_rootModulo_94 : decode cX0_rootModulo 94 = .ok (.invokevirtual 76, 3) := by decide +kernel
theorem dX0_rootModulo_97 : decode cX0_rootModulo 97 = .ok (.istore 10, 2) := by decide +kernel
theorem dX0_rootModulo_99 : decode cX0_rootModulo 99 = .ok (.iload 6, 2) := by decide +kernel
theorem dX0_rootModulo_101 : decode cX0_rootModulo 101 = .ok (.istore 11, 2) := by decide +kernel
theorem dX0_rootModulo_103 : decode cX0_rootModulo 103 = .ok (.iconst 0, 1) := by decide +kernel
theorem dX0_rootModulo_104 : decode cX0_rootModulo 104 = .ok (.istore 12, 2) := by decide +kernel
theorem dX0_rootModulo_106 : decode cX0_rootModulo 106 = .ok (.iload 12, 2) := by decide +kernel
theorem dX0_rootModulo_108 : decode cX0_rootModulo 108 = .ok (.iload 9, 2) := by decide +kernel
theorem dX0_rootModulo_110 : decode cX0_rootModulo 110 = .ok (.iload 10, 2) := by decide +kernel
theorem dX0_rootModulo_112 : decode cX0_rootModulo 112 = .ok (.isub, 1) := by decide +kernel
theorem dX0_rootModulo_113 : decode cX0_rootModulo 113 = .ok (.iconst 1, 1) := by decide +kernel
theorem dX0_rootModulo_114 : decode cX0_rootModulo 114 = .ok (.isub, 1) := by decide +kernel
theorem dX0_rootModulo_115 : decode cX0_rootModulo 115 = .ok (.if_icmp .ge 20, 3) := by decide +kernel
theorem dX0_rootModulo_118 : decode cX0_rootModulo 118 = .ok (.aload_n 0, 1) := by decide +kernel
theorem dX0_rootModulo_119 : decode cX0_rootModulo 119 = .ok (.iload 11, 2) := by decide +kernel
theorem dX0_rootModulo_121 : decode cX0_rootModulo 121 = .ok (.iload 11, 2) := by decide +kernel
theorem dX0_rootModulo_123 : decode cX0_rootModulo 123 = .ok (.iload_n 2, 1) := by decide +kernel
theorem dX0_rootModulo_124 : decode cX0_rootModulo 124 = .ok (.invokevirtual 52, 3) := by decide +kernel
theorem dX0_rootModulo_127 : decode cX0_rootModulo 127 = .ok (.istore 11, 2) := by decide +kernel
theorem dX0_rootModulo_129 : decode cX0_rootModulo 129 = .ok (.iinc 12 1, 3) := by decide +kernel
theorem dX0_rootModulo_132 : decode cX0_rootModulo 132 = .ok (.goto (-26), 3) := by decide +kernel
theorem dX0_rootModulo_135 : decode cX0_rootModulo 135 = .ok (.aload_n 0, 1) := by decide +kernel
theorem dX0_rootModulo_136 : decode cX0_rootModulo 136 = .ok (.iload 7, 2) := by decide +kernel
theorem dX0_rootModulo_138 : decode cX0_rootModulo 138 = .ok (.iload 11, 2) := by decide +kernel
theorem dX0_rootModulo_140 : decode cX0_rootModulo 140 = .ok (.iload_n 2, 1) := by decide +kernel
theorem dX0_rootModulo_141 : decode cX0_rootModulo 141 = .ok (.invokevirtual 52, 3) := by decide +kernel
theorem dX0_rootModulo_144 : decode cX0_rootModulo 144 = .ok (.istore 7, 2) := by decide +kernel
theorem dX0_rootModulo_146 : decode cX0_rootModulo 146 = .ok (.aload_n 0, 1) := by decide +kernel
theorem dX0_rootModulo_147 : decode cX0_rootModulo 147 = .ok (.iload 11, 2) := by decide +kernel
theorem dX0_rootModulo_149 : decode cX0_rootModulo 149 = .ok (.iload 11, 2) := by decide +kernel
theorem dX0_rootModulo_151 : decode cX0_rootModulo 151 = .ok (.iload_n 2, 1) := by decide +kernel
theorem dX0_rootModulo_152 : decode cX0_rootModulo 152 = .ok (.invokevirtual 52, 3) := by decide +kernel
theorem dX0_rootModulo_155 : decode cX0_rootModulo 155 = .ok (.istore 6, 2) := by decide +kernel
theorem dX0_rootModulo_157 : decode cX0_rootModulo 157 = .ok (.aload_n 0, 1) := by decide +kernel
theorem dX0_rootModulo_158 : decode cX0_rootModulo 158 = .ok (.iload 8, 2) := by decide +kernel
theorem dX0_rootModulo_160 : decode cX0_rootModulo 160 = .ok (.iload 6, 2) := by decide +kernel
theorem dX0_rootModulo_162 : decode cX0_rootModulo 162 = .ok (.iload_n 2, 1) := by decide +kernel
theorem dX0_rootModulo_163 : decode cX0_rootModulo 163 = .ok (.invokevirtual 52, 3) := by decide +kernel
theorem dX0_rootModulo_166 : decode cX0_rootModulo 166 = .ok (.istore 8, 2) := by decide +kernel
theorem dX0_rootModulo_168 : decode cX0_rootModulo 168 = .ok (.iload 10, 2) := by decide +kernel
theorem dX0_rootModulo_170 : decode cX0_rootModulo 170 = .ok (.istore 9, 2) := by decide +kernel
theorem dX0_rootModulo_172 : decode cX0_rootModulo 172 = .ok (.goto (-88), 3) := by decide +kernel
theorem dX0_rootModulo_175 : decode cX0_rootModulo 175 = .ok (.iload 7, 2) := by decide +kernel
theorem dX0_rootModulo_177 : decode cX0_rootModulo 177 = .ok (.ireturn, 1) := by decide +kernel
abbrev cX0_leastPower : ByteArray := prog_1_method_26_code
def yX0_leastPower : MethodName := ⟨RX0, "leastPower", "(II)I"⟩
theorem dX0_leastPower_0 : decode cX0_leastPower 0 = .ok (.iconst 0, 1) := by decide +kernel
theorem dX0_leastPower_1 : decode cX0_leastPower 1 = .ok (.istore_n 3, 1) := by decide +kernel
theorem dX0_leastPower_2 : decode cX0_leastPower 2 = .ok (.iload_n 1, 1) := by decide +kernel
theorem dX0_leastPower_3 : decode cX0_leastPower 3 = .ok (.istore 4, 2) := by decide +kernel
theorem dX0_leastPower_5 : decode cX0_leastPower 5 = .ok (.iload 4, 2) := by decide +kernel
theorem dX0_leastPower_7 : decode cX0_leastPower 7 = .ok (.iconst 1, 1) := by decide +kernel
theorem dX0_leastPower_8 : decode cX0_leastPower 8 = .ok (.if_icmp .eq 20, 3) := by decide +kernel
theorem dX0_leastPower_11 : decode cX0_leastPower 11 = .ok (.aload_n 0, 1) := by decide +kernel
theorem dX0_leastPower_12 : decode cX0_leastPower 12 = .ok (.iload 4, 2) := by decide +kernel
theorem dX0_leastPower_14 : decode cX0_leastPower 14 = .ok (.iload 4, 2) := by decide +kernel
theorem dX0_leastPower_16 : decode cX0_leastPower 16 = .ok (.iload_n 2, 1) := by decide +kernel
theorem dX0_leastPower_17 : decode cX0_leastPower 17 = .ok (.invokevirtual 52, 3) := by decide +kernel
theorem dX0_leastPower_20 : decode cX0_leastPower 20 = .ok (.istore 4, 2) := by decide +kernel
theorem dX0_leastPower_22 : decode cX0_leastPower 22 = .ok (.iinc 3 1, 3) := by decide +kernel
theorem dX0_leastPower_25 : decode cX0_leastPower 25 = .ok (.goto (-20), 3) := by decide +kernel
theorem dX0_leastPower_28 : decode cX0_leastPower 28 = .ok (.iload_n 3, 1) := by decide +kernel
theorem dX0_leastPower_29 : decode cX0_leastPower 29 = .ok (.ireturn, 1) := by decide +kernel
abbrev cX0_generator : ByteArray := prog_1_method_13_code
def yX0_generator : MethodName := ⟨RX0, "generator", "()I"⟩
theorem dX0_generator_0 : decode cX0_generator 0 = .ok (.aload_n 0, 1) := by decide +kernel
theorem dX0_generator_1 : decode cX0_generator 1 = .ok (.aload_n 0, 1) := by decide +kernel
theorem dX0_generator_2 : decode cX0_generator 2 = .ok (.getfield 16, 3) := by decide +kernel
theorem dX0_generator_5 : decode cX0_generator 5 = .ok (.invokevirtual 24, 3) := by decide +kernel
theorem dX0_generator_8 : decode cX0_generator 8 = .ok (.ifCond .ne 6, 3) := by decide +kernel
theorem dX0_generator_11 : decode cX0_generator 11 = .ok (.bipush (-2), 2) := by decide +kernel
theorem dX0_generator_13 : decode cX0_generator 13 = .ok (.ireturn, 1) := by decide +kernel
theorem dX0_generator_14 : decode cX0_generator 14 = .ok (.aload_n 0, 1) := by decide +kernel
theorem dX0_generator_15 : decode cX0_generator 15 = .ok (.getfield 16, 3) := by decide +kernel
theorem dX0_generator_18 : decode cX0_generator 18 = .ok (.iconst 2, 1) := by decide +kernel
theorem dX0_generator_19 : decode cX0_generator 19 = .ok (.if_icmp .ne 5, 3) := by decide +kernel
theorem dX0_generator_22 : decode cX0_generator 22 = .ok (.iconst 1, 1) := by decide +kernel
theorem dX0_generator_23 : decode cX0_generator 23 = .ok (.ireturn, 1) := by decide +kernel
theorem dX0_generator_24 : decode cX0_generator 24 = .ok (.iconst 1, 1) := by decide +kernel
theorem dX0_generator_25 : decode cX0_generator 25 = .ok (.istore_n 1, 1) := by decide +kernel
theorem dX0_generator_26 : decode cX0_generator 26 = .ok (.iconst 0, 1) := by decide +kernel
theorem dX0_generator_27 : decode cX0_generator 27 = .ok (.istore_n 2, 1) := by decide +kernel
theorem dX0_generator_28 : decode cX0_generator 28 = .ok (.iload_n 2, 1) := by decide +kernel
theorem dX0_generator_29 : decode cX0_generator 29 = .ok (.ifCond .ne 15, 3) := by decide +kernel
theorem dX0_generator_32 : decode cX0_generator 32 = .ok (.iinc 1 1, 3) := by decide +kernel
theorem dX0_generator_35 : decode cX0_generator 35 = .ok (.aload_n 0, 1) := by decide +kernel
theorem dX0_generator_36 : decode cX0_generator 36 = .ok (.iload_n 1, 1) := by decide +kernel
theorem dX0_generator_37 : decode cX0_generator 37 = .ok (.invokevirtual 49, 3) := by decide +kernel
theorem dX0_generator_40 : decode cX0_generator 40 = .ok (.istore_n 2, 1) := by decide +kernel
theorem dX0_generator_41 : decode cX0_generator 41 = .ok (.goto (-13), 3) := by decide +kernel
theorem dX0_generator_44 : decode cX0_generator 44 = .ok (.iload_n 1, 1) := by decide +kernel
theorem dX0_generator_45 : decode cX0_generator 45 = .ok (.ireturn, 1) := by decide +kernel
abbrev cX0_generates : ByteArray := prog_1_method_17_code
def yX0_generates : MethodName := ⟨RX0, "generates", "(I)Z"⟩
theorem dX0_generates_0 : decode cX0_generates 0 = .ok (.aload_n 0, 1) := by decide +kernel
theorem dX0_generates_1 : decode cX0_generates 1 = .ok (.getfield 16, 3) := by decide +kernel
theorem dX0_generates_4 : decode cX0_generates 4 = .ok (.iconst 1, 1) := by decide +kernel
theorem dX0_generates_5 : decode cX0_generates 5 = .ok (.isub, 1) := by decide +kernel
theorem dX0_generates_6 : decode cX0_generates 6 = .ok (.istore_n 2, 1) := by decide +kernel
theorem dX0_generates_7 : decode cX0_generates 7 = .ok (.iload_n 2, 1) := by decide +kernel
theorem dX0_generates_8 : decode cX0_generates 8 = .ok (.istore_n 3, 1) := by decide +kernel
theorem dX0_generates_9 : decode cX0_generates 9 = .ok (.iconst 2, 1) := by decide +kernel
theorem dX0_generates_10 : decode cX0_generates 10 = .ok (.istore 4, 2) := by decide +kernel
theorem dX0_generates_12 : decode cX0_generates 12 = .ok (.iload_n 3, 1) := by decide +kernel
theorem dX0_generates_13 : decode cX0_generates 13 = .ok (.iconst 1, 1) := by decide +kernel
theorem dX0_generates_14 : decode cX0_generates 14 = .ok (.if_icmp .le 65, 3) := by decide +kernel
theorem dX0_generates_17 : decode cX0_generates 17 = .ok (.iload 4, 2) := by decide +kernel
theorem dX0_generates_19 : decode cX0_generates 19 = .ok (.iload 4, 2) := by decide +kernel
theorem dX0_generates_21 : decode cX0_generates 21 = .ok (.imul, 1) := by decide +kernel
theorem dX0_generates_22 : decode cX0_generates 22 = .ok (.iload_n 3, 1) := by decide +kernel
theorem dX0_generates_23 : decode cX0_generates 23 = .ok (.if_icmp .le 6, 3) := by decide +kernel
theorem dX0_generates_26 : decode cX0_generates 26 = .ok (.iload_n 3, 1) := by decide +kernel
theorem dX0_generates_27 : decode cX0_generates 27 = .ok (.istore 4, 2) := by decide +kernel
theorem dX0_generates_29 : decode cX0_generates 29 = .ok (.iload_n 3, 1) := by decide +kernel
theorem dX0_generates_30 : decode cX0_generates 30 = .ok (.iload 4, 2) := by decide +kernel
theorem dX0_generates_32 : decode cX0_generates 32 = .ok (.irem, 1) := by decide +kernel
theorem dX0_generates_33 : decode cX0_generates 33 = .ok (.ifCond .eq 6, 3) := by decide +kernel
theorem dX0_generates_36 : decode cX0_generates 36 = .ok (.goto 37, 3) := by decide +kernel
theorem dX0_generates_39 : decode cX0_generates 39 = .ok (.iload_n 3, 1) := by decide +kernel
theorem dX0_generates_40 : decode cX0_generates 40 = .ok (.iload 4, 2) := by decide +kernel
theorem dX0_generates_42 : decode cX0_generates 42 = .ok (.irem, 1) := by decide +kernel
theorem dX0_generates_43 : decode cX0_generates 43 = .ok (.ifCond .ne 11, 3) := by decide +kernel
theorem dX0_generates_46 : decode cX0_generates 46 = .ok (.iload_n 3, 1) := by decide +kernel
theorem dX0_generates_47 : decode cX0_generates 47 = .ok (.iload 4, 2) := by decide +kernel
theorem dX0_generates_49 : decode cX0_generates 49 = .ok (.idiv, 1) := by decide +kernel
theorem dX0_generates_50 : decode cX0_generates 50 = .ok (.istore_n 3, 1) := by decide +kernel
theorem dX0_generates_51 : decode cX0_generates 51 = .ok (.goto (-12), 3) := by decide +kernel
theorem dX0_generates_54 : decode cX0_generates 54 = .ok (.aload_n 0, 1) := by decide +kernel
theorem dX0_generates_55 : decode cX0_generates 55 = .ok (.iload_n 1, 1) := by decide +kernel
theorem dX0_generates_56 : decode cX0_generates 56 = .ok (.iload_n 2, 1) := by decide +kernel
theorem dX0_generates_57 : decode cX0_generates 57 = .ok (.iload 4, 2) := by decide +kernel
theorem dX0_generates_59 : decode cX0_generates 59 = .ok (.idiv, 1) := by decide +kernel
theorem dX0_generates_60 : decode cX0_generates 60 = .ok (.aload_n 0, 1) := by decide +kernel
theorem dX0_generates_61 : decode cX0_generates 61 = .ok (.getfield 16, 3) := by decide +kernel
theorem dX0_generates_64 : decode cX0_generates 64 = .ok (.invokevirtual 34, 3) := by decide +kernel
theorem dX0_generates_67 : decode cX0_generates 67 = .ok (.iconst 1, 1) := by decide +kernel
theorem dX0_generates_68 : decode cX0_generates 68 = .ok (.if_icmp .ne 5, 3) := by decide +kernel
theorem dX0_generates_71 : decode cX0_generates 71 = .ok (.iconst 0, 1) := by decide +kernel
theorem dX0_generates_72 : decode cX0_generates 72 = .ok (.ireturn, 1) := by decide +kernel
theorem dX0_generates_73 : decode cX0_generates 73 = .ok (.iinc 4 1, 3) := by decide +kernel
theorem dX0_generates_76 : decode cX0_generates 76 = .ok (.goto (-64), 3) := by decide +kernel
theorem dX0_generates_79 : decode cX0_generates 79 = .ok (.iconst 1, 1) := by decide +kernel
theorem dX0_generates_80 : decode cX0_generates 80 = .ok (.ireturn, 1) := by decide +kernel
theorem q17 : (Jvm.Cond.initialized "PrimeDesk") ∈ lw_all := lw_g (lw_at lw_m0 1 rfl) rfl
theorem q20 : (Jvm.Cond.instantiable "PrimeDesk" (6 : Nat)) ∈ lw_all := lw_g (lw_at lw_m0 4 rfl) rfl
theorem q22 : (Jvm.Cond.instanceMethod ({ cls := "PrimeDesk", name := "<init>", desc := "()V" } : Jvm.MethodName)) ∈ lw_all := lw_g (lw_at lw_m0 6 rfl) rfl
theorem q23 : (Jvm.Cond.code ({ cls := "PrimeDesk", name := "<init>", desc := "()V" } : Jvm.MethodName) prog_1_method_1_code (1 : Nat) (Option.none : Option Jvm.ClassFile.FieldType)) ∈ lw_all := lw_g (lw_at lw_m0 7 rfl) rfl
theorem q24 : (Jvm.Cond.methodLink "PrimeDesk" (1 : Nat) ({ cls := "java/lang/Object", name := "<init>", desc := "()V" } : Jvm.MethodName)) ∈ lw_all := lw_g (lw_at lw_m0 8 rfl) rfl
theorem q27 : (Jvm.Cond.fieldLink "PrimeDesk" (16 : Nat) "PrimeDesk" "number" "I") ∈ lw_all := lw_g (lw_at lw_m0 11 rfl) rfl
theorem q28 : (Jvm.Cond.fieldLink "PrimeDesk" (20 : Nat) "PrimeDesk" "split" "Z") ∈ lw_all := lw_g (lw_at lw_m0 12 rfl) rfl
theorem q29 : (Jvm.Cond.fieldLink "PrimeDesk" (31 : Nat) "PrimeDesk" "factorCount" "I") ∈ lw_all := lw_g (lw_at lw_m0 13 rfl) rfl
theorem q30 : (Jvm.Cond.fieldLink "PrimeDesk" (7 : Nat) "PrimeDesk" "factorList" "[I") ∈ lw_all := lw_g (lw_at lw_m0 14 rfl) rfl
theorem q31 : (Jvm.Cond.fieldLink "PrimeDesk" (59 : Nat) "PrimeDesk" "partCount" "I") ∈ lw_all := lw_g (lw_at lw_m0 15 rfl) rfl
theorem q32 : (Jvm.Cond.fieldLink "PrimeDesk" (13 : Nat) "PrimeDesk" "parts" "[I") ∈ lw_all := lw_g (lw_at lw_m0 16 rfl) rfl
theorem q33 : (Jvm.Cond.lays "PrimeDesk" "PrimeDesk" "number" "I") ∈ lw_all := lw_g (lw_at lw_m0 17 rfl) rfl
theorem q34 : (Jvm.Cond.soleField "PrimeDesk" "number") ∈ lw_all := lw_g (lw_at lw_m0 18 rfl) rfl
theorem q35 : (Jvm.Cond.lays "PrimeDesk" "PrimeDesk" "split" "Z") ∈ lw_all := lw_g (lw_at lw_m0 19 rfl) rfl
theorem q36 : (Jvm.Cond.soleField "PrimeDesk" "split") ∈ lw_all := lw_g (lw_at lw_m0 20 rfl) rfl
theorem q37 : (Jvm.Cond.lays "PrimeDesk" "PrimeDesk" "factorCount" "I") ∈ lw_all := lw_g (lw_at lw_m0 21 rfl) rfl
theorem q38 : (Jvm.Cond.soleField "PrimeDesk" "factorCount") ∈ lw_all := lw_g (lw_at lw_m0 22 rfl) rfl
theorem q39 : (Jvm.Cond.laysFinal "PrimeDesk" "PrimeDesk" "factorList" "[I") ∈ lw_all := lw_g (lw_at lw_m0 23 rfl) rfl
theorem q40 : (Jvm.Cond.soleField "PrimeDesk" "factorList") ∈ lw_all := lw_g (lw_at lw_m0 24 rfl) rfl
theorem q41 : (Jvm.Cond.lays "PrimeDesk" "PrimeDesk" "partCount" "I") ∈ lw_all := lw_g (lw_at lw_m0 25 rfl) rfl
theorem q42 : (Jvm.Cond.soleField "PrimeDesk" "partCount") ∈ lw_all := lw_g (lw_at lw_m0 26 rfl) rfl
theorem q43 : (Jvm.Cond.laysFinal "PrimeDesk" "PrimeDesk" "parts" "[I") ∈ lw_all := lw_g (lw_at lw_m0 27 rfl) rfl
theorem q44 : (Jvm.Cond.soleField "PrimeDesk" "parts") ∈ lw_all := lw_g (lw_at lw_m0 28 rfl) rfl
theorem q45 : (Jvm.Cond.superclass "PrimeDesk" "java/lang/Object") ∈ lw_all := lw_g (lw_at lw_m0 29 rfl) rfl
theorem q48 : (Jvm.Cond.instanceMethod ({ cls := "PrimeDesk", name := "take", desc := "(I)Z" } : Jvm.MethodName)) ∈ lw_all := lw_g (lw_at lw_m0 32 rfl) rfl
theorem q49 : (Jvm.Cond.selects "PrimeDesk" ({ cls := "PrimeDesk", name := "take", desc := "(I)Z" } : Jvm.MethodName) ({ cls := "PrimeDesk", name := "take", desc := "(I)Z" } : Jvm.MethodName)) ∈ lw_all := lw_g (lw_at lw_m0 33 rfl) rfl
theorem q50 : (Jvm.Cond.code ({ cls := "PrimeDesk", name := "take", desc := "(I)Z" } : Jvm.MethodName) prog_1_method_2_code (2 : Nat) (Option.some Jvm.ClassFile.FieldType.boolean)) ∈ lw_all := lw_g (lw_at lw_m0 34 rfl) rfl
theorem q52 : (Jvm.Cond.instanceMethod ({ cls := "PrimeDesk", name := "isPrime", desc := "()Z" } : Jvm.MethodName)) ∈ lw_all := lw_g (lw_at lw_m0 36 rfl) rfl
theorem q53 : (Jvm.Cond.selects "PrimeDesk" ({ cls := "PrimeDesk", name := "isPrime", desc := "()Z" } : Jvm.MethodName) ({ cls := "PrimeDesk", name := "isPrime", desc := "()Z" } : Jvm.MethodName)) ∈ lw_all := lw_g (lw_at lw_m0 37 rfl) rfl
theorem q54 : (Jvm.Cond.code ({ cls := "PrimeDesk", name := "isPrime", desc := "()Z" } : Jvm.MethodName) prog_1_method_3_code (1 : Nat) (Option.some Jvm.ClassFile.FieldType.boolean)) ∈ lw_all := lw_g (lw_at lw_m0 38 rfl) rfl
theorem q55 : (Jvm.Cond.methodLink "PrimeDesk" (24 : Nat) ({ cls := "PrimeDesk", name := "primeTest", desc := "(I)Z" } : Jvm.MethodName)) ∈ lw_all := lw_g (lw_at lw_m0 39 rfl) rfl
theorem q56 : (Jvm.Cond.privateMethod ({ cls := "PrimeDesk", name := "primeTest", desc := "(I)Z" } : Jvm.MethodName)) ∈ lw_tbl := lw_at lw_m0 40 rfl
theorem q57 : (Jvm.Cond.instanceMethod ({ cls := "PrimeDesk", name := "primeTest", desc := "(I)Z" } : Jvm.MethodName)) ∈ lw_all := lw_g (lw_at lw_m0 41 rfl) rfl
theorem q58 : (Jvm.Cond.code ({ cls := "PrimeDesk", name := "primeTest", desc := "(I)Z" } : Jvm.MethodName) prog_1_method_18_code (2 : Nat) (Option.some Jvm.ClassFile.FieldType.boolean)) ∈ lw_all := lw_g (lw_at lw_m0 42 rfl) rfl
theorem q59 : (Jvm.Cond.methodLink "PrimeDesk" (55 : Nat) ({ cls := "PrimeDesk", name := "passes", desc := "(II)Z" } : Jvm.MethodName)) ∈ lw_all := lw_g (lw_at lw_m0 43 rfl) rfl
theorem q60 : (Jvm.Cond.privateMethod ({ cls := "PrimeDesk", name := "passes", desc := "(II)Z" } : Jvm.MethodName)) ∈ lw_tbl := lw_at lw_m0 44 rfl
theorem q61 : (Jvm.Cond.instanceMethod ({ cls := "PrimeDesk", name := "passes", desc := "(II)Z" } : Jvm.MethodName)) ∈ lw_all := lw_g (lw_at lw_m0 45 rfl) rfl
theorem q62 : (Jvm.Cond.code ({ cls := "PrimeDesk", name := "passes", desc := "(II)Z" } : Jvm.MethodName) prog_1_method_19_code (7 : Nat) (Option.some Jvm.ClassFile.FieldType.boolean)) ∈ lw_all := lw_g (lw_at lw_m0 46 rfl) rfl
theorem q63 : (Jvm.Cond.methodLink "PrimeDesk" (34 : Nat) ({ cls := "PrimeDesk", name := "powerRest", desc := "(III)I" } : Jvm.MethodName)) ∈ lw_all := lw_g (lw_at lw_m0 47 rfl) rfl
theorem q64 : (Jvm.Cond.privateMethod ({ cls := "PrimeDesk", name := "powerRest", desc := "(III)I" } : Jvm.MethodName)) ∈ lw_tbl := lw_at lw_m0 48 rfl
theorem q65 : (Jvm.Cond.instanceMethod ({ cls := "PrimeDesk", name := "powerRest", desc := "(III)I" } : Jvm.MethodName)) ∈ lw_all := lw_g (lw_at lw_m0 49 rfl) rfl
theorem q66 : (Jvm.Cond.code ({ cls := "PrimeDesk", name := "powerRest", desc := "(III)I" } : Jvm.MethodName) prog_1_method_15_code (7 : Nat) (Option.some Jvm.ClassFile.FieldType.int)) ∈ lw_all := lw_g (lw_at lw_m0 50 rfl) rfl
theorem q67 : (Jvm.Cond.methodLink "PrimeDesk" (52 : Nat) ({ cls := "PrimeDesk", name := "timesRest", desc := "(III)I" } : Jvm.MethodName)) ∈ lw_all := lw_g (lw_at lw_m0 51 rfl) rfl
theorem q68 : (Jvm.Cond.privateMethod ({ cls := "PrimeDesk", name := "timesRest", desc := "(III)I" } : Jvm.MethodName)) ∈ lw_tbl := lw_at lw_m0 52 rfl
theorem q69 : (Jvm.Cond.instanceMethod ({ cls := "PrimeDesk", name := "timesRest", desc := "(III)I" } : Jvm.MethodName)) ∈ lw_all := lw_g (lw_at lw_m0 53 rfl) rfl
theorem q70 : (Jvm.Cond.code ({ cls := "PrimeDesk", name := "timesRest", desc := "(III)I" } : Jvm.MethodName) prog_1_method_14_code (4 : Nat) (Option.some Jvm.ClassFile.FieldType.int)) ∈ lw_all := lw_g (lw_at lw_m0 54 rfl) rfl
theorem q72 : (Jvm.Cond.instanceMethod ({ cls := "PrimeDesk", name := "factors", desc := "()I" } : Jvm.MethodName)) ∈ lw_all := lw_g (lw_at lw_m0 56 rfl) rfl
theorem q73 : (Jvm.Cond.selects "PrimeDesk" ({ cls := "PrimeDesk", name := "factors", desc := "()I" } : Jvm.MethodName) ({ cls := "PrimeDesk", name := "factors", desc := "()I" } : Jvm.MethodName)) ∈ lw_all := lw_g (lw_at lw_m0 57 rfl) rfl
theorem q74 : (Jvm.Cond.code ({ cls := "PrimeDesk", name := "factors", desc := "()I" } : Jvm.MethodName) prog_1_method_4_code (1 : Nat) (Option.some Jvm.ClassFile.FieldType.int)) ∈ lw_all := lw_g (lw_at lw_m0 58 rfl) rfl
theorem q75 : (Jvm.Cond.methodLink "PrimeDesk" (28 : Nat) ({ cls := "PrimeDesk", name := "findFactors", desc := "()V" } : Jvm.MethodName)) ∈ lw_all := lw_g (lw_at lw_m0 59 rfl) rfl
theorem q76 : (Jvm.Cond.privateMethod ({ cls := "PrimeDesk", name := "findFactors", desc := "()V" } : Jvm.MethodName)) ∈ lw_tbl := lw_at lw_m0 60 rfl
theorem q77 : (Jvm.Cond.instanceMethod ({ cls := "PrimeDesk", name := "findFactors", desc := "()V" } : Jvm.MethodName)) ∈ lw_all := lw_g (lw_at lw_m0 61 rfl) rfl
theorem q78 : (Jvm.Cond.code ({ cls := "PrimeDesk", name := "findFactors", desc := "()V" } : Jvm.MethodName) prog_1_method_20_code (3 : Nat) (Option.none : Option Jvm.ClassFile.FieldType)) ∈ lw_all := lw_g (lw_at lw_m0 62 rfl) rfl
theorem q79 : (Jvm.Cond.methodLink "PrimeDesk" (62 : Nat) ({ cls := "PrimeDesk", name := "pushPart", desc := "(I)V" } : Jvm.MethodName)) ∈ lw_all := lw_g (lw_at lw_m0 63 rfl) rfl
theorem q80 : (Jvm.Cond.privateMethod ({ cls := "PrimeDesk", name := "pushPart", desc := "(I)V" } : Jvm.MethodName)) ∈ lw_tbl := lw_at lw_m0 64 rfl
theorem q81 : (Jvm.Cond.instanceMethod ({ cls := "PrimeDesk", name := "pushPart", desc := "(I)V" } : Jvm.MethodName)) ∈ lw_all := lw_g (lw_at lw_m0 65 rfl) rfl
theorem q82 : (Jvm.Cond.code ({ cls := "PrimeDesk", name := "pushPart", desc := "(I)V" } : Jvm.MethodName) prog_1_method_21_code (2 : Nat) (Option.none : Option Jvm.ClassFile.FieldType)) ∈ lw_all := lw_g (lw_at lw_m0 66 rfl) rfl
theorem q83 : (Jvm.Cond.methodLink "PrimeDesk" (66 : Nat) ({ cls := "PrimeDesk", name := "insertFactor", desc := "(I)V" } : Jvm.MethodName)) ∈ lw_all := lw_g (lw_at lw_m0 67 rfl) rfl
theorem q84 : (Jvm.Cond.privateMethod ({ cls := "PrimeDesk", name := "insertFactor", desc := "(I)V" } : Jvm.MethodName)) ∈ lw_tbl := lw_at lw_m0 68 rfl
theorem q85 : (Jvm.Cond.instanceMethod ({ cls := "PrimeDesk", name := "insertFactor", desc := "(I)V" } : Jvm.MethodName)) ∈ lw_all := lw_g (lw_at lw_m0 69 rfl) rfl
theorem q86 : (Jvm.Cond.code ({ cls := "PrimeDesk", name := "insertFactor", desc := "(I)V" } : Jvm.MethodName) prog_1_method_22_code (3 : Nat) (Option.none : Option Jvm.ClassFile.FieldType)) ∈ lw_all := lw_g (lw_at lw_m0 70 rfl) rfl
theorem q87 : (Jvm.Cond.methodLink "PrimeDesk" (69 : Nat) ({ cls := "PrimeDesk", name := "splitter", desc := "(I)I" } : Jvm.MethodName)) ∈ lw_all := lw_g (lw_at lw_m0 71 rfl) rfl
theorem q88 : (Jvm.Cond.privateMethod ({ cls := "PrimeDesk", name := "splitter", desc := "(I)I" } : Jvm.MethodName)) ∈ lw_tbl := lw_at lw_m0 72 rfl
theorem q89 : (Jvm.Cond.instanceMethod ({ cls := "PrimeDesk", name := "splitter", desc := "(I)I" } : Jvm.MethodName)) ∈ lw_all := lw_g (lw_at lw_m0 73 rfl) rfl
theorem q90 : (Jvm.Cond.code ({ cls := "PrimeDesk", name := "splitter", desc := "(I)I" } : Jvm.MethodName) prog_1_method_23_code (4 : Nat) (Option.some Jvm.ClassFile.FieldType.int)) ∈ lw_all := lw_g (lw_at lw_m0 74 rfl) rfl
theorem q91 : (Jvm.Cond.methodLink "PrimeDesk" (73 : Nat) ({ cls := "PrimeDesk", name := "walk", desc := "(II)I" } : Jvm.MethodName)) ∈ lw_all := lw_g (lw_at lw_m0 75 rfl) rfl
theorem q92 : (Jvm.Cond.privateMethod ({ cls := "PrimeDesk", name := "walk", desc := "(II)I" } : Jvm.MethodName)) ∈ lw_tbl := lw_at lw_m0 76 rfl
theorem q93 : (Jvm.Cond.instanceMethod ({ cls := "PrimeDesk", name := "walk", desc := "(II)I" } : Jvm.MethodName)) ∈ lw_all := lw_g (lw_at lw_m0 77 rfl) rfl
theorem q94 : (Jvm.Cond.code ({ cls := "PrimeDesk", name := "walk", desc := "(II)I" } : Jvm.MethodName) prog_1_method_24_code (8 : Nat) (Option.some Jvm.ClassFile.FieldType.int)) ∈ lw_all := lw_g (lw_at lw_m0 78 rfl) rfl
theorem q95 : (Jvm.Cond.methodLink "PrimeDesk" (38 : Nat) ({ cls := "PrimeDesk", name := "commonDivisor", desc := "(II)I" } : Jvm.MethodName)) ∈ lw_all := lw_g (lw_at lw_m0 79 rfl) rfl
theorem q96 : (Jvm.Cond.privateMethod ({ cls := "PrimeDesk", name := "commonDivisor", desc := "(II)I" } : Jvm.MethodName)) ∈ lw_tbl := lw_at lw_m0 80 rfl
theorem q97 : (Jvm.Cond.instanceMethod ({ cls := "PrimeDesk", name := "commonDivisor", desc := "(II)I" } : Jvm.MethodName)) ∈ lw_all := lw_g (lw_at lw_m0 81 rfl) rfl
theorem q98 : (Jvm.Cond.code ({ cls := "PrimeDesk", name := "commonDivisor", desc := "(II)I" } : Jvm.MethodName) prog_1_method_16_code (6 : Nat) (Option.some Jvm.ClassFile.FieldType.int)) ∈ lw_all := lw_g (lw_at lw_m0 82 rfl) rfl
theorem q100 : (Jvm.Cond.instanceMethod ({ cls := "PrimeDesk", name := "factor", desc := "(I)I" } : Jvm.MethodName)) ∈ lw_all := lw_g (lw_at lw_m0 84 rfl) rfl
theorem q101 : (Jvm.Cond.selects "PrimeDesk" ({ cls := "PrimeDesk", name := "factor", desc := "(I)I" } : Jvm.MethodName) ({ cls := "PrimeDesk", name := "factor", desc := "(I)I" } : Jvm.MethodName)) ∈ lw_all := lw_g (lw_at lw_m0 85 rfl) rfl
theorem q102 : (Jvm.Cond.code ({ cls := "PrimeDesk", name := "factor", desc := "(I)I" } : Jvm.MethodName) prog_1_method_5_code (2 : Nat) (Option.some Jvm.ClassFile.FieldType.int)) ∈ lw_all := lw_g (lw_at lw_m0 86 rfl) rfl
theorem q104 : (Jvm.Cond.instanceMethod ({ cls := "PrimeDesk", name := "divisors", desc := "()I" } : Jvm.MethodName)) ∈ lw_all := lw_g (lw_at lw_m0 88 rfl) rfl
theorem q105 : (Jvm.Cond.selects "PrimeDesk" ({ cls := "PrimeDesk", name := "divisors", desc := "()I" } : Jvm.MethodName) ({ cls := "PrimeDesk", name := "divisors", desc := "()I" } : Jvm.MethodName)) ∈ lw_all := lw_g (lw_at lw_m0 89 rfl) rfl
theorem q106 : (Jvm.Cond.code ({ cls := "PrimeDesk", name := "divisors", desc := "()I" } : Jvm.MethodName) prog_1_method_6_code (4 : Nat) (Option.some Jvm.ClassFile.FieldType.int)) ∈ lw_all := lw_g (lw_at lw_m0 90 rfl) rfl
theorem q108 : (Jvm.Cond.instanceMethod ({ cls := "PrimeDesk", name := "sum", desc := "()I" } : Jvm.MethodName)) ∈ lw_all := lw_g (lw_at lw_m0 92 rfl) rfl
theorem q109 : (Jvm.Cond.selects "PrimeDesk" ({ cls := "PrimeDesk", name := "sum", desc := "()I" } : Jvm.MethodName) ({ cls := "PrimeDesk", name := "sum", desc := "()I" } : Jvm.MethodName)) ∈ lw_all := lw_g (lw_at lw_m0 93 rfl) rfl
theorem q110 : (Jvm.Cond.code ({ cls := "PrimeDesk", name := "sum", desc := "()I" } : Jvm.MethodName) prog_1_method_7_code (4 : Nat) (Option.some Jvm.ClassFile.FieldType.int)) ∈ lw_all := lw_g (lw_at lw_m0 94 rfl) rfl
theorem q112 : (Jvm.Cond.instanceMethod ({ cls := "PrimeDesk", name := "coprimes", desc := "()I" } : Jvm.MethodName)) ∈ lw_all := lw_g (lw_at lw_m0 96 rfl) rfl
theorem q113 : (Jvm.Cond.selects "PrimeDesk" ({ cls := "PrimeDesk", name := "coprimes", desc := "()I" } : Jvm.MethodName) ({ cls := "PrimeDesk", name := "coprimes", desc := "()I" } : Jvm.MethodName)) ∈ lw_all := lw_g (lw_at lw_m0 97 rfl) rfl
theorem q114 : (Jvm.Cond.code ({ cls := "PrimeDesk", name := "coprimes", desc := "()I" } : Jvm.MethodName) prog_1_method_8_code (3 : Nat) (Option.some Jvm.ClassFile.FieldType.int)) ∈ lw_all := lw_g (lw_at lw_m0 98 rfl) rfl
theorem q116 : (Jvm.Cond.instanceMethod ({ cls := "PrimeDesk", name := "nextPrime", desc := "()I" } : Jvm.MethodName)) ∈ lw_all := lw_g (lw_at lw_m0 100 rfl) rfl
theorem q117 : (Jvm.Cond.selects "PrimeDesk" ({ cls := "PrimeDesk", name := "nextPrime", desc := "()I" } : Jvm.MethodName) ({ cls := "PrimeDesk", name := "nextPrime", desc := "()I" } : Jvm.MethodName)) ∈ lw_all := lw_g (lw_at lw_m0 101 rfl) rfl
theorem q118 : (Jvm.Cond.code ({ cls := "PrimeDesk", name := "nextPrime", desc := "()I" } : Jvm.MethodName) prog_1_method_9_code (3 : Nat) (Option.some Jvm.ClassFile.FieldType.int)) ∈ lw_all := lw_g (lw_at lw_m0 102 rfl) rfl
theorem q120 : (Jvm.Cond.instanceMethod ({ cls := "PrimeDesk", name := "power", desc := "(II)I" } : Jvm.MethodName)) ∈ lw_all := lw_g (lw_at lw_m0 104 rfl) rfl
theorem q121 : (Jvm.Cond.selects "PrimeDesk" ({ cls := "PrimeDesk", name := "power", desc := "(II)I" } : Jvm.MethodName) ({ cls := "PrimeDesk", name := "power", desc := "(II)I" } : Jvm.MethodName)) ∈ lw_all := lw_g (lw_at lw_m0 105 rfl) rfl
theorem q122 : (Jvm.Cond.code ({ cls := "PrimeDesk", name := "power", desc := "(II)I" } : Jvm.MethodName) prog_1_method_10_code (3 : Nat) (Option.some Jvm.ClassFile.FieldType.int)) ∈ lw_all := lw_g (lw_at lw_m0 106 rfl) rfl
theorem q124 : (Jvm.Cond.instanceMethod ({ cls := "PrimeDesk", name := "order", desc := "(I)I" } : Jvm.MethodName)) ∈ lw_all := lw_g (lw_at lw_m0 108 rfl) rfl
theorem q125 : (Jvm.Cond.selects "PrimeDesk" ({ cls := "PrimeDesk", name := "order", desc := "(I)I" } : Jvm.MethodName) ({ cls := "PrimeDesk", name := "order", desc := "(I)I" } : Jvm.MethodName)) ∈ lw_all := lw_g (lw_at lw_m0 109 rfl) rfl
theorem q126 : (Jvm.Cond.code ({ cls := "PrimeDesk", name := "order", desc := "(I)I" } : Jvm.MethodName) prog_1_method_11_code (5 : Nat) (Option.some Jvm.ClassFile.FieldType.int)) ∈ lw_all := lw_g (lw_at lw_m0 110 rfl) rfl
theorem q127 : (Jvm.Cond.methodLink "PrimeDesk" (42 : Nat) ({ cls := "PrimeDesk", name := "coprimes", desc := "()I" } : Jvm.MethodName)) ∈ lw_all := lw_g (lw_at lw_m0 111 rfl) rfl
theorem q129 : (Jvm.Cond.instanceMethod ({ cls := "PrimeDesk", name := "root", desc := "(I)I" } : Jvm.MethodName)) ∈ lw_all := lw_g (lw_at lw_m0 113 rfl) rfl
theorem q130 : (Jvm.Cond.selects "PrimeDesk" ({ cls := "PrimeDesk", name := "root", desc := "(I)I" } : Jvm.MethodName) ({ cls := "PrimeDesk", name := "root", desc := "(I)I" } : Jvm.MethodName)) ∈ lw_all := lw_g (lw_at lw_m0 114 rfl) rfl
theorem q131 : (Jvm.Cond.code ({ cls := "PrimeDesk", name := "root", desc := "(I)I" } : Jvm.MethodName) prog_1_method_12_code (4 : Nat) (Option.some Jvm.ClassFile.FieldType.int)) ∈ lw_all := lw_g (lw_at lw_m0 115 rfl) rfl
theorem q132 : (Jvm.Cond.methodLink "PrimeDesk" (46 : Nat) ({ cls := "PrimeDesk", name := "rootModulo", desc := "(II)I" } : Jvm.MethodName)) ∈ lw_all := lw_g (lw_at lw_m0 116 rfl) rfl
theorem q133 : (Jvm.Cond.privateMethod ({ cls := "PrimeDesk", name := "rootModulo", desc := "(II)I" } : Jvm.MethodName)) ∈ lw_tbl := lw_at lw_m0 117 rfl
theorem q134 : (Jvm.Cond.instanceMethod ({ cls := "PrimeDesk", name := "rootModulo", desc := "(II)I" } : Jvm.MethodName)) ∈ lw_all := lw_g (lw_at lw_m0 118 rfl) rfl
theorem q135 : (Jvm.Cond.code ({ cls := "PrimeDesk", name := "rootModulo", desc := "(II)I" } : Jvm.MethodName) prog_1_method_25_code (13 : Nat) (Option.some Jvm.ClassFile.FieldType.int)) ∈ lw_all := lw_g (lw_at lw_m0 119 rfl) rfl
theorem q136 : (Jvm.Cond.methodLink "PrimeDesk" (76 : Nat) ({ cls := "PrimeDesk", name := "leastPower", desc := "(II)I" } : Jvm.MethodName)) ∈ lw_all := lw_g (lw_at lw_m0 120 rfl) rfl
theorem q137 : (Jvm.Cond.privateMethod ({ cls := "PrimeDesk", name := "leastPower", desc := "(II)I" } : Jvm.MethodName)) ∈ lw_tbl := lw_at lw_m0 121 rfl
theorem q138 : (Jvm.Cond.instanceMethod ({ cls := "PrimeDesk", name := "leastPower", desc := "(II)I" } : Jvm.MethodName)) ∈ lw_all := lw_g (lw_at lw_m0 122 rfl) rfl
theorem q139 : (Jvm.Cond.code ({ cls := "PrimeDesk", name := "leastPower", desc := "(II)I" } : Jvm.MethodName) prog_1_method_26_code (5 : Nat) (Option.some Jvm.ClassFile.FieldType.int)) ∈ lw_all := lw_g (lw_at lw_m0 123 rfl) rfl
theorem q141 : (Jvm.Cond.instanceMethod ({ cls := "PrimeDesk", name := "generator", desc := "()I" } : Jvm.MethodName)) ∈ lw_all := lw_g (lw_at lw_m0 125 rfl) rfl
theorem q142 : (Jvm.Cond.selects "PrimeDesk" ({ cls := "PrimeDesk", name := "generator", desc := "()I" } : Jvm.MethodName) ({ cls := "PrimeDesk", name := "generator", desc := "()I" } : Jvm.MethodName)) ∈ lw_all := lw_g (lw_at lw_m0 126 rfl) rfl
theorem q143 : (Jvm.Cond.code ({ cls := "PrimeDesk", name := "generator", desc := "()I" } : Jvm.MethodName) prog_1_method_13_code (3 : Nat) (Option.some Jvm.ClassFile.FieldType.int)) ∈ lw_all := lw_g (lw_at lw_m0 127 rfl) rfl
theorem q144 : (Jvm.Cond.methodLink "PrimeDesk" (49 : Nat) ({ cls := "PrimeDesk", name := "generates", desc := "(I)Z" } : Jvm.MethodName)) ∈ lw_all := lw_g (lw_at lw_m0 128 rfl) rfl
theorem q145 : (Jvm.Cond.privateMethod ({ cls := "PrimeDesk", name := "generates", desc := "(I)Z" } : Jvm.MethodName)) ∈ lw_tbl := lw_at lw_m0 129 rfl
theorem q146 : (Jvm.Cond.instanceMethod ({ cls := "PrimeDesk", name := "generates", desc := "(I)Z" } : Jvm.MethodName)) ∈ lw_all := lw_g (lw_at lw_m0 130 rfl) rfl
theorem q147 : (Jvm.Cond.code ({ cls := "PrimeDesk", name := "generates", desc := "(I)Z" } : Jvm.MethodName) prog_1_method_17_code (5 : Nat) (Option.some Jvm.ClassFile.FieldType.boolean)) ∈ lw_all := lw_g (lw_at lw_m0 131 rfl) rfl
theorem in_X0 : ∀ w ∈ wsX00, w ∈ lw_all := lw_in wsX00 [33, 35, 37, 39, 41, 43] (by decide +kernel) (by decide +kernel)
end
section
/-! PrimeDeskModel -/
set_option maxRecDepth 100000
def RX1 : String := "PrimeDeskModel"
def TX1 : u_T := fun k => match k with
  | _ => ("PrimeDeskModel", "hand", "I", false)
def tyX1 : Nat → FieldType := fun k => match k with
  | _ => .int
abbrev wsX10 : List Cond := u_ws RX1 TX1 1
theorem nmX1 : ∀ a, a < 1 → ∀ b, b < 1 → a ≠ b → (TX1 a).2.1 ≠ (TX1 b).2.1 := by decide +kernel
theorem tyX1_ok : ∀ k, k < 1 → parseFieldDescriptor (TX1 k).2.2.1 = some (tyX1 k) := by decide +kernel
abbrev cX1_init : ByteArray := prog_3_method_1_code
def yX1_init : MethodName := ⟨RX1, "<init>", "()V"⟩
theorem dX1_init_0 : decode cX1_init 0 = .ok (.aload_n 0, 1) := by decide +kernel
theorem dX1_init_1 : decode cX1_init 1 = .ok (.invokespecial 1, 3) := by decide +kernel
theorem dX1_init_4 : decode cX1_init 4 = .ok (.aload_n 0, 1) := by decide +kernel
theorem dX1_init_5 : decode cX1_init 5 = .ok (.iconst 1, 1) := by decide +kernel
theorem dX1_init_6 : decode cX1_init 6 = .ok (.putfield 7, 3) := by decide +kernel
theorem dX1_init_9 : decode cX1_init 9 = .ok (.return_, 1) := by decide +kernel
abbrev cX1_take : ByteArray := prog_3_method_2_code
def yX1_take : MethodName := ⟨RX1, "take", "(I)Z"⟩
theorem dX1_take_0 : decode cX1_take 0 = .ok (.iload_n 1, 1) := by decide +kernel
theorem dX1_take_1 : decode cX1_take 1 = .ok (.iconst 1, 1) := by decide +kernel
theorem dX1_take_2 : decode cX1_take 2 = .ok (.if_icmp .lt 10, 3) := by decide +kernel
theorem dX1_take_5 : decode cX1_take 5 = .ok (.iload_n 1, 1) := by decide +kernel
theorem dX1_take_6 : decode cX1_take 6 = .ok (.sipush 30000, 3) := by decide +kernel
theorem dX1_take_9 : decode cX1_take 9 = .ok (.if_icmp .le 5, 3) := by decide +kernel
theorem dX1_take_12 : decode cX1_take 12 = .ok (.iconst 0, 1) := by decide +kernel
theorem dX1_take_13 : decode cX1_take 13 = .ok (.ireturn, 1) := by decide +kernel
theorem dX1_take_14 : decode cX1_take 14 = .ok (.aload_n 0, 1) := by decide +kernel
theorem dX1_take_15 : decode cX1_take 15 = .ok (.iload_n 1, 1) := by decide +kernel
theorem dX1_take_16 : decode cX1_take 16 = .ok (.putfield 7, 3) := by decide +kernel
theorem dX1_take_19 : decode cX1_take 19 = .ok (.iconst 1, 1) := by decide +kernel
theorem dX1_take_20 : decode cX1_take 20 = .ok (.ireturn, 1) := by decide +kernel
abbrev cX1_isPrime : ByteArray := prog_3_method_4_code
def yX1_isPrime : MethodName := ⟨RX1, "isPrime", "()Z"⟩
theorem dX1_isPrime_0 : decode cX1_isPrime 0 = .ok (.aload_n 0, 1) := by decide +kernel
theorem dX1_isPrime_1 : decode cX1_isPrime 1 = .ok (.aload_n 0, 1) := by decide +kernel
theorem dX1_isPrime_2 : decode cX1_isPrime 2 = .ok (.getfield 7, 3) := by decide +kernel
theorem dX1_isPrime_5 : decode cX1_isPrime 5 = .ok (.invokevirtual 13, 3) := by decide +kernel
theorem dX1_isPrime_8 : decode cX1_isPrime 8 = .ok (.ireturn, 1) := by decide +kernel
abbrev cX1_prime : ByteArray := prog_3_method_3_code
def yX1_prime : MethodName := ⟨RX1, "prime", "(I)Z"⟩
theorem dX1_prime_0 : decode cX1_prime 0 = .ok (.iload_n 1, 1) := by decide +kernel
theorem dX1_prime_1 : decode cX1_prime 1 = .ok (.iconst 2, 1) := by decide +kernel
theorem dX1_prime_2 : decode cX1_prime 2 = .ok (.if_icmp .ge 5, 3) := by decide +kernel
theorem dX1_prime_5 : decode cX1_prime 5 = .ok (.iconst 0, 1) := by decide +kernel
theorem dX1_prime_6 : decode cX1_prime 6 = .ok (.ireturn, 1) := by decide +kernel
theorem dX1_prime_7 : decode cX1_prime 7 = .ok (.iconst 2, 1) := by decide +kernel
theorem dX1_prime_8 : decode cX1_prime 8 = .ok (.istore_n 2, 1) := by decide +kernel
theorem dX1_prime_9 : decode cX1_prime 9 = .ok (.iload_n 2, 1) := by decide +kernel
theorem dX1_prime_10 : decode cX1_prime 10 = .ok (.iload_n 2, 1) := by decide +kernel
theorem dX1_prime_11 : decode cX1_prime 11 = .ok (.imul, 1) := by decide +kernel
theorem dX1_prime_12 : decode cX1_prime 12 = .ok (.iload_n 1, 1) := by decide +kernel
theorem dX1_prime_13 : decode cX1_prime 13 = .ok (.if_icmp .gt 17, 3) := by decide +kernel
theorem dX1_prime_16 : decode cX1_prime 16 = .ok (.iload_n 1, 1) := by decide +kernel
theorem dX1_prime_17 : decode cX1_prime 17 = .ok (.iload_n 2, 1) := by decide +kernel
theorem dX1_prime_18 : decode cX1_prime 18 = .ok (.irem, 1) := by decide +kernel
theorem dX1_prime_19 : decode cX1_prime 19 = .ok (.ifCond .ne 5, 3) := by decide +kernel
theorem dX1_prime_22 : decode cX1_prime 22 = .ok (.iconst 0, 1) := by decide +kernel
theorem dX1_prime_23 : decode cX1_prime 23 = .ok (.ireturn, 1) := by decide +kernel
theorem dX1_prime_24 : decode cX1_prime 24 = .ok (.iinc 2 1, 3) := by decide +kernel
theorem dX1_prime_27 : decode cX1_prime 27 = .ok (.goto (-18), 3) := by decide +kernel
theorem dX1_prime_30 : decode cX1_prime 30 = .ok (.iconst 1, 1) := by decide +kernel
theorem dX1_prime_31 : decode cX1_prime 31 = .ok (.ireturn, 1) := by decide +kernel
abbrev cX1_factors : ByteArray := prog_3_method_5_code
def yX1_factors : MethodName := ⟨RX1, "factors", "()I"⟩
theorem dX1_factors_0 : decode cX1_factors 0 = .ok (.iconst 0, 1) := by decide +kernel
theorem dX1_factors_1 : decode cX1_factors 1 = .ok (.istore_n 1, 1) := by decide +kernel
theorem dX1_factors_2 : decode cX1_factors 2 = .ok (.aload_n 0, 1) := by decide +kernel
theorem dX1_factors_3 : decode cX1_factors 3 = .ok (.getfield 7, 3) := by decide +kernel
theorem dX1_factors_6 : decode cX1_factors 6 = .ok (.istore_n 2, 1) := by decide +kernel
theorem dX1_factors_7 : decode cX1_factors 7 = .ok (.iconst 2, 1) := by decide +kernel
theorem dX1_factors_8 : decode cX1_factors 8 = .ok (.istore_n 3, 1) := by decide +kernel
theorem dX1_factors_9 : decode cX1_factors 9 = .ok (.iload_n 3, 1) := by decide +kernel
theorem dX1_factors_10 : decode cX1_factors 10 = .ok (.iload_n 2, 1) := by decide +kernel
theorem dX1_factors_11 : decode cX1_factors 11 = .ok (.if_icmp .gt 25, 3) := by decide +kernel
theorem dX1_factors_14 : decode cX1_factors 14 = .ok (.iload_n 2, 1) := by decide +kernel
theorem dX1_factors_15 : decode cX1_factors 15 = .ok (.iload_n 3, 1) := by decide +kernel
theorem dX1_factors_16 : decode cX1_factors 16 = .ok (.irem, 1) := by decide +kernel
theorem dX1_factors_17 : decode cX1_factors 17 = .ok (.ifCond .ne 13, 3) := by decide +kernel
theorem dX1_factors_20 : decode cX1_factors 20 = .ok (.iload_n 2, 1) := by decide +kernel
theorem dX1_factors_21 : decode cX1_factors 21 = .ok (.iload_n 3, 1) := by decide +kernel
theorem dX1_factors_22 : decode cX1_factors 22 = .ok (.idiv, 1) := by decide +kernel
theorem dX1_factors_23 : decode cX1_factors 23 = .ok (.istore_n 2, 1) := by decide +kernel
theorem dX1_factors_24 : decode cX1_factors 24 = .ok (.iinc 1 1, 3) := by decide +kernel
theorem dX1_factors_27 : decode cX1_factors 27 = .ok (.goto (-13), 3) := by decide +kernel
theorem dX1_factors_30 : decode cX1_factors 30 = .ok (.iinc 3 1, 3) := by decide +kernel
theorem dX1_factors_33 : decode cX1_factors 33 = .ok (.goto (-24), 3) := by decide +kernel
theorem dX1_factors_36 : decode cX1_factors 36 = .ok (.iload_n 1, 1) := by decide +kernel
theorem dX1_factors_37 : decode cX1_factors 37 = .ok (.ireturn, 1) := by decide +kernel
abbrev cX1_factor : ByteArray := prog_3_method_6_code
def yX1_factor : MethodName := ⟨RX1, "factor", "(I)I"⟩
theorem dX1_factor_0 : decode cX1_factor 0 = .ok (.iconst 0, 1) := by decide +kernel
theorem dX1_factor_1 : decode cX1_factor 1 = .ok (.istore_n 2, 1) := by decide +kernel
theorem dX1_factor_2 : decode cX1_factor 2 = .ok (.aload_n 0, 1) := by decide +kernel
theorem dX1_factor_3 : decode cX1_factor 3 = .ok (.getfield 7, 3) := by decide +kernel
theorem dX1_factor_6 : decode cX1_factor 6 = .ok (.istore_n 3, 1) := by decide +kernel
theorem dX1_factor_7 : decode cX1_factor 7 = .ok (.iconst 2, 1) := by decide +kernel
theorem dX1_factor_8 : decode cX1_factor 8 = .ok (.istore 4, 2) := by decide +kernel
theorem dX1_factor_10 : decode cX1_factor 10 = .ok (.iload 4, 2) := by decide +kernel
theorem dX1_factor_12 : decode cX1_factor 12 = .ok (.iload_n 3, 1) := by decide +kernel
theorem dX1_factor_13 : decode cX1_factor 13 = .ok (.if_icmp .gt 35, 3) := by decide +kernel
theorem dX1_factor_16 : decode cX1_factor 16 = .ok (.iload_n 3, 1) := by decide +kernel
theorem dX1_factor_17 : decode cX1_factor 17 = .ok (.iload 4, 2) := by decide +kernel
theorem dX1_factor_19 : decode cX1_factor 19 = .ok (.irem, 1) := by decide +kernel
theorem dX1_factor_20 : decode cX1_factor 20 = .ok (.ifCond .ne 22, 3) := by decide +kernel
theorem dX1_factor_23 : decode cX1_factor 23 = .ok (.iload_n 2, 1) := by decide +kernel
theorem dX1_factor_24 : decode cX1_factor 24 = .ok (.iload_n 1, 1) := by decide +kernel
theorem dX1_factor_25 : decode cX1_factor 25 = .ok (.if_icmp .ne 6, 3) := by decide +kernel
theorem dX1_factor_28 : decode cX1_factor 28 = .ok (.iload 4, 2) := by decide +kernel
theorem dX1_factor_30 : decode cX1_factor 30 = .ok (.ireturn, 1) := by decide +kernel
theorem dX1_factor_31 : decode cX1_factor 31 = .ok (.iload_n 3, 1) := by decide +kernel
theorem dX1_factor_32 : decode cX1_factor 32 = .ok (.iload 4, 2) := by decide +kernel
theorem dX1_factor_34 : decode cX1_factor 34 = .ok (.idiv, 1) := by decide +kernel
theorem dX1_factor_35 : decode cX1_factor 35 = .ok (.istore_n 3, 1) := by decide +kernel
theorem dX1_factor_36 : decode cX1_factor 36 = .ok (.iinc 2 1, 3) := by decide +kernel
theorem dX1_factor_39 : decode cX1_factor 39 = .ok (.goto (-23), 3) := by decide +kernel
theorem dX1_factor_42 : decode cX1_factor 42 = .ok (.iinc 4 1, 3) := by decide +kernel
theorem dX1_factor_45 : decode cX1_factor 45 = .ok (.goto (-35), 3) := by decide +kernel
theorem dX1_factor_48 : decode cX1_factor 48 = .ok (.bipush (-2), 2) := by decide +kernel
theorem dX1_factor_50 : decode cX1_factor 50 = .ok (.ireturn, 1) := by decide +kernel
abbrev cX1_divisors : ByteArray := prog_3_method_7_code
def yX1_divisors : MethodName := ⟨RX1, "divisors", "()I"⟩
theorem dX1_divisors_0 : decode cX1_divisors 0 = .ok (.iconst 0, 1) := by decide +kernel
theorem dX1_divisors_1 : decode cX1_divisors 1 = .ok (.istore_n 1, 1) := by decide +kernel
theorem dX1_divisors_2 : decode cX1_divisors 2 = .ok (.iconst 1, 1) := by decide +kernel
theorem dX1_divisors_3 : decode cX1_divisors 3 = .ok (.istore_n 2, 1) := by decide +kernel
theorem dX1_divisors_4 : decode cX1_divisors 4 = .ok (.iload_n 2, 1) := by decide +kernel
theorem dX1_divisors_5 : decode cX1_divisors 5 = .ok (.aload_n 0, 1) := by decide +kernel
theorem dX1_divisors_6 : decode cX1_divisors 6 = .ok (.getfield 7, 3) := by decide +kernel
theorem dX1_divisors_9 : decode cX1_divisors 9 = .ok (.if_icmp .gt 21, 3) := by decide +kernel
theorem dX1_divisors_12 : decode cX1_divisors 12 = .ok (.aload_n 0, 1) := by decide +kernel
theorem dX1_divisors_13 : decode cX1_divisors 13 = .ok (.getfield 7, 3) := by decide +kernel
theorem dX1_divisors_16 : decode cX1_divisors 16 = .ok (.iload_n 2, 1) := by decide +kernel
theorem dX1_divisors_17 : decode cX1_divisors 17 = .ok (.irem, 1) := by decide +kernel
theorem dX1_divisors_18 : decode cX1_divisors 18 = .ok (.ifCond .ne 6, 3) := by decide +kernel
theorem dX1_divisors_21 : decode cX1_divisors 21 = .ok (.iinc 1 1, 3) := by decide +kernel
theorem dX1_divisors_24 : decode cX1_divisors 24 = .ok (.iinc 2 1, 3) := by decide +kernel
theorem dX1_divisors_27 : decode cX1_divisors 27 = .ok (.goto (-23), 3) := by decide +kernel
theorem dX1_divisors_30 : decode cX1_divisors 30 = .ok (.iload_n 1, 1) := by decide +kernel
theorem dX1_divisors_31 : decode cX1_divisors 31 = .ok (.ireturn, 1) := by decide +kernel
abbrev cX1_sum : ByteArray := prog_3_method_8_code
def yX1_sum : MethodName := ⟨RX1, "sum", "()I"⟩
theorem dX1_sum_0 : decode cX1_sum 0 = .ok (.iconst 0, 1) := by decide +kernel
theorem dX1_sum_1 : decode cX1_sum 1 = .ok (.istore_n 1, 1) := by decide +kernel
theorem dX1_sum_2 : decode cX1_sum 2 = .ok (.iconst 1, 1) := by decide +kernel
theorem dX1_sum_3 : decode cX1_sum 3 = .ok (.istore_n 2, 1) := by decide +kernel
theorem dX1_sum_4 : decode cX1_sum 4 = .ok (.iload_n 2, 1) := by decide +kernel
theorem dX1_sum_5 : decode cX1_sum 5 = .ok (.aload_n 0, 1) := by decide +kernel
theorem dX1_sum_6 : decode cX1_sum 6 = .ok (.getfield 7, 3) := by decide +kernel
theorem dX1_sum_9 : decode cX1_sum 9 = .ok (.if_icmp .gt 22, 3) := by decide +kernel
theorem dX1_sum_12 : decode cX1_sum 12 = .ok (.aload_n 0, 1) := by decide +kernel
theorem dX1_sum_13 : decode cX1_sum 13 = .ok (.getfield 7, 3) := by decide +kernel
theorem dX1_sum_16 : decode cX1_sum 16 = .ok (.iload_n 2, 1) := by decide +kernel
theorem dX1_sum_17 : decode cX1_sum 17 = .ok (.irem, 1) := by decide +kernel
theorem dX1_sum_18 : decode cX1_sum 18 = .ok (.ifCond .ne 7, 3) := by decide +kernel
theorem dX1_sum_21 : decode cX1_sum 21 = .ok (.iload_n 1, 1) := by decide +kernel
theorem dX1_sum_22 : decode cX1_sum 22 = .ok (.iload_n 2, 1) := by decide +kernel
theorem dX1_sum_23 : decode cX1_sum 23 = .ok (.iadd, 1) := by decide +kernel
theorem dX1_sum_24 : decode cX1_sum 24 = .ok (.istore_n 1, 1) := by decide +kernel
theorem dX1_sum_25 : decode cX1_sum 25 = .ok (.iinc 2 1, 3) := by decide +kernel
theorem dX1_sum_28 : decode cX1_sum 28 = .ok (.goto (-24), 3) := by decide +kernel
theorem dX1_sum_31 : decode cX1_sum 31 = .ok (.iload_n 1, 1) := by decide +kernel
theorem dX1_sum_32 : decode cX1_sum 32 = .ok (.ireturn, 1) := by decide +kernel
abbrev cX1_coprimes : ByteArray := prog_3_method_10_code
def yX1_coprimes : MethodName := ⟨RX1, "coprimes", "()I"⟩
theorem dX1_coprimes_0 : decode cX1_coprimes 0 = .ok (.iconst 0, 1) := by decide +kernel
theorem dX1_coprimes_1 : decode cX1_coprimes 1 = .ok (.istore_n 1, 1) := by decide +kernel
theorem dX1_coprimes_2 : decode cX1_coprimes 2 = .ok (.iconst 1, 1) := by decide +kernel
theorem dX1_coprimes_3 : decode cX1_coprimes 3 = .ok (.istore_n 2, 1) := by decide +kernel
theorem dX1_coprimes_4 : decode cX1_coprimes 4 = .ok (.iload_n 2, 1) := by decide +kernel
theorem dX1_coprimes_5 : decode cX1_coprimes 5 = .ok (.aload_n 0, 1) := by decide +kernel
theorem dX1_coprimes_6 : decode cX1_coprimes 6 = .ok (.getfield 7, 3) := by decide +kernel
theorem dX1_coprimes_9 : decode cX1_coprimes 9 = .ok (.if_icmp .gt 25, 3) := by decide +kernel
theorem dX1_coprimes_12 : decode cX1_coprimes 12 = .ok (.aload_n 0, 1) := by decide +kernel
theorem dX1_coprimes_13 : decode cX1_coprimes 13 = .ok (.iload_n 2, 1) := by decide +kernel
theorem dX1_coprimes_14 : decode cX1_coprimes 14 = .ok (.aload_n 0, 1) := by decide +kernel
theorem dX1_coprimes_15 : decode cX1_coprimes 15 = .ok (.getfield 7, 3) := by decide +kernel
theorem dX1_coprimes_18 : decode cX1_coprimes 18 = .ok (.invokevirtual 17, 3) := by decide +kernel
theorem dX1_coprimes_21 : decode cX1_coprimes 21 = .ok (.iconst 1, 1) := by decide +kernel
theorem dX1_coprimes_22 : decode cX1_coprimes 22 = .ok (.if_icmp .ne 6, 3) := by decide +kernel
theorem dX1_coprimes_25 : decode cX1_coprimes 25 = .ok (.iinc 1 1, 3) := by decide +kernel
theorem dX1_coprimes_28 : decode cX1_coprimes 28 = .ok (.iinc 2 1, 3) := by decide +kernel
theorem dX1_coprimes_31 : decode cX1_coprimes 31 = .ok (.goto (-27), 3) := by decide +kernel
theorem dX1_coprimes_34 : decode cX1_coprimes 34 = .ok (.iload_n 1, 1) := by decide +kernel
theorem dX1_coprimes_35 : decode cX1_coprimes 35 = .ok (.ireturn, 1) := by decide +kernel
abbrev cX1_common : ByteArray := prog_3_method_9_code
def yX1_common : MethodName := ⟨RX1, "common", "(II)I"⟩
theorem dX1_common_0 : decode cX1_common 0 = .ok (.iload_n 1, 1) := by decide +kernel
theorem dX1_common_1 : decode cX1_common 1 = .ok (.istore_n 3, 1) := by decide +kernel
theorem dX1_common_2 : decode cX1_common 2 = .ok (.iload_n 2, 1) := by decide +kernel
theorem dX1_common_3 : decode cX1_common 3 = .ok (.istore 4, 2) := by decide +kernel
theorem dX1_common_5 : decode cX1_common 5 = .ok (.iload_n 3, 1) := by decide +kernel
theorem dX1_common_6 : decode cX1_common 6 = .ok (.ifCond .eq 18, 3) := by decide +kernel
theorem dX1_common_9 : decode cX1_common 9 = .ok (.iload 4, 2) := by decide +kernel
theorem dX1_common_11 : decode cX1_common 11 = .ok (.iload_n 3, 1) := by decide +kernel
theorem dX1_common_12 : decode cX1_common 12 = .ok (.irem, 1) := by decide +kernel
theorem dX1_common_13 : decode cX1_common 13 = .ok (.istore 5, 2) := by decide +kernel
theorem dX1_common_15 : decode cX1_common 15 = .ok (.iload_n 3, 1) := by decide +kernel
theorem dX1_common_16 : decode cX1_common 16 = .ok (.istore 4, 2) := by decide +kernel
theorem dX1_common_18 : decode cX1_common 18 = .ok (.iload 5, 2) := by decide +kernel
theorem dX1_common_20 : decode cX1_common 20 = .ok (.istore_n 3, 1) := by decide +kernel
theorem dX1_common_21 : decode cX1_common 21 = .ok (.goto (-16), 3) := by decide +kernel
theorem dX1_common_24 : decode cX1_common 24 = .ok (.iload 4, 2) := by decide +kernel
theorem dX1_common_26 : decode cX1_common 26 = .ok (.ireturn, 1) := by decide +kernel
abbrev cX1_nextPrime : ByteArray := prog_3_method_11_code
def yX1_nextPrime : MethodName := ⟨RX1, "nextPrime", "()I"⟩
theorem dX1_nextPrime_0 : decode cX1_nextPrime 0 = .ok (.aload_n 0, 1) := by decide +kernel
theorem dX1_nextPrime_1 : decode cX1_nextPrime 1 = .ok (.getfield 7, 3) := by decide +kernel
theorem dX1_nextPrime_4 : decode cX1_nextPrime 4 = .ok (.iconst 1, 1) := by decide +kernel
theorem dX1_nextPrime_5 : decode cX1_nextPrime 5 = .ok (.iadd, 1) := by decide +kernel
theorem dX1_nextPrime_6 : decode cX1_nextPrime 6 = .ok (.istore_n 1, 1) := by decide +kernel
theorem dX1_nextPrime_7 : decode cX1_nextPrime 7 = .ok (.aload_n 0, 1) := by decide +kernel
theorem dX1_nextPrime_8 : decode cX1_nextPrime 8 = .ok (.iload_n 1, 1) := by decide +kernel
theorem dX1_nextPrime_9 : decode cX1_nextPrime 9 = .ok (.invokevirtual 13, 3) := by decide +kernel
theorem dX1_nextPrime_12 : decode cX1_nextPrime 12 = .ok (.ifCond .ne 9, 3) := by decide +kernel
theorem dX1_nextPrime_15 : decode cX1_nextPrime 15 = .ok (.iinc 1 1, 3) := by decide +kernel
theorem dX1_nextPrime_18 : decode cX1_nextPrime 18 = .ok (.goto (-11), 3) := by decide +kernel
theorem dX1_nextPrime_21 : decode cX1_nextPrime 21 = .ok (.iload_n 1, 1) := by decide +kernel
theorem dX1_nextPrime_22 : decode cX1_nextPrime 22 = .ok (.ireturn, 1) := by decide +kernel
abbrev cX1_power : ByteArray := prog_3_method_12_code
def yX1_power : MethodName := ⟨RX1, "power", "(II)I"⟩
theorem dX1_power_0 : decode cX1_power 0 = .ok (.iload_n 1, 1) := by decide +kernel
theorem dX1_power_1 : decode cX1_power 1 = .ok (.ifCond .lt 21, 3) := by decide +kernel
theorem dX1_power_4 : decode cX1_power 4 = .ok (.iload_n 1, 1) := by decide +kernel
theorem dX1_power_5 : decode cX1_power 5 = .ok (.sipush 30000, 3) := by decide +kernel
theorem dX1_power_8 : decode cX1_power 8 = .ok (.if_icmp .gt 14, 3) := by decide +kernel
theorem dX1_power_11 : decode cX1_power 11 = .ok (.iload_n 2, 1) := by decide +kernel
theorem dX1_power_12 : decode cX1_power 12 = .ok (.ifCond .lt 10, 3) := by decide +kernel
theorem dX1_power_15 : decode cX1_power 15 = .ok (.iload_n 2, 1) := by decide +kernel
theorem dX1_power_16 : decode cX1_power 16 = .ok (.sipush 30000, 3) := by decide +kernel
theorem dX1_power_19 : decode cX1_power 19 = .ok (.if_icmp .le 5, 3) := by decide +kernel
theorem dX1_power_22 : decode cX1_power 22 = .ok (.iconst (-1), 1) := by decide +kernel
theorem dX1_power_23 : decode cX1_power 23 = .ok (.ireturn, 1) := by decide +kernel
theorem dX1_power_24 : decode cX1_power 24 = .ok (.iconst 1, 1) := by decide +kernel
theorem dX1_power_25 : decode cX1_power 25 = .ok (.aload_n 0, 1) := by decide +kernel
theorem dX1_power_26 : decode cX1_power 26 = .ok (.getfield 7, 3) := by decide +kernel
theorem dX1_power_29 : decode cX1_power 29 = .ok (.irem, 1) := by decide +kernel
theorem dX1_power_30 : decode cX1_power 30 = .ok (.istore_n 3, 1) := by decide +kernel
theorem dX1_power_31 : decode cX1_power 31 = .ok (.iconst 0, 1) := by decide +kernel
theorem dX1_power_32 : decode cX1_power 32 = .ok (.istore 4, 2) := by decide +kernel
theorem dX1_power_34 : decode cX1_power 34 = .ok (.iload 4, 2) := by decide +kernel
theorem dX1_power_36 : decode cX1_power 36 = .ok (.iload_n 2, 1) := by decide +kernel
theorem dX1_power_37 : decode cX1_power 37 = .ok (.if_icmp .ge 23, 3) := by decide +kernel
theorem dX1_power_40 : decode cX1_power 40 = .ok (.iload_n 3, 1) := by decide +kernel
theorem dX1_power_41 : decode cX1_power 41 = .ok (.iload_n 1, 1) := by decide +kernel
theorem dX1_power_42 : decode cX1_power 42 = .ok (.aload_n 0, 1) := by decide +kernel
theorem dX1_power_43 : decode cX1_power 43 = .ok (.getfield 7, 3) := by decide +kernel
theorem dX1_power_46 : decode cX1_power 46 = .ok (.irem, 1) := by decide +kernel
theorem dX1_power_47 : decode cX1_power 47 = .ok (.imul, 1) := by decide +kernel
theorem dX1_power_48 : decode cX1_power 48 = .ok (.aload_n 0, 1) := by decide +kernel
theorem dX1_power_49 : decode cX1_power 49 = .ok (.getfield 7, 3) := by decide +kernel
theorem dX1_power_52 : decode cX1_power 52 = .ok (.irem, 1) := by decide +kernel
theorem dX1_power_53 : decode cX1_power 53 = .ok (.istore_n 3, 1) := by decide +kernel
theorem dX1_power_54 : decode cX1_power 54 = .ok (.iinc 4 1, 3) := by decide +kernel
theorem dX1_power_57 : decode cX1_power 57 = .ok (.goto (-23), 3) := by decide +kernel
theorem dX1_power_60 : decode cX1_power 60 = .ok (.iload_n 3, 1) := by decide +kernel
theorem dX1_power_61 : decode cX1_power 61 = .ok (.ireturn, 1) := by decide +kernel
abbrev cX1_order : ByteArray := prog_3_method_14_code
def yX1_order : MethodName := ⟨RX1, "order", "(I)I"⟩
theorem dX1_order_0 : decode cX1_order 0 = .ok (.iload_n 1, 1) := by decide +kernel
theorem dX1_order_1 : decode cX1_order 1 = .ok (.iconst 1, 1) := by decide +kernel
theorem dX1_order_2 : decode cX1_order 2 = .ok (.if_icmp .lt 10, 3) := by decide +kernel
theorem dX1_order_5 : decode cX1_order 5 = .ok (.iload_n 1, 1) := by decide +kernel
theorem dX1_order_6 : decode cX1_order 6 = .ok (.sipush 30000, 3) := by decide +kernel
theorem dX1_order_9 : decode cX1_order 9 = .ok (.if_icmp .le 5, 3) := by decide +kernel
theorem dX1_order_12 : decode cX1_order 12 = .ok (.iconst (-1), 1) := by decide +kernel
theorem dX1_order_13 : decode cX1_order 13 = .ok (.ireturn, 1) := by decide +kernel
theorem dX1_order_14 : decode cX1_order 14 = .ok (.aload_n 0, 1) := by decide +kernel
theorem dX1_order_15 : decode cX1_order 15 = .ok (.getfield 7, 3) := by decide +kernel
theorem dX1_order_18 : decode cX1_order 18 = .ok (.iconst 1, 1) := by decide +kernel
theorem dX1_order_19 : decode cX1_order 19 = .ok (.if_icmp .eq 16, 3) := by decide +kernel
theorem dX1_order_22 : decode cX1_order 22 = .ok (.aload_n 0, 1) := by decide +kernel
theorem dX1_order_23 : decode cX1_order 23 = .ok (.iload_n 1, 1) := by decide +kernel
theorem dX1_order_24 : decode cX1_order 24 = .ok (.aload_n 0, 1) := by decide +kernel
theorem dX1_order_25 : decode cX1_order 25 = .ok (.getfield 7, 3) := by decide +kernel
theorem dX1_order_28 : decode cX1_order 28 = .ok (.invokevirtual 17, 3) := by decide +kernel
theorem dX1_order_31 : decode cX1_order 31 = .ok (.iconst 1, 1) := by decide +kernel
theorem dX1_order_32 : decode cX1_order 32 = .ok (.if_icmp .eq 8, 3) := by decide +kernel
theorem dX1_order_35 : decode cX1_order 35 = .ok (.bipush (-2), 2) := by decide +kernel
theorem dX1_order_37 : decode cX1_order 37 = .ok (.goto 8, 3) := by decide +kernel
theorem dX1_order_40 : decode cX1_order 40 = .ok (.aload_n 0, 1) := by decide +kernel
theorem dX1_order_41 : decode cX1_order 41 = .ok (.iload_n 1, 1) := by decide +kernel
theorem dX1_order_42 : decode cX1_order 42 = .ok (.invokevirtual 21, 3) := by decide +kernel
theorem dX1_order_45 : decode cX1_order 45 = .ok (.ireturn, 1) := by decide +kernel
abbrev cX1_orderOf : ByteArray := prog_3_method_13_code
def yX1_orderOf : MethodName := ⟨RX1, "orderOf", "(I)I"⟩
theorem dX1_orderOf_0 : decode cX1_orderOf 0 = .ok (.iload_n 1, 1) := by decide +kernel
theorem dX1_orderOf_1 : decode cX1_orderOf 1 = .ok (.aload_n 0, 1) := by decide +kernel
theorem dX1_orderOf_2 : decode cX1_orderOf 2 = .ok (.getfield 7, 3) := by decide +kernel
theorem dX1_orderOf_5 : decode cX1_orderOf 5 = .ok (.irem, 1) := by decide +kernel
theorem dX1_orderOf_6 : decode cX1_orderOf 6 = .ok (.istore_n 2, 1) := by decide +kernel
theorem dX1_orderOf_7 : decode cX1_orderOf 7 = .ok (.iconst 1, 1) := by decide +kernel
theorem dX1_orderOf_8 : decode cX1_orderOf 8 = .ok (.istore_n 3, 1) := by decide +kernel
theorem dX1_orderOf_9 : decode cX1_orderOf 9 = .ok (.iload_n 2, 1) := by decide +kernel
theorem dX1_orderOf_10 : decode cX1_orderOf 10 = .ok (.iconst 1, 1) := by decide +kernel
theorem dX1_orderOf_11 : decode cX1_orderOf 11 = .ok (.if_icmp .eq 23, 3) := by decide +kernel
theorem dX1_orderOf_14 : decode cX1_orderOf 14 = .ok (.iload_n 2, 1) := by decide +kernel
theorem dX1_orderOf_15 : decode cX1_orderOf 15 = .ok (.iload_n 1, 1) := by decide +kernel
theorem dX1_orderOf_16 : decode cX1_orderOf 16 = .ok (.aload_n 0, 1) := by decide +kernel
theorem dX1_orderOf_17 : decode cX1_orderOf 17 = .ok (.getfield 7, 3) := by decide +kernel
theorem dX1_orderOf_20 : decode cX1_orderOf 20 = .ok (.irem, 1) := by decide +kernel
theorem dX1_orderOf_21 : decode cX1_orderOf 21 = .ok (.imul, 1) := by decide +kernel
theorem dX1_orderOf_22 : decode cX1_orderOf 22 = .ok (.aload_n 0, 1) := by decide +kernel
theorem dX1_orderOf_23 : decode cX1_orderOf 23 = .ok (.getfield 7, 3) := by decide +kernel
theorem dX1_orderOf_26 : decode cX1_orderOf 26 = .ok (.irem, 1) := by decide +kernel
theorem dX1_orderOf_27 : decode cX1_orderOf 27 = .ok (.istore_n 2, 1) := by decide +kernel
theorem dX1_orderOf_28 : decode cX1_orderOf 28 = .ok (.iinc 3 1, 3) := by decide +kernel
theorem dX1_orderOf_31 : decode cX1_orderOf 31 = .ok (.goto (-22), 3) := by decide +kernel
theorem dX1_orderOf_34 : decode cX1_orderOf 34 = .ok (.iload_n 3, 1) := by decide +kernel
theorem dX1_orderOf_35 : decode cX1_orderOf 35 = .ok (.ireturn, 1) := by decide +kernel
abbrev cX1_root : ByteArray := prog_3_method_15_code
def yX1_root : MethodName := ⟨RX1, "root", "(I)I"⟩
theorem dX1_root_0 : decode cX1_root 0 = .ok (.iload_n 1, 1) := by decide +kernel
theorem dX1_root_1 : decode cX1_root 1 = .ok (.ifCond .lt 10, 3) := by decide +kernel
theorem dX1_root_4 : decode cX1_root 4 = .ok (.iload_n 1, 1) := by decide +kernel
theorem dX1_root_5 : decode cX1_root 5 = .ok (.sipush 30000, 3) := by decide +kernel
theorem dX1_root_8 : decode cX1_root 8 = .ok (.if_icmp .le 5, 3) := by decide +kernel
theorem dX1_root_11 : decode cX1_root 11 = .ok (.iconst (-1), 1) := by decide +kernel
theorem dX1_root_12 : decode cX1_root 12 = .ok (.ireturn, 1) := by decide +kernel
theorem dX1_root_13 : decode cX1_root 13 = .ok (.iconst 0, 1) := by decide +kernel
theorem dX1_root_14 : decode cX1_root 14 = .ok (.istore_n 2, 1) := by decide +kernel
theorem dX1_root_15 : decode cX1_root 15 = .ok (.iload_n 2, 1) := by decide +kernel
theorem dX1_root_16 : decode cX1_root 16 = .ok (.aload_n 0, 1) := by decide +kernel
theorem dX1_root_17 : decode cX1_root 17 = .ok (.getfield 7, 3) := by decide +kernel
theorem dX1_root_20 : decode cX1_root 20 = .ok (.if_icmp .ge 39, 3) := by decide +kernel
theorem dX1_root_23 : decode cX1_root 23 = .ok (.aload_n 0, 1) := by decide +kernel
theorem dX1_root_24 : decode cX1_root 24 = .ok (.aload_n 0, 1) := by decide +kernel
theorem dX1_root_25 : decode cX1_root 25 = .ok (.getfield 7, 3) := by decide +kernel
theorem dX1_root_28 : decode cX1_root 28 = .ok (.invokevirtual 13, 3) := by decide +kernel
theorem dX1_root_31 : decode cX1_root 31 = .ok (.ifCond .eq 28, 3) := by decide +kernel
theorem dX1_root_34 : decode cX1_root 34 = .ok (.iload_n 2, 1) := by decide +kernel
theorem dX1_root_35 : decode cX1_root 35 = .ok (.iload_n 2, 1) := by decide +kernel
theorem dX1_root_36 : decode cX1_root 36 = .ok (.imul, 1) := by decide +kernel
theorem dX1_root_37 : decode cX1_root 37 = .ok (.aload_n 0, 1) := by decide +kernel
theorem dX1_root_38 : decode cX1_root 38 = .ok (.getfield 7, 3) := by decide +kernel
theorem dX1_root_41 : decode cX1_root 41 = .ok (.irem, 1) := by decide +kernel
theorem dX1_root_42 : decode cX1_root 42 = .ok (.iload_n 1, 1) := by decide +kernel
theorem dX1_root_43 : decode cX1_root 43 = .ok (.aload_n 0, 1) := by decide +kernel
theorem dX1_root_44 : decode cX1_root 44 = .ok (.getfield 7, 3) := by decide +kernel
theorem dX1_root_47 : decode cX1_root 47 = .ok (.irem, 1) := by decide +kernel
theorem dX1_root_48 : decode cX1_root 48 = .ok (.if_icmp .ne 5, 3) := by decide +kernel
theorem dX1_root_51 : decode cX1_root 51 = .ok (.iload_n 2, 1) := by decide +kernel
theorem dX1_root_52 : decode cX1_root 52 = .ok (.ireturn, 1) := by decide +kernel
theorem dX1_root_53 : decode cX1_root 53 = .ok (.iinc 2 1, 3) := by decide +kernel
theorem dX1_root_56 : decode cX1_root 56 = .ok (.goto (-41), 3) := by decide +kernel
theorem dX1_root_59 : decode cX1_root 59 = .ok (.bipush (-2), 2) := by decide +kernel
theorem dX1_root_61 : decode cX1_root 61 = .ok (.ireturn, 1) := by decide +kernel
abbrev cX1_generator : ByteArray := prog_3_method_16_code
def yX1_generator : MethodName := ⟨RX1, "generator", "()I"⟩
theorem dX1_generator_0 : decode cX1_generator 0 = .ok (.aload_n 0, 1) := by decide +kernel
theorem dX1_generator_1 : decode cX1_generator 1 = .ok (.aload_n 0, 1) := by decide +kernel
theorem dX1_generator_2 : decode cX1_generator 2 = .ok (.getfield 7, 3) := by decide +kernel
theorem dX1_generator_5 : decode cX1_generator 5 = .ok (.invokevirtual 13, 3) := by decide +kernel
theorem dX1_generator_8 : decode cX1_generator 8 = .ok (.ifCond .ne 6, 3) := by decide +kernel
theorem dX1_generator_11 : decode cX1_generator 11 = .ok (.bipush (-2), 2) := by decide +kernel
theorem dX1_generator_13 : decode cX1_generator 13 = .ok (.ireturn, 1) := by decide +kernel
theorem dX1_generator_14 : decode cX1_generator 14 = .ok (.iconst 1, 1) := by decide +kernel
theorem dX1_generator_15 : decode cX1_generator 15 = .ok (.istore_n 1, 1) := by decide +kernel
theorem dX1_generator_16 : decode cX1_generator 16 = .ok (.aload_n 0, 1) := by decide +kernel
theorem dX1_generator_17 : decode cX1_generator 17 = .ok (.iload_n 1, 1) := by decide +kernel
theorem dX1_generator_18 : decode cX1_generator 18 = .ok (.invokevirtual 21, 3) := by decide +kernel
theorem dX1_generator_21 : decode cX1_generator 21 = .ok (.aload_n 0, 1) := by decide +kernel
theorem dX1_generator_22 : decode cX1_generator 22 = .ok (.getfield 7, 3) := by decide +kernel
theorem dX1_generator_25 : decode cX1_generator 25 = .ok (.iconst 1, 1) := by decide +kernel
theorem dX1_generator_26 : decode cX1_generator 26 = .ok (.isub, 1) := by decide +kernel
theorem dX1_generator_27 : decode cX1_generator 27 = .ok (.if_icmp .eq 9, 3) := by decide +kernel
theorem dX1_generator_30 : decode cX1_generator 30 = .ok (.iinc 1 1, 3) := by decide +kernel
theorem dX1_generator_33 : decode cX1_generator 33 = .ok (.goto (-17), 3) := by decide +kernel
theorem dX1_generator_36 : decode cX1_generator 36 = .ok (.iload_n 1, 1) := by decide +kernel
theorem dX1_generator_37 : decode cX1_generator 37 = .ok (.ireturn, 1) := by decide +kernel
theorem q18 : (Jvm.Cond.initialized "PrimeDeskModel") ∈ lw_all := lw_g (lw_at lw_m0 2 rfl) rfl
theorem q149 : (Jvm.Cond.instantiable "PrimeDeskModel" (1 : Nat)) ∈ lw_all := lw_g (lw_at lw_m0 133 rfl) rfl
theorem q151 : (Jvm.Cond.instanceMethod ({ cls := "PrimeDeskModel", name := "<init>", desc := "()V" } : Jvm.MethodName)) ∈ lw_all := lw_g (lw_at lw_m0 135 rfl) rfl
theorem q152 : (Jvm.Cond.code ({ cls := "PrimeDeskModel", name := "<init>", desc := "()V" } : Jvm.MethodName) prog_3_method_1_code (1 : Nat) (Option.none : Option Jvm.ClassFile.FieldType)) ∈ lw_all := lw_g (lw_at lw_m0 136 rfl) rfl
theorem q153 : (Jvm.Cond.methodLink "PrimeDeskModel" (1 : Nat) ({ cls := "java/lang/Object", name := "<init>", desc := "()V" } : Jvm.MethodName)) ∈ lw_all := lw_g (lw_at lw_m0 137 rfl) rfl
theorem q154 : (Jvm.Cond.fieldLink "PrimeDeskModel" (7 : Nat) "PrimeDeskModel" "hand" "I") ∈ lw_all := lw_g (lw_at lw_m0 138 rfl) rfl
theorem q155 : (Jvm.Cond.lays "PrimeDeskModel" "PrimeDeskModel" "hand" "I") ∈ lw_all := lw_g (lw_at lw_m0 139 rfl) rfl
theorem q156 : (Jvm.Cond.soleField "PrimeDeskModel" "hand") ∈ lw_all := lw_g (lw_at lw_m0 140 rfl) rfl
theorem q157 : (Jvm.Cond.superclass "PrimeDeskModel" "java/lang/Object") ∈ lw_all := lw_g (lw_at lw_m0 141 rfl) rfl
theorem q159 : (Jvm.Cond.instanceMethod ({ cls := "PrimeDeskModel", name := "take", desc := "(I)Z" } : Jvm.MethodName)) ∈ lw_all := lw_g (lw_at lw_m0 143 rfl) rfl
theorem q160 : (Jvm.Cond.selects "PrimeDeskModel" ({ cls := "PrimeDeskModel", name := "take", desc := "(I)Z" } : Jvm.MethodName) ({ cls := "PrimeDeskModel", name := "take", desc := "(I)Z" } : Jvm.MethodName)) ∈ lw_all := lw_g (lw_at lw_m0 144 rfl) rfl
theorem q161 : (Jvm.Cond.code ({ cls := "PrimeDeskModel", name := "take", desc := "(I)Z" } : Jvm.MethodName) prog_3_method_2_code (2 : Nat) (Option.some Jvm.ClassFile.FieldType.boolean)) ∈ lw_all := lw_g (lw_at lw_m0 145 rfl) rfl
theorem q163 : (Jvm.Cond.instanceMethod ({ cls := "PrimeDeskModel", name := "isPrime", desc := "()Z" } : Jvm.MethodName)) ∈ lw_all := lw_g (lw_at lw_m0 147 rfl) rfl
theorem q164 : (Jvm.Cond.selects "PrimeDeskModel" ({ cls := "PrimeDeskModel", name := "isPrime", desc := "()Z" } : Jvm.MethodName) ({ cls := "PrimeDeskModel", name := "isPrime", desc := "()Z" } : Jvm.MethodName)) ∈ lw_all := lw_g (lw_at lw_m0 148 rfl) rfl
theorem q165 : (Jvm.Cond.code ({ cls := "PrimeDeskModel", name := "isPrime", desc := "()Z" } : Jvm.MethodName) prog_3_method_4_code (1 : Nat) (Option.some Jvm.ClassFile.FieldType.boolean)) ∈ lw_all := lw_g (lw_at lw_m0 149 rfl) rfl
theorem q166 : (Jvm.Cond.methodLink "PrimeDeskModel" (13 : Nat) ({ cls := "PrimeDeskModel", name := "prime", desc := "(I)Z" } : Jvm.MethodName)) ∈ lw_all := lw_g (lw_at lw_m0 150 rfl) rfl
theorem q167 : (Jvm.Cond.privateMethod ({ cls := "PrimeDeskModel", name := "prime", desc := "(I)Z" } : Jvm.MethodName)) ∈ lw_tbl := lw_at lw_m0 151 rfl
theorem q168 : (Jvm.Cond.instanceMethod ({ cls := "PrimeDeskModel", name := "prime", desc := "(I)Z" } : Jvm.MethodName)) ∈ lw_all := lw_g (lw_at lw_m0 152 rfl) rfl
theorem q169 : (Jvm.Cond.code ({ cls := "PrimeDeskModel", name := "prime", desc := "(I)Z" } : Jvm.MethodName) prog_3_method_3_code (3 : Nat) (Option.some Jvm.ClassFile.FieldType.boolean)) ∈ lw_all := lw_g (lw_at lw_m0 153 rfl) rfl
theorem q171 : (Jvm.Cond.instanceMethod ({ cls := "PrimeDeskModel", name := "factors", desc := "()I" } : Jvm.MethodName)) ∈ lw_all := lw_g (lw_at lw_m0 155 rfl) rfl
theorem q172 : (Jvm.Cond.selects "PrimeDeskModel" ({ cls := "PrimeDeskModel", name := "factors", desc := "()I" } : Jvm.MethodName) ({ cls := "PrimeDeskModel", name := "factors", desc := "()I" } : Jvm.MethodName)) ∈ lw_all := lw_g (lw_at lw_m0 156 rfl) rfl
theorem q173 : (Jvm.Cond.code ({ cls := "PrimeDeskModel", name := "factors", desc := "()I" } : Jvm.MethodName) prog_3_method_5_code (4 : Nat) (Option.some Jvm.ClassFile.FieldType.int)) ∈ lw_all := lw_g (lw_at lw_m0 157 rfl) rfl
theorem q175 : (Jvm.Cond.instanceMethod ({ cls := "PrimeDeskModel", name := "factor", desc := "(I)I" } : Jvm.MethodName)) ∈ lw_all := lw_g (lw_at lw_m0 159 rfl) rfl
theorem q176 : (Jvm.Cond.selects "PrimeDeskModel" ({ cls := "PrimeDeskModel", name := "factor", desc := "(I)I" } : Jvm.MethodName) ({ cls := "PrimeDeskModel", name := "factor", desc := "(I)I" } : Jvm.MethodName)) ∈ lw_all := lw_g (lw_at lw_m0 160 rfl) rfl
theorem q177 : (Jvm.Cond.code ({ cls := "PrimeDeskModel", name := "factor", desc := "(I)I" } : Jvm.MethodName) prog_3_method_6_code (5 : Nat) (Option.some Jvm.ClassFile.FieldType.int)) ∈ lw_all := lw_g (lw_at lw_m0 161 rfl) rfl
theorem q179 : (Jvm.Cond.instanceMethod ({ cls := "PrimeDeskModel", name := "divisors", desc := "()I" } : Jvm.MethodName)) ∈ lw_all := lw_g (lw_at lw_m0 163 rfl) rfl
theorem q180 : (Jvm.Cond.selects "PrimeDeskModel" ({ cls := "PrimeDeskModel", name := "divisors", desc := "()I" } : Jvm.MethodName) ({ cls := "PrimeDeskModel", name := "divisors", desc := "()I" } : Jvm.MethodName)) ∈ lw_all := lw_g (lw_at lw_m0 164 rfl) rfl
theorem q181 : (Jvm.Cond.code ({ cls := "PrimeDeskModel", name := "divisors", desc := "()I" } : Jvm.MethodName) prog_3_method_7_code (3 : Nat) (Option.some Jvm.ClassFile.FieldType.int)) ∈ lw_all := lw_g (lw_at lw_m0 165 rfl) rfl
theorem q183 : (Jvm.Cond.instanceMethod ({ cls := "PrimeDeskModel", name := "sum", desc := "()I" } : Jvm.MethodName)) ∈ lw_all := lw_g (lw_at lw_m0 167 rfl) rfl
theorem q184 : (Jvm.Cond.selects "PrimeDeskModel" ({ cls := "PrimeDeskModel", name := "sum", desc := "()I" } : Jvm.MethodName) ({ cls := "PrimeDeskModel", name := "sum", desc := "()I" } : Jvm.MethodName)) ∈ lw_all := lw_g (lw_at lw_m0 168 rfl) rfl
theorem q185 : (Jvm.Cond.code ({ cls := "PrimeDeskModel", name := "sum", desc := "()I" } : Jvm.MethodName) prog_3_method_8_code (3 : Nat) (Option.some Jvm.ClassFile.FieldType.int)) ∈ lw_all := lw_g (lw_at lw_m0 169 rfl) rfl
theorem q187 : (Jvm.Cond.instanceMethod ({ cls := "PrimeDeskModel", name := "coprimes", desc := "()I" } : Jvm.MethodName)) ∈ lw_all := lw_g (lw_at lw_m0 171 rfl) rfl
theorem q188 : (Jvm.Cond.selects "PrimeDeskModel" ({ cls := "PrimeDeskModel", name := "coprimes", desc := "()I" } : Jvm.MethodName) ({ cls := "PrimeDeskModel", name := "coprimes", desc := "()I" } : Jvm.MethodName)) ∈ lw_all := lw_g (lw_at lw_m0 172 rfl) rfl
theorem q189 : (Jvm.Cond.code ({ cls := "PrimeDeskModel", name := "coprimes", desc := "()I" } : Jvm.MethodName) prog_3_method_10_code (3 : Nat) (Option.some Jvm.ClassFile.FieldType.int)) ∈ lw_all := lw_g (lw_at lw_m0 173 rfl) rfl
theorem q190 : (Jvm.Cond.methodLink "PrimeDeskModel" (17 : Nat) ({ cls := "PrimeDeskModel", name := "common", desc := "(II)I" } : Jvm.MethodName)) ∈ lw_all := lw_g (lw_at lw_m0 174 rfl) rfl
theorem q191 : (Jvm.Cond.privateMethod ({ cls := "PrimeDeskModel", name := "common", desc := "(II)I" } : Jvm.MethodName)) ∈ lw_tbl := lw_at lw_m0 175 rfl
theorem q192 : (Jvm.Cond.instanceMethod ({ cls := "PrimeDeskModel", name := "common", desc := "(II)I" } : Jvm.MethodName)) ∈ lw_all := lw_g (lw_at lw_m0 176 rfl) rfl
theorem q193 : (Jvm.Cond.code ({ cls := "PrimeDeskModel", name := "common", desc := "(II)I" } : Jvm.MethodName) prog_3_method_9_code (6 : Nat) (Option.some Jvm.ClassFile.FieldType.int)) ∈ lw_all := lw_g (lw_at lw_m0 177 rfl) rfl
theorem q195 : (Jvm.Cond.instanceMethod ({ cls := "PrimeDeskModel", name := "nextPrime", desc := "()I" } : Jvm.MethodName)) ∈ lw_all := lw_g (lw_at lw_m0 179 rfl) rfl
theorem q196 : (Jvm.Cond.selects "PrimeDeskModel" ({ cls := "PrimeDeskModel", name := "nextPrime", desc := "()I" } : Jvm.MethodName) ({ cls := "PrimeDeskModel", name := "nextPrime", desc := "()I" } : Jvm.MethodName)) ∈ lw_all := lw_g (lw_at lw_m0 180 rfl) rfl
theorem q197 : (Jvm.Cond.code ({ cls := "PrimeDeskModel", name := "nextPrime", desc := "()I" } : Jvm.MethodName) prog_3_method_11_code (2 : Nat) (Option.some Jvm.ClassFile.FieldType.int)) ∈ lw_all := lw_g (lw_at lw_m0 181 rfl) rfl
theorem q199 : (Jvm.Cond.instanceMethod ({ cls := "PrimeDeskModel", name := "power", desc := "(II)I" } : Jvm.MethodName)) ∈ lw_all := lw_g (lw_at lw_m0 183 rfl) rfl
theorem q200 : (Jvm.Cond.selects "PrimeDeskModel" ({ cls := "PrimeDeskModel", name := "power", desc := "(II)I" } : Jvm.MethodName) ({ cls := "PrimeDeskModel", name := "power", desc := "(II)I" } : Jvm.MethodName)) ∈ lw_all := lw_g (lw_at lw_m0 184 rfl) rfl
theorem q201 : (Jvm.Cond.code ({ cls := "PrimeDeskModel", name := "power", desc := "(II)I" } : Jvm.MethodName) prog_3_method_12_code (5 : Nat) (Option.some Jvm.ClassFile.FieldType.int)) ∈ lw_all := lw_g (lw_at lw_m0 185 rfl) rfl
theorem q203 : (Jvm.Cond.instanceMethod ({ cls := "PrimeDeskModel", name := "order", desc := "(I)I" } : Jvm.MethodName)) ∈ lw_all := lw_g (lw_at lw_m0 187 rfl) rfl
theorem q204 : (Jvm.Cond.selects "PrimeDeskModel" ({ cls := "PrimeDeskModel", name := "order", desc := "(I)I" } : Jvm.MethodName) ({ cls := "PrimeDeskModel", name := "order", desc := "(I)I" } : Jvm.MethodName)) ∈ lw_all := lw_g (lw_at lw_m0 188 rfl) rfl
theorem q205 : (Jvm.Cond.code ({ cls := "PrimeDeskModel", name := "order", desc := "(I)I" } : Jvm.MethodName) prog_3_method_14_code (2 : Nat) (Option.some Jvm.ClassFile.FieldType.int)) ∈ lw_all := lw_g (lw_at lw_m0 189 rfl) rfl
theorem q206 : (Jvm.Cond.methodLink "PrimeDeskModel" (21 : Nat) ({ cls := "PrimeDeskModel", name := "orderOf", desc := "(I)I" } : Jvm.MethodName)) ∈ lw_all := lw_g (lw_at lw_m0 190 rfl) rfl
theorem q207 : (Jvm.Cond.privateMethod ({ cls := "PrimeDeskModel", name := "orderOf", desc := "(I)I" } : Jvm.MethodName)) ∈ lw_tbl := lw_at lw_m0 191 rfl
theorem q208 : (Jvm.Cond.instanceMethod ({ cls := "PrimeDeskModel", name := "orderOf", desc := "(I)I" } : Jvm.MethodName)) ∈ lw_all := lw_g (lw_at lw_m0 192 rfl) rfl
theorem q209 : (Jvm.Cond.code ({ cls := "PrimeDeskModel", name := "orderOf", desc := "(I)I" } : Jvm.MethodName) prog_3_method_13_code (4 : Nat) (Option.some Jvm.ClassFile.FieldType.int)) ∈ lw_all := lw_g (lw_at lw_m0 193 rfl) rfl
theorem q211 : (Jvm.Cond.instanceMethod ({ cls := "PrimeDeskModel", name := "root", desc := "(I)I" } : Jvm.MethodName)) ∈ lw_all := lw_g (lw_at lw_m0 195 rfl) rfl
theorem q212 : (Jvm.Cond.selects "PrimeDeskModel" ({ cls := "PrimeDeskModel", name := "root", desc := "(I)I" } : Jvm.MethodName) ({ cls := "PrimeDeskModel", name := "root", desc := "(I)I" } : Jvm.MethodName)) ∈ lw_all := lw_g (lw_at lw_m0 196 rfl) rfl
theorem q213 : (Jvm.Cond.code ({ cls := "PrimeDeskModel", name := "root", desc := "(I)I" } : Jvm.MethodName) prog_3_method_15_code (3 : Nat) (Option.some Jvm.ClassFile.FieldType.int)) ∈ lw_all := lw_g (lw_at lw_m0 197 rfl) rfl
theorem q215 : (Jvm.Cond.instanceMethod ({ cls := "PrimeDeskModel", name := "generator", desc := "()I" } : Jvm.MethodName)) ∈ lw_all := lw_g (lw_at lw_m0 199 rfl) rfl
theorem q216 : (Jvm.Cond.selects "PrimeDeskModel" ({ cls := "PrimeDeskModel", name := "generator", desc := "()I" } : Jvm.MethodName) ({ cls := "PrimeDeskModel", name := "generator", desc := "()I" } : Jvm.MethodName)) ∈ lw_all := lw_g (lw_at lw_m0 200 rfl) rfl
theorem q217 : (Jvm.Cond.code ({ cls := "PrimeDeskModel", name := "generator", desc := "()I" } : Jvm.MethodName) prog_3_method_16_code (2 : Nat) (Option.some Jvm.ClassFile.FieldType.int)) ∈ lw_all := lw_g (lw_at lw_m0 201 rfl) rfl
theorem in_X1 : ∀ w ∈ wsX10, w ∈ lw_all := lw_in wsX10 [155] (by decide +kernel) (by decide +kernel)
/-! java/lang/Object -/
set_option maxRecDepth 100000
def RJ0 : String := "java/lang/Object"
abbrev cJ0_init : ByteArray := object_method_1_code
def yJ0_init : MethodName := ⟨RJ0, "<init>", "()V"⟩
theorem dJ0_init_0 : decode cJ0_init 0 = .ok (.return_, 1) := by decide +kernel
theorem q25 : (Jvm.Cond.instanceMethod ({ cls := "java/lang/Object", name := "<init>", desc := "()V" } : Jvm.MethodName)) ∈ lw_all := lw_g (lw_at lw_m0 9 rfl) rfl
theorem q26 : (Jvm.Cond.code ({ cls := "java/lang/Object", name := "<init>", desc := "()V" } : Jvm.MethodName) object_method_1_code (1 : Nat) (Option.none : Option Jvm.ClassFile.FieldType)) ∈ lw_all := lw_g (lw_at lw_m0 10 rfl) rfl
end
section
theorem q46 : (Jvm.Cond.arrayClass Jvm.ClassFile.FieldType.int) ∈ lw_all := lw_g (lw_at lw_m0 30 rfl) rfl
set_option maxRecDepth 100000
theorem q16 : (Jvm.Cond.initialized "PrimeDeskLaw") ∈ lw_all := lw_g (lw_at lw_m0 0 rfl) rfl
set_option maxRecDepth 100000
theorem q19 : (Jvm.Cond.classLink "PrimeDeskLaw" (7 : Nat) "PrimeDesk") ∈ lw_all := lw_g (lw_at lw_m0 3 rfl) rfl
theorem q21 : (Jvm.Cond.methodLink "PrimeDeskLaw" (9 : Nat) ({ cls := "PrimeDesk", name := "<init>", desc := "()V" } : Jvm.MethodName)) ∈ lw_all := lw_g (lw_at lw_m0 5 rfl) rfl
theorem q47 : (Jvm.Cond.methodLink "PrimeDeskLaw" (13 : Nat) ({ cls := "PrimeDesk", name := "take", desc := "(I)Z" } : Jvm.MethodName)) ∈ lw_all := lw_g (lw_at lw_m0 31 rfl) rfl
theorem q51 : (Jvm.Cond.methodLink "PrimeDeskLaw" (18 : Nat) ({ cls := "PrimeDesk", name := "isPrime", desc := "()Z" } : Jvm.MethodName)) ∈ lw_all := lw_g (lw_at lw_m0 35 rfl) rfl
theorem q71 : (Jvm.Cond.methodLink "PrimeDeskLaw" (23 : Nat) ({ cls := "PrimeDesk", name := "factors", desc := "()I" } : Jvm.MethodName)) ∈ lw_all := lw_g (lw_at lw_m0 55 rfl) rfl
theorem q99 : (Jvm.Cond.methodLink "PrimeDeskLaw" (28 : Nat) ({ cls := "PrimeDesk", name := "factor", desc := "(I)I" } : Jvm.MethodName)) ∈ lw_all := lw_g (lw_at lw_m0 83 rfl) rfl
theorem q103 : (Jvm.Cond.methodLink "PrimeDeskLaw" (33 : Nat) ({ cls := "PrimeDesk", name := "divisors", desc := "()I" } : Jvm.MethodName)) ∈ lw_all := lw_g (lw_at lw_m0 87 rfl) rfl
theorem q107 : (Jvm.Cond.methodLink "PrimeDeskLaw" (37 : Nat) ({ cls := "PrimeDesk", name := "sum", desc := "()I" } : Jvm.MethodName)) ∈ lw_all := lw_g (lw_at lw_m0 91 rfl) rfl
theorem q111 : (Jvm.Cond.methodLink "PrimeDeskLaw" (41 : Nat) ({ cls := "PrimeDesk", name := "coprimes", desc := "()I" } : Jvm.MethodName)) ∈ lw_all := lw_g (lw_at lw_m0 95 rfl) rfl
theorem q115 : (Jvm.Cond.methodLink "PrimeDeskLaw" (45 : Nat) ({ cls := "PrimeDesk", name := "nextPrime", desc := "()I" } : Jvm.MethodName)) ∈ lw_all := lw_g (lw_at lw_m0 99 rfl) rfl
theorem q119 : (Jvm.Cond.methodLink "PrimeDeskLaw" (49 : Nat) ({ cls := "PrimeDesk", name := "power", desc := "(II)I" } : Jvm.MethodName)) ∈ lw_all := lw_g (lw_at lw_m0 103 rfl) rfl
theorem q123 : (Jvm.Cond.methodLink "PrimeDeskLaw" (54 : Nat) ({ cls := "PrimeDesk", name := "order", desc := "(I)I" } : Jvm.MethodName)) ∈ lw_all := lw_g (lw_at lw_m0 107 rfl) rfl
theorem q128 : (Jvm.Cond.methodLink "PrimeDeskLaw" (58 : Nat) ({ cls := "PrimeDesk", name := "root", desc := "(I)I" } : Jvm.MethodName)) ∈ lw_all := lw_g (lw_at lw_m0 112 rfl) rfl
theorem q140 : (Jvm.Cond.methodLink "PrimeDeskLaw" (62 : Nat) ({ cls := "PrimeDesk", name := "generator", desc := "()I" } : Jvm.MethodName)) ∈ lw_all := lw_g (lw_at lw_m0 124 rfl) rfl
theorem q148 : (Jvm.Cond.classLink "PrimeDeskLaw" (10 : Nat) "PrimeDeskModel") ∈ lw_all := lw_g (lw_at lw_m0 132 rfl) rfl
theorem q150 : (Jvm.Cond.methodLink "PrimeDeskLaw" (12 : Nat) ({ cls := "PrimeDeskModel", name := "<init>", desc := "()V" } : Jvm.MethodName)) ∈ lw_all := lw_g (lw_at lw_m0 134 rfl) rfl
theorem q158 : (Jvm.Cond.methodLink "PrimeDeskLaw" (17 : Nat) ({ cls := "PrimeDeskModel", name := "take", desc := "(I)Z" } : Jvm.MethodName)) ∈ lw_all := lw_g (lw_at lw_m0 142 rfl) rfl
theorem q162 : (Jvm.Cond.methodLink "PrimeDeskLaw" (22 : Nat) ({ cls := "PrimeDeskModel", name := "isPrime", desc := "()Z" } : Jvm.MethodName)) ∈ lw_all := lw_g (lw_at lw_m0 146 rfl) rfl
theorem q170 : (Jvm.Cond.methodLink "PrimeDeskLaw" (27 : Nat) ({ cls := "PrimeDeskModel", name := "factors", desc := "()I" } : Jvm.MethodName)) ∈ lw_all := lw_g (lw_at lw_m0 154 rfl) rfl
theorem q174 : (Jvm.Cond.methodLink "PrimeDeskLaw" (32 : Nat) ({ cls := "PrimeDeskModel", name := "factor", desc := "(I)I" } : Jvm.MethodName)) ∈ lw_all := lw_g (lw_at lw_m0 158 rfl) rfl
theorem q178 : (Jvm.Cond.methodLink "PrimeDeskLaw" (36 : Nat) ({ cls := "PrimeDeskModel", name := "divisors", desc := "()I" } : Jvm.MethodName)) ∈ lw_all := lw_g (lw_at lw_m0 162 rfl) rfl
theorem q182 : (Jvm.Cond.methodLink "PrimeDeskLaw" (40 : Nat) ({ cls := "PrimeDeskModel", name := "sum", desc := "()I" } : Jvm.MethodName)) ∈ lw_all := lw_g (lw_at lw_m0 166 rfl) rfl
theorem q186 : (Jvm.Cond.methodLink "PrimeDeskLaw" (44 : Nat) ({ cls := "PrimeDeskModel", name := "coprimes", desc := "()I" } : Jvm.MethodName)) ∈ lw_all := lw_g (lw_at lw_m0 170 rfl) rfl
theorem q194 : (Jvm.Cond.methodLink "PrimeDeskLaw" (48 : Nat) ({ cls := "PrimeDeskModel", name := "nextPrime", desc := "()I" } : Jvm.MethodName)) ∈ lw_all := lw_g (lw_at lw_m0 178 rfl) rfl
theorem q198 : (Jvm.Cond.methodLink "PrimeDeskLaw" (53 : Nat) ({ cls := "PrimeDeskModel", name := "power", desc := "(II)I" } : Jvm.MethodName)) ∈ lw_all := lw_g (lw_at lw_m0 182 rfl) rfl
theorem q202 : (Jvm.Cond.methodLink "PrimeDeskLaw" (57 : Nat) ({ cls := "PrimeDeskModel", name := "order", desc := "(I)I" } : Jvm.MethodName)) ∈ lw_all := lw_g (lw_at lw_m0 186 rfl) rfl
theorem q210 : (Jvm.Cond.methodLink "PrimeDeskLaw" (61 : Nat) ({ cls := "PrimeDeskModel", name := "root", desc := "(I)I" } : Jvm.MethodName)) ∈ lw_all := lw_g (lw_at lw_m0 194 rfl) rfl
theorem q214 : (Jvm.Cond.methodLink "PrimeDeskLaw" (65 : Nat) ({ cls := "PrimeDeskModel", name := "generator", desc := "()I" } : Jvm.MethodName)) ∈ lw_all := lw_g (lw_at lw_m0 198 rfl) rfl
/-! the law's own entry -/
set_option maxRecDepth 100000
abbrev cL_law : ByteArray := code
theorem dL_law_0 : decode cL_law 0 = .ok (.new 7, 3) := by decide +kernel
theorem dL_law_3 : decode cL_law 3 = .ok (.dup, 1) := by decide +kernel
theorem dL_law_4 : decode cL_law 4 = .ok (.invokespecial 9, 3) := by decide +kernel
theorem dL_law_7 : decode cL_law 7 = .ok (.astore_n 1, 1) := by decide +kernel
theorem dL_law_8 : decode cL_law 8 = .ok (.new 10, 3) := by decide +kernel
theorem dL_law_11 : decode cL_law 11 = .ok (.dup, 1) := by decide +kernel
theorem dL_law_12 : decode cL_law 12 = .ok (.invokespecial 12, 3) := by decide +kernel
theorem dL_law_15 : decode cL_law 15 = .ok (.astore_n 2, 1) := by decide +kernel
theorem dL_law_16 : decode cL_law 16 = .ok (.iconst 0, 1) := by decide +kernel
theorem dL_law_17 : decode cL_law 17 = .ok (.istore_n 3, 1) := by decide +kernel
theorem dL_law_18 : decode cL_law 18 = .ok (.iload_n 3, 1) := by decide +kernel
theorem dL_law_19 : decode cL_law 19 = .ok (.aload_n 0, 1) := by decide +kernel
theorem dL_law_20 : decode cL_law 20 = .ok (.arraylength, 1) := by decide +kernel
theorem dL_law_21 : decode cL_law 21 = .ok (.iconst 3, 1) := by decide +kernel
theorem dL_law_22 : decode cL_law 22 = .ok (.isub, 1) := by decide +kernel
theorem dL_law_23 : decode cL_law 23 = .ok (.if_icmp .gt 295, 3) := by decide +kernel
theorem dL_law_26 : decode cL_law 26 = .ok (.aload_n 0, 1) := by decide +kernel
theorem dL_law_27 : decode cL_law 27 = .ok (.iload_n 3, 1) := by decide +kernel
theorem dL_law_28 : decode cL_law 28 = .ok (.iaload, 1) := by decide +kernel
theorem dL_law_29 : decode cL_law 29 = .ok (.bipush 15, 2) := by decide +kernel
theorem dL_law_31 : decode cL_law 31 = .ok (.iand, 1) := by decide +kernel
theorem dL_law_32 : decode cL_law 32 = .ok (.tableswitch 280 0 11 #[64, 87, 100, 113, 136, 149, 162, 175, 188, 221, 244, 267], 64) := by decide +kernel
theorem dL_law_96 : decode cL_law 96 = .ok (.aload_n 1, 1) := by decide +kernel
theorem dL_law_97 : decode cL_law 97 = .ok (.aload_n 0, 1) := by decide +kernel
theorem dL_law_98 : decode cL_law 98 = .ok (.iload_n 3, 1) := by decide +kernel
theorem dL_law_99 : decode cL_law 99 = .ok (.iconst 1, 1) := by decide +kernel
theorem dL_law_100 : decode cL_law 100 = .ok (.iadd, 1) := by decide +kernel
theorem dL_law_101 : decode cL_law 101 = .ok (.iaload, 1) := by decide +kernel
theorem dL_law_102 : decode cL_law 102 = .ok (.invokevirtual 13, 3) := by decide +kernel
theorem dL_law_105 : decode cL_law 105 = .ok (.aload_n 2, 1) := by decide +kernel
theorem dL_law_106 : decode cL_law 106 = .ok (.aload_n 0, 1) := by decide +kernel
theorem dL_law_107 : decode cL_law 107 = .ok (.iload_n 3, 1) := by decide +kernel
theorem dL_law_108 : decode cL_law 108 = .ok (.iconst 1, 1) := by decide +kernel
theorem dL_law_109 : decode cL_law 109 = .ok (.iadd, 1) := by decide +kernel
theorem dL_law_110 : decode cL_law 110 = .ok (.iaload, 1) := by decide +kernel
theorem dL_law_111 : decode cL_law 111 = .ok (.invokevirtual 17, 3) := by decide +kernel
theorem dL_law_114 : decode cL_law 114 = .ok (.if_icmp .eq 198, 3) := by decide +kernel
theorem dL_law_117 : decode cL_law 117 = .ok (.iconst 0, 1) := by decide +kernel
theorem dL_law_118 : decode cL_law 118 = .ok (.ireturn, 1) := by decide +kernel
theorem dL_law_119 : decode cL_law 119 = .ok (.aload_n 1, 1) := by decide +kernel
theorem dL_law_120 : decode cL_law 120 = .ok (.invokevirtual 18, 3) := by decide +kernel
theorem dL_law_123 : decode cL_law 123 = .ok (.aload_n 2, 1) := by decide +kernel
theorem dL_law_124 : decode cL_law 124 = .ok (.invokevirtual 22, 3) := by decide +kernel
theorem dL_law_127 : decode cL_law 127 = .ok (.if_icmp .eq 185, 3) := by decide +kernel
theorem dL_law_130 : decode cL_law 130 = .ok (.iconst 0, 1) := by decide +kernel
theorem dL_law_131 : decode cL_law 131 = .ok (.ireturn, 1) := by decide +kernel
theorem dL_law_132 : decode cL_law 132 = .ok (.aload_n 1, 1) := by decide +kernel
theorem dL_law_133 : decode cL_law 133 = .ok (.invokevirtual 23, 3) := by decide +kernel
theorem dL_law_136 : decode cL_law 136 = .ok (.aload_n 2, 1) := by decide +kernel
theorem dL_law_137 : decode cL_law 137 = .ok (.invokevirtual 27, 3) := by decide +kernel
theorem dL_law_140 : decode cL_law 140 = .ok (.if_icmp .eq 172, 3) := by decide +kernel
theorem dL_law_143 : decode cL_law 143 = .ok (.iconst 0, 1) := by decide +kernel
theorem dL_law_144 : decode cL_law 144 = .ok (.ireturn, 1) := by decide +kernel
theorem dL_law_145 : decode cL_law 145 = .ok (.aload_n 1, 1) := by decide +kernel
theorem dL_law_146 : decode cL_law 146 = .ok (.aload_n 0, 1) := by decide +kernel
theorem dL_law_147 : decode cL_law 147 = .ok (.iload_n 3, 1) := by decide +kernel
theorem dL_law_148 : decode cL_law 148 = .ok (.iconst 1, 1) := by decide +kernel
theorem dL_law_149 : decode cL_law 149 = .ok (.iadd, 1) := by decide +kernel
theorem dL_law_150 : decode cL_law 150 = .ok (.iaload, 1) := by decide +kernel
theorem dL_law_151 : decode cL_law 151 = .ok (.invokevirtual 28, 3) := by decide +kernel
theorem dL_law_154 : decode cL_law 154 = .ok (.aload_n 2, 1) := by decide +kernel
theorem dL_law_155 : decode cL_law 155 = .ok (.aload_n 0, 1) := by decide +kernel
theorem dL_law_156 : decode cL_law 156 = .ok (.iload_n 3, 1) := by decide +kernel
theorem dL_law_157 : decode cL_law 157 = .ok (.iconst 1, 1) := by decide +kernel
theorem dL_law_158 : decode cL_law 158 = .ok (.iadd, 1) := by decide +kernel
theorem dL_law_159 : decode cL_law 159 = .ok (.iaload, 1) := by decide +kernel
theorem dL_law_160 : decode cL_law 160 = .ok (.invokevirtual 32, 3) := by decide +kernel
theorem dL_law_163 : decode cL_law 163 = .ok (.if_icmp .eq 149, 3) := by decide +kernel
theorem dL_law_166 : decode cL_law 166 = .ok (.iconst 0, 1) := by decide +kernel
theorem dL_law_167 : decode cL_law 167 = .ok (.ireturn, 1) := by decide +kernel
theorem dL_law_168 : decode cL_law 168 = .ok (.aload_n 1, 1) := by decide +kernel
theorem dL_law_169 : decode cL_law 169 = .ok (.invokevirtual 33, 3) := by decide +kernel
theorem dL_law_172 : decode cL_law 172 = .ok (.aload_n 2, 1) := by decide +kernel
theorem dL_law_173 : decode cL_law 173 = .ok (.invokevirtual 36, 3) := by decide +kernel
theorem dL_law_176 : decode cL_law 176 = .ok (.if_icmp .eq 136, 3) := by decide +kernel
theorem dL_law_179 : decode cL_law 179 = .ok (.iconst 0, 1) := by decide +kernel
theorem dL_law_180 : decode cL_law 180 = .ok (.ireturn, 1) := by decide +kernel
theorem dL_law_181 : decode cL_law 181 = .ok (.aload_n 1, 1) := by decide +kernel
theorem dL_law_182 : decode cL_law 182 = .ok (.invokevirtual 37, 3) := by decide +kernel
theorem dL_law_185 : decode cL_law 185 = .ok (.aload_n 2, 1) := by decide +kernel
theorem dL_law_186 : decode cL_law 186 = .ok (.invokevirtual 40, 3) := by decide +kernel
theorem dL_law_189 : decode cL_law 189 = .ok (.if_icmp .eq 123, 3) := by decide +kernel
theorem dL_law_192 : decode cL_law 192 = .ok (.iconst 0, 1) := by decide +kernel
theorem dL_law_193 : decode cL_law 193 = .ok (.ireturn, 1) := by decide +kernel
theorem dL_law_194 : decode cL_law 194 = .ok (.aload_n 1, 1) := by decide +kernel
theorem dL_law_195 : decode cL_law 195 = .ok (.invokevirtual 41, 3) := by decide +kernel
theorem dL_law_198 : decode cL_law 198 = .ok (.aload_n 2, 1) := by decide +kernel
theorem dL_law_199 : decode cL_law 199 = .ok (.invokevirtual 44, 3) := by decide +kernel
theorem dL_law_202 : decode cL_law 202 = .ok (.if_icmp .eq 110, 3) := by decide +kernel
theorem dL_law_205 : decode cL_law 205 = .ok (.iconst 0, 1) := by decide +kernel
theorem dL_law_206 : decode cL_law 206 = .ok (.ireturn, 1) := by decide +kernel
theorem dL_law_207 : decode cL_law 207 = .ok (.aload_n 1, 1) := by decide +kernel
theorem dL_law_208 : decode cL_law 208 = .ok (.invokevirtual 45, 3) := by decide +kernel
theorem dL_law_211 : decode cL_law 211 = .ok (.aload_n 2, 1) := by decide +kernel
theorem dL_law_212 : decode cL_law 212 = .ok (.invokevirtual 48, 3) := by decide +kernel
theorem dL_law_215 : decode cL_law 215 = .ok (.if_icmp .eq 97, 3) := by decide +kernel
theorem dL_law_218 : decode cL_law 218 = .ok (.iconst 0, 1) := by decide +kernel
theorem dL_law_219 : decode cL_law 219 = .ok (.ireturn, 1) := by decide +kernel
theorem dL_law_220 : decode cL_law 220 = .ok (.aload_n 1, 1) := by decide +kernel
theorem dL_law_221 : decode cL_law 221 = .ok (.aload_n 0, 1) := by decide +kernel
theorem dL_law_222 : decode cL_law 222 = .ok (.iload_n 3, 1) := by decide +kernel
theorem dL_law_223 : decode cL_law 223 = .ok (.iconst 1, 1) := by decide +kernel
theorem dL_law_224 : decode cL_law 224 = .ok (.iadd, 1) := by decide +kernel
theorem dL_law_225 : decode cL_law 225 = .ok (.iaload, 1) := by decide +kernel
theorem dL_law_226 : decode cL_law 226 = .ok (.aload_n 0, 1) := by decide +kernel
theorem dL_law_227 : decode cL_law 227 = .ok (.iload_n 3, 1) := by decide +kernel
theorem dL_law_228 : decode cL_law 228 = .ok (.iconst 2, 1) := by decide +kernel
theorem dL_law_229 : decode cL_law 229 = .ok (.iadd, 1) := by decide +kernel
theorem dL_law_230 : decode cL_law 230 = .ok (.iaload, 1) := by decide +kernel
theorem dL_law_231 : decode cL_law 231 = .ok (.invokevirtual 49, 3) := by decide +kernel
theorem dL_law_234 : decode cL_law 234 = .ok (.aload_n 2, 1) := by decide +kernel
theorem dL_law_235 : decode cL_law 235 = .ok (.aload_n 0, 1) := by decide +kernel
theorem dL_law_236 : decode cL_law 236 = .ok (.iload_n 3, 1) := by decide +kernel
theorem dL_law_237 : decode cL_law 237 = .ok (.iconst 1, 1) := by decide +kernel
theorem dL_law_238 : decode cL_law 238 = .ok (.iadd, 1) := by decide +kernel
theorem dL_law_239 : decode cL_law 239 = .ok (.iaload, 1) := by decide +kernel
theorem dL_law_240 : decode cL_law 240 = .ok (.aload_n 0, 1) := by decide +kernel
theorem dL_law_241 : decode cL_law 241 = .ok (.iload_n 3, 1) := by decide +kernel
theorem dL_law_242 : decode cL_law 242 = .ok (.iconst 2, 1) := by decide +kernel
theorem dL_law_243 : decode cL_law 243 = .ok (.iadd, 1) := by decide +kernel
theorem dL_law_244 : decode cL_law 244 = .ok (.iaload, 1) := by decide +kernel
theorem dL_law_245 : decode cL_law 245 = .ok (.invokevirtual 53, 3) := by decide +kernel
theorem dL_law_248 : decode cL_law 248 = .ok (.if_icmp .eq 64, 3) := by decide +kernel
theorem dL_law_251 : decode cL_law 251 = .ok (.iconst 0, 1) := by decide +kernel
theorem dL_law_252 : decode cL_law 252 = .ok (.ireturn, 1) := by decide +kernel
theorem dL_law_253 : decode cL_law 253 = .ok (.aload_n 1, 1) := by decide +kernel
theorem dL_law_254 : decode cL_law 254 = .ok (.aload_n 0, 1) := by decide +kernel
theorem dL_law_255 : decode cL_law 255 = .ok (.iload_n 3, 1) := by decide +kernel
theorem dL_law_256 : decode cL_law 256 = .ok (.iconst 1, 1) := by decide +kernel
theorem dL_law_257 : decode cL_law 257 = .ok (.iadd, 1) := by decide +kernel
theorem dL_law_258 : decode cL_law 258 = .ok (.iaload, 1) := by decide +kernel
theorem dL_law_259 : decode cL_law 259 = .ok (.invokevirtual 54, 3) := by decide +kernel
theorem dL_law_262 : decode cL_law 262 = .ok (.aload_n 2, 1) := by decide +kernel
theorem dL_law_263 : decode cL_law 263 = .ok (.aload_n 0, 1) := by decide +kernel
theorem dL_law_264 : decode cL_law 264 = .ok (.iload_n 3, 1) := by decide +kernel
theorem dL_law_265 : decode cL_law 265 = .ok (.iconst 1, 1) := by decide +kernel
theorem dL_law_266 : decode cL_law 266 = .ok (.iadd, 1) := by decide +kernel
theorem dL_law_267 : decode cL_law 267 = .ok (.iaload, 1) := by decide +kernel
theorem dL_law_268 : decode cL_law 268 = .ok (.invokevirtual 57, 3) := by decide +kernel
theorem dL_law_271 : decode cL_law 271 = .ok (.if_icmp .eq 41, 3) := by decide +kernel
theorem dL_law_274 : decode cL_law 274 = .ok (.iconst 0, 1) := by decide +kernel
theorem dL_law_275 : decode cL_law 275 = .ok (.ireturn, 1) := by decide +kernel
theorem dL_law_276 : decode cL_law 276 = .ok (.aload_n 1, 1) := by decide +kernel
theorem dL_law_277 : decode cL_law 277 = .ok (.aload_n 0, 1) := by decide +kernel
theorem dL_law_278 : decode cL_law 278 = .ok (.iload_n 3, 1) := by decide +kernel
theorem dL_law_279 : decode cL_law 279 = .ok (.iconst 1, 1) := by decide +kernel
theorem dL_law_280 : decode cL_law 280 = .ok (.iadd, 1) := by decide +kernel
theorem dL_law_281 : decode cL_law 281 = .ok (.iaload, 1) := by decide +kernel
theorem dL_law_282 : decode cL_law 282 = .ok (.invokevirtual 58, 3) := by decide +kernel
theorem dL_law_285 : decode cL_law 285 = .ok (.aload_n 2, 1) := by decide +kernel
theorem dL_law_286 : decode cL_law 286 = .ok (.aload_n 0, 1) := by decide +kernel
theorem dL_law_287 : decode cL_law 287 = .ok (.iload_n 3, 1) := by decide +kernel
theorem dL_law_288 : decode cL_law 288 = .ok (.iconst 1, 1) := by decide +kernel
theorem dL_law_289 : decode cL_law 289 = .ok (.iadd, 1) := by decide +kernel
theorem dL_law_290 : decode cL_law 290 = .ok (.iaload, 1) := by decide +kernel
theorem dL_law_291 : decode cL_law 291 = .ok (.invokevirtual 61, 3) := by decide +kernel
theorem dL_law_294 : decode cL_law 294 = .ok (.if_icmp .eq 18, 3) := by decide +kernel
theorem dL_law_297 : decode cL_law 297 = .ok (.iconst 0, 1) := by decide +kernel
theorem dL_law_298 : decode cL_law 298 = .ok (.ireturn, 1) := by decide +kernel
theorem dL_law_299 : decode cL_law 299 = .ok (.aload_n 1, 1) := by decide +kernel
theorem dL_law_300 : decode cL_law 300 = .ok (.invokevirtual 62, 3) := by decide +kernel
theorem dL_law_303 : decode cL_law 303 = .ok (.aload_n 2, 1) := by decide +kernel
theorem dL_law_304 : decode cL_law 304 = .ok (.invokevirtual 65, 3) := by decide +kernel
theorem dL_law_307 : decode cL_law 307 = .ok (.if_icmp .eq 5, 3) := by decide +kernel
theorem dL_law_310 : decode cL_law 310 = .ok (.iconst 0, 1) := by decide +kernel
theorem dL_law_311 : decode cL_law 311 = .ok (.ireturn, 1) := by decide +kernel
theorem dL_law_312 : decode cL_law 312 = .ok (.iinc 3 3, 3) := by decide +kernel
theorem dL_law_315 : decode cL_law 315 = .ok (.goto (-297), 3) := by decide +kernel
theorem dL_law_318 : decode cL_law 318 = .ok (.iconst 1, 1) := by decide +kernel
theorem dL_law_319 : decode cL_law 319 = .ok (.ireturn, 1) := by decide +kernel
end
section
/-! M1: sums, primes, lists of primes; no program in sight -/
def pd_sum (f : Nat → Nat) : Nat → Nat
  | 0 => 0
  | k + 1 => pd_sum f k + f (k + 1)
theorem pd_sum_ext {f g : Nat → Nat} : ∀ n, (∀ k, 1 ≤ k → k ≤ n → f k = g k) → pd_sum f n = pd_sum g n := by
  intro n
  induction n with
  | zero => intro _; rfl
  | succ n ih =>
    intro h
    have h1 := ih (fun k a b => h k a (by omega))
    have h2 := h (n + 1) (by omega) (Nat.le_refl _)
    show pd_sum f n + f (n + 1) = pd_sum g n + g (n + 1)
    rw [h1, h2]
theorem pd_sum_add (f g : Nat → Nat) : ∀ n, pd_sum (fun k => f k + g k) n = pd_sum f n + pd_sum g n := by
  intro n
  induction n with
  | zero => rfl
  | succ n ih =>
    show pd_sum (fun k => f k + g k) n + (f (n + 1) + g (n + 1)) = (pd_sum f n + f (n + 1)) + (pd_sum g n + g (n + 1))
    rw [ih]; omega
theorem pd_sum_mul (c : Nat) (f : Nat → Nat) : ∀ n, pd_sum (fun k => c * f k) n = c * pd_sum f n := by
  intro n
  induction n with
  | zero => rfl
  | succ n ih =>
    show pd_sum (fun k => c * f k) n + c * f (n + 1) = c * (pd_sum f n + f (n + 1))
    rw [ih, Nat.mul_add]
theorem pd_sum_split (f : Nat → Nat) (m : Nat) : ∀ n, pd_sum f (m + n) = pd_sum f m + pd_sum (fun k => f (m + k)) n := by
  intro n
  induction n with
  | zero => rfl
  | succ n ih =>
    show pd_sum f (m + n) + f (m + n + 1) = pd_sum f m + (pd_sum (fun k => f (m + k)) n + f (m + n + 1))
    rw [ih, Nat.add_assoc]
theorem pd_sum_zero {f : Nat → Nat} : ∀ n, (∀ k, 1 ≤ k → k ≤ n → f k = 0) → pd_sum f n = 0 := by
  intro n
  induction n with
  | zero => intro _; rfl
  | succ n ih =>
    intro h
    show pd_sum f n + f (n + 1) = 0
    rw [ih (fun k a b => h k a (by omega)), h (n + 1) (by omega) (Nat.le_refl _)]
theorem pd_sum_tail {f : Nat → Nat} {m n : Nat} (h : m ≤ n) (hz : ∀ k, m < k → k ≤ n → f k = 0) : pd_sum f n = pd_sum f m := by
  obtain ⟨d, rfl⟩ : ∃ d, n = m + d := ⟨n - m, by omega⟩
  rw [pd_sum_split, pd_sum_zero d (fun k a b => hz (m + k) (by omega) (by omega)), Nat.add_zero]
theorem pd_sum_per {f : Nat → Nat} {m : Nat} (hf : ∀ k, f (m + k) = f k) : ∀ p, pd_sum f (p * m) = p * pd_sum f m := by
  intro p
  induction p with
  | zero => rw [Nat.zero_mul, Nat.zero_mul]; rfl
  | succ p ih =>
    have e : (p + 1) * m = m + p * m := by rw [Nat.add_mul, Nat.one_mul, Nat.add_comm]
    rw [e, pd_sum_split, pd_sum_ext (g := f) (p * m) (fun k _ _ => hf k), ih, Nat.add_mul, Nat.one_mul, Nat.add_comm]
theorem pd_sum_mult {f : Nat → Nat} {p : Nat} (hp : 0 < p) : ∀ m, pd_sum (fun k => if k % p = 0 then f k else 0) (p * m) = pd_sum (fun j => f (p * j)) m := by
  obtain ⟨q, rfl⟩ : ∃ q, p = q + 1 := ⟨p - 1, by omega⟩
  intro m
  induction m with
  | zero => rfl
  | succ m ih =>
    have e : (q + 1) * (m + 1) = (q + 1) * m + (q + 1) := Nat.mul_succ _ _
    have h0 : pd_sum (fun k => if ((q + 1) * m + k) % (q + 1) = 0 then f ((q + 1) * m + k) else 0) q = 0 := by
      refine pd_sum_zero q (fun k a b => ?_)
      have h1 : ((q + 1) * m + k) % (q + 1) = k := by rw [Nat.mul_add_mod, Nat.mod_eq_of_lt (by omega)]
      simp only [h1]
      rw [if_neg (by omega)]
    have h2 : ((q + 1) * m + (q + 1)) % (q + 1) = 0 := by rw [Nat.mul_add_mod, Nat.mod_self]
    have h3 : pd_sum (fun k => if ((q + 1) * m + k) % (q + 1) = 0 then f ((q + 1) * m + k) else 0) (q + 1) = f ((q + 1) * m + (q + 1)) := by
      show pd_sum (fun k => if ((q + 1) * m + k) % (q + 1) = 0 then f ((q + 1) * m + k) else 0) q + (if ((q + 1) * m + (q + 1)) % (q + 1) = 0 then f ((q + 1) * m + (q + 1)) else 0) = _
      rw [h0, if_pos h2, Nat.zero_add]
    rw [e, pd_sum_split, ih, h3, ← e]
    rfl
/-! primes -/
def pd_pr (p : Nat) : Prop := 2 ≤ p ∧ ∀ d, 2 ≤ d → d < p → ¬ p % d = 0
theorem pd_pr_dvd {p d : Nat} (hp : pd_pr p) (h : d ∣ p) : d = 1 ∨ d = p := by
  have hpos : 0 < p := by have := hp.1; omega
  have hle := Nat.le_of_dvd hpos h
  have hd0 : 0 < d := Nat.pos_of_dvd_of_pos h hpos
  by_cases h1 : d = 1
  · exact Or.inl h1
  · by_cases h2 : d = p
    · exact Or.inr h2
    · exact absurd (Nat.mod_eq_zero_of_dvd h) (hp.2 d (by omega) (by omega))
theorem pd_pr_cop {p a : Nat} (hp : pd_pr p) (h : ¬ p ∣ a) : Nat.Coprime p a := by
  rcases pd_pr_dvd hp (Nat.gcd_dvd_left p a) with e | e
  · exact e
  · have h1 := Nat.gcd_dvd_right p a
    rw [e] at h1
    exact absurd h1 h
theorem pd_euclid {p a b : Nat} (hp : pd_pr p) (h : p ∣ a * b) : p ∣ a ∨ p ∣ b := by
  by_cases ha : p ∣ a
  · exact Or.inl ha
  · exact Or.inr ((pd_pr_cop hp ha).dvd_of_dvd_mul_left h)
/-- the least divisor is a prime -/
theorem pd_least_pr {n p : Nat} (h2 : 2 ≤ p) (hd : p ∣ n) (hl : ∀ d, 2 ≤ d → d < p → ¬ n % d = 0) : pd_pr p :=
  ⟨h2, fun d a b e => hl d a b (Nat.mod_eq_zero_of_dvd (Nat.dvd_trans (Nat.dvd_of_mod_eq_zero e) hd))⟩
theorem pd_ex_least {n : Nat} (h : 2 ≤ n) : ∃ p, pd_pr p ∧ p ∣ n ∧ ∀ d, 2 ≤ d → d < p → ¬ n % d = 0 := by
  obtain ⟨p, ⟨h1, h2⟩, h3⟩ := pk_least (fun d => 2 ≤ d ∧ d ∣ n) ⟨n, h, Nat.dvd_refl n⟩
  have h4 : ∀ d, 2 ≤ d → d < p → ¬ n % d = 0 := fun d a b e => h3 d b ⟨a, Nat.dvd_of_mod_eq_zero e⟩
  exact ⟨p, pd_least_pr h1 h2 h4, h2, h4⟩
theorem pd_ex_pr {n : Nat} (h : 2 ≤ n) : ∃ p, pd_pr p ∧ p ∣ n := by
  obtain ⟨p, h1, h2, -⟩ := pd_ex_least h
  exact ⟨p, h1, h2⟩
theorem pd_sqrt_pr {n p : Nat} (h2 : 2 ≤ n) (hpp : n < p * p) (hl : ∀ d, 2 ≤ d → d < p → ¬ n % d = 0) : pd_pr n := by
  refine ⟨h2, fun d a b e => ?_⟩
  obtain ⟨k, hk⟩ := Nat.dvd_of_mod_eq_zero e
  by_cases hdp : d < p
  · exact hl d a hdp e
  · have hkp : k < p := by
      apply Nat.lt_of_not_le
      intro hkp
      have := Nat.mul_le_mul (show p ≤ d by omega) hkp
      omega
    have hk2 : 2 ≤ k := by
      rcases Nat.lt_or_ge k 2 with q | q
      · have h01 : k = 0 ∨ k = 1 := by omega
        rcases h01 with h0 | h0
        · rw [h0, Nat.mul_zero] at hk; omega
        · rw [h0, Nat.mul_one] at hk; omega
      · exact q
    exact hl k hk2 hkp (by rw [hk]; exact Nat.mul_mod_left d k)
/-- a divisor of n that is not n, when n is no prime -/
theorem pd_comp {n : Nat} (h2 : 2 ≤ n) (hn : ¬ pd_pr n) : ∃ d, 2 ≤ d ∧ d < n ∧ n % d = 0 := by
  obtain ⟨p, h1, h3, -⟩ := pd_ex_least h2
  have hle := Nat.le_of_dvd (by omega) h3
  refine ⟨p, h1.1, ?_, Nat.mod_eq_zero_of_dvd h3⟩
  rcases Nat.lt_or_ge p n with q | q
  · exact q
  · exact absurd (show pd_pr n by have e : n = p := by omega
                                  rw [e]; exact h1) hn
/-! trial division, as a Bool for the kernel -/
noncomputable def pd_tr (n : Nat) (f : Nat) : Nat → Bool := Nat.rec (motive := fun _ => Nat → Bool) (fun _ => true) (fun _ ih d => cond (Nat.ble (Nat.mul d d) n) (cond (Nat.beq (Nat.mod n d) 0) false (ih (Nat.add d 1))) true) f
theorem pd_tr_0 (n d : Nat) : pd_tr n 0 d = true := rfl
theorem pd_tr_s (n f d : Nat) : pd_tr n (f + 1) d = cond (Nat.ble (d * d) n) (cond (Nat.beq (n % d) 0) false (pd_tr n f (d + 1))) true := rfl
theorem pd_tr_ok {n : Nat} (h2 : 2 ≤ n) : ∀ f d, 2 ≤ d → (∀ j, 2 ≤ j → j < d → ¬ n % j = 0) → n < (d + f) * (d + f) → (pd_tr n f d = true ↔ pd_pr n) := by
  intro f
  induction f with
  | zero =>
    intro d hd hl hlt
    exact ⟨fun _ => pd_sqrt_pr h2 hlt hl, fun _ => rfl⟩
  | succ f ih =>
    intro d hd hl hlt
    rw [pd_tr_s]
    by_cases h1 : d * d ≤ n
    · rw [show Nat.ble (d * d) n = true from Nat.ble_eq.mpr h1]
      by_cases h3 : n % d = 0
      · rw [show Nat.beq (n % d) 0 = true from Nat.beq_eq.mpr h3]
        refine ⟨(fun h => nomatch h), fun h => ?_⟩
        have hlt2 : d < n := by
          have := Nat.mul_le_mul (Nat.le_refl d) hd
          omega
        exact absurd h3 (h.2 d hd hlt2)
      · rw [show Nat.beq (n % d) 0 = false from by
          cases hb : Nat.beq (n % d) 0
          · rfl
          · exact absurd (Nat.beq_eq.mp hb) h3]
        refine ih (d + 1) (by omega) (fun j a b => ?_) (by rw [show d + 1 + f = d + (f + 1) by omega]; exact hlt)
        rcases Nat.lt_or_ge j d with q | q
        · exact hl j a q
        · rw [show j = d by omega]; exact h3
    · rw [show Nat.ble (d * d) n = false from by
        cases hb : Nat.ble (d * d) n
        · rfl
        · exact absurd (Nat.ble_eq.mp hb) h1]
      exact ⟨fun _ => pd_sqrt_pr h2 (by omega) hl, fun _ => rfl⟩
noncomputable def pd_isp (n : Nat) : Bool := cond (Nat.ble 2 n) (pd_tr n n 2) false
theorem pd_isp_ok (n : Nat) : pd_isp n = true ↔ pd_pr n := by
  unfold pd_isp
  by_cases h : 2 ≤ n
  · rw [show Nat.ble 2 n = true from Nat.ble_eq.mpr h]
    exact pd_tr_ok h n 2 (Nat.le_refl 2) (fun j a b => by omega) (by
      have := Nat.mul_le_mul (show 1 ≤ 2 + n by omega) (Nat.le_refl (2 + n))
      omega)
  · rw [show Nat.ble 2 n = false from by
      cases hb : Nat.ble 2 n
      · rfl
      · exact absurd (Nat.ble_eq.mp hb) h]
    exact ⟨(fun q => nomatch q), fun q => absurd q.1 h⟩
theorem pd_isp_f {n : Nat} (h : ¬ pd_pr n) : pd_isp n = false := by
  cases hb : pd_isp n
  · rfl
  · exact absurd ((pd_isp_ok n).mp hb) h
/-! lists of primes -/
def pd_prod : List Nat → Nat
  | [] => 1
  | a :: l => a * pd_prod l
theorem pd_prod_app (A B : List Nat) : pd_prod (A ++ B) = pd_prod A * pd_prod B := by
  induction A with
  | nil => show pd_prod B = 1 * pd_prod B; rw [Nat.one_mul]
  | cons a A ih => show a * pd_prod (A ++ B) = a * pd_prod A * pd_prod B; rw [ih, Nat.mul_assoc]
theorem pd_prod_dvd {x : Nat} {L : List Nat} (h : x ∈ L) : x ∣ pd_prod L := by
  induction L with
  | nil => cases h
  | cons a L ih =>
    show x ∣ a * pd_prod L
    rcases List.mem_cons.mp h with e | e
    · rw [e]; exact Nat.dvd_mul_right _ _
    · exact Nat.dvd_trans (ih e) (Nat.dvd_mul_left _ _)
theorem pd_prod_pos {L : List Nat} (h : ∀ x ∈ L, 0 < x) : 0 < pd_prod L := by
  induction L with
  | nil => exact Nat.one_pos
  | cons a L ih => exact Nat.mul_pos (h a List.mem_cons_self) (ih (fun x hx => h x (List.mem_cons_of_mem _ hx)))
theorem pd_pow_le {L : List Nat} (h : ∀ x ∈ L, 2 ≤ x) : 2 ^ L.length ≤ pd_prod L := by
  induction L with
  | nil => exact Nat.le_refl 1
  | cons a L ih =>
    have h1 := h a List.mem_cons_self
    have h2 := ih (fun x hx => h x (List.mem_cons_of_mem _ hx))
    show 2 ^ (L.length + 1) ≤ a * pd_prod L
    rw [Nat.pow_succ, Nat.mul_comm]
    exact Nat.mul_le_mul h1 h2
theorem pd_len_lt {L : List Nat} {n k : Nat} (h : ∀ x ∈ L, 2 ≤ x) (hn : pd_prod L ≤ n) (hk : n < 2 ^ k) : L.length < k := by
  have h1 := pd_pow_le h
  rcases Nat.lt_or_ge L.length k with q | q
  · exact q
  · have := Nat.pow_le_pow_right (show 0 < 2 by decide) q
    omega
theorem pd_mem_of_dvd {p : Nat} (hp : pd_pr p) {L : List Nat} (hL : ∀ x ∈ L, pd_pr x) (h : p ∣ pd_prod L) : p ∈ L := by
  induction L with
  | nil =>
    have h1 : p ∣ 1 := h
    have := Nat.le_of_dvd Nat.one_pos h1
    have := hp.1
    omega
  | cons a L ih =>
    rcases pd_euclid hp (show p ∣ a * pd_prod L from h) with q | q
    · rcases pd_pr_dvd (hL a List.mem_cons_self) q with e | e
      · have := hp.1; omega
      · rw [e]; exact List.mem_cons_self
    · exact List.mem_cons_of_mem _ (ih (fun x hx => hL x (List.mem_cons_of_mem _ hx)) q)
def pd_fact (n : Nat) (L : List Nat) : Prop := pd_prod L = n ∧ (∀ x ∈ L, pd_pr x) ∧ L.Pairwise (· ≤ ·)
theorem pd_fact_uniq : ∀ {L M : List Nat} {n : Nat}, pd_fact n L → pd_fact n M → L = M := by
  intro L
  induction L with
  | nil =>
    intro M n hL hM
    cases M with
    | nil => rfl
    | cons b M =>
      have h1 : b ∣ 1 := by
        have h2 := pd_prod_dvd (L := b :: M) List.mem_cons_self
        rw [hM.1, ← hL.1] at h2
        exact h2
      have := Nat.le_of_dvd Nat.one_pos h1
      have := (hM.2.1 b List.mem_cons_self).1
      omega
  | cons a L ih =>
    intro M n hL hM
    have ha := hL.2.1 a List.mem_cons_self
    have haM : a ∈ M := pd_mem_of_dvd ha hM.2.1 (by rw [hM.1, ← hL.1]; exact pd_prod_dvd List.mem_cons_self)
    cases M with
    | nil => cases haM
    | cons b M =>
      have hb := hM.2.1 b List.mem_cons_self
      have hbL : b ∈ a :: L := pd_mem_of_dvd hb hL.2.1 (by rw [hL.1, ← hM.1]; exact pd_prod_dvd List.mem_cons_self)
      have h1 : b ≤ a := by
        rcases List.mem_cons.mp haM with e | e
        · omega
        · exact (List.pairwise_cons.mp hM.2.2).1 a e
      have h2 : a ≤ b := by
        rcases List.mem_cons.mp hbL with e | e
        · omega
        · exact (List.pairwise_cons.mp hL.2.2).1 b e
      have hab : a = b := Nat.le_antisymm h2 h1
      subst hab
      have h3 : a * pd_prod L = a * pd_prod M := hL.1.trans hM.1.symm
      have h4 : pd_prod L = pd_prod M := Nat.eq_of_mul_eq_mul_left (by have := ha.1; omega) h3
      have h5 := ih (M := M) (n := pd_prod L) ⟨rfl, fun x hx => hL.2.1 x (List.mem_cons_of_mem _ hx), (List.pairwise_cons.mp hL.2.2).2⟩ ⟨h4.symm, fun x hx => hM.2.1 x (List.mem_cons_of_mem _ hx), (List.pairwise_cons.mp hM.2.2).2⟩
      rw [h5]
theorem pd_fact_ex : ∀ (k n : Nat), 1 ≤ n → n ≤ k → ∃ L, pd_fact n L := by
  intro k
  induction k with
  | zero => intro n h1 h2; omega
  | succ k ih =>
    intro n h1 h2
    by_cases h : n = 1
    · exact ⟨[], h.symm, (fun x hx => nomatch hx), List.Pairwise.nil⟩
    · obtain ⟨p, hp, ⟨q, hq⟩, hl⟩ := pd_ex_least (show 2 ≤ n by omega)
      have hq0 : 0 < q := by
        rcases Nat.eq_zero_or_pos q with e | e
        · rw [e, Nat.mul_zero] at hq; omega
        · exact e
      have hlt : q < n := by
        have := Nat.mul_le_mul hp.1 (Nat.le_refl q)
        omega
      obtain ⟨L, hL⟩ := ih q hq0 (by omega)
      refine ⟨p :: L, ?_, ?_, ?_⟩
      · show p * pd_prod L = n
        rw [hL.1, ← hq]
      · intro x hx
        rcases List.mem_cons.mp hx with e | e
        · rw [e]; exact hp
        · exact hL.2.1 x e
      · refine List.pairwise_cons.mpr ⟨fun x hx => ?_, hL.2.2⟩
        have hxn : x ∣ n := by
          have h5 := pd_prod_dvd hx
          rw [hL.1] at h5
          rw [hq]
          exact Nat.dvd_trans h5 (Nat.dvd_mul_left _ _)
        rcases Nat.lt_or_ge x p with e | e
        · exact absurd (Nat.mod_eq_zero_of_dvd hxn) (hl x (hL.2.1 x hx).1 e)
        · exact e
theorem pd_fact_of {n : Nat} (h : 1 ≤ n) : ∃ L, pd_fact n L := pd_fact_ex n n h (Nat.le_refl n)
end
section
/-! M4, M5: divisors' number and sum, coprimes, out of a list of primes -/
def pd_D (f : Nat → Nat) (n : Nat) : Nat := pd_sum (fun d => if n % d = 0 then f d else 0) n
def pd_tau (n : Nat) : Nat := pd_D (fun _ => 1) n
def pd_sig (n : Nat) : Nat := pd_D (fun d => d) n
def pd_phi (n : Nat) : Nat := pd_sum (fun k => if Nat.gcd k n = 1 then 1 else 0) n
theorem pd_cop_pow {q d : Nat} (hq : pd_pr q) (h : ¬ d % q = 0) (e : Nat) : Nat.Coprime d (q ^ e) := by
  have h1 : ¬ q ∣ d := fun hd => h (Nat.mod_eq_zero_of_dvd hd)
  exact ((pd_pr_cop hq h1).symm).pow_right e
theorem pd_D_step {f : Nat → Nat} {m q e : Nat} (hq : pd_pr q) (hm : 0 < m) (hqm : ¬ m % q = 0) :
    pd_D f (m * q ^ (e + 1)) = pd_D f m + pd_D (fun d => f (q * d)) (m * q ^ e) := by
  have hq0 : 0 < q := by have := hq.1; omega
  have hN : m * q ^ (e + 1) = q * (m * q ^ e) := by rw [Nat.pow_succ, ← Nat.mul_assoc, Nat.mul_comm]
  have hNpos : 0 < m * q ^ e := Nat.mul_pos hm (Nat.pow_pos hq0)
  have hmle : m ≤ m * q ^ (e + 1) := Nat.le_mul_of_pos_right m (Nat.pow_pos hq0)
  unfold pd_D
  have h1 : pd_sum (fun d => if m * q ^ (e + 1) % d = 0 then f d else 0) (m * q ^ (e + 1))
      = pd_sum (fun d => (if m % d = 0 then f d else 0) + (if d % q = 0 then (if m * q ^ (e + 1) % d = 0 then f d else 0) else 0)) (m * q ^ (e + 1)) := by
    refine pd_sum_ext _ (fun d a b => ?_)
    by_cases hd : d % q = 0
    · have h2 : ¬ m % d = 0 := fun h => hqm (Nat.mod_eq_zero_of_dvd (Nat.dvd_trans (Nat.dvd_of_mod_eq_zero hd) (Nat.dvd_of_mod_eq_zero h)))
      rw [if_neg h2, if_pos hd, Nat.zero_add]
    · rw [if_neg hd]
      have h2 : m * q ^ (e + 1) % d = 0 ↔ m % d = 0 := by
        constructor
        · intro h
          exact Nat.mod_eq_zero_of_dvd ((pd_cop_pow hq hd (e + 1)).dvd_of_dvd_mul_right (Nat.dvd_of_mod_eq_zero h))
        · intro h
          exact Nat.mod_eq_zero_of_dvd (Nat.dvd_trans (Nat.dvd_of_mod_eq_zero h) (Nat.dvd_mul_right _ _))
      by_cases h3 : m % d = 0
      · rw [if_pos h3, if_pos (h2.mpr h3), Nat.add_zero]
      · rw [if_neg h3, if_neg (fun h => h3 (h2.mp h))]
  have h2 : pd_sum (fun d => if m % d = 0 then f d else 0) (m * q ^ (e + 1)) = pd_sum (fun d => if m % d = 0 then f d else 0) m := by
    refine pd_sum_tail hmle (fun k a b => ?_)
    rw [if_neg]
    intro h
    have := Nat.le_of_dvd hm (Nat.dvd_of_mod_eq_zero h)
    omega
  have h3 : pd_sum (fun d => if d % q = 0 then (if m * q ^ (e + 1) % d = 0 then f d else 0) else 0) (m * q ^ (e + 1)) = pd_sum (fun d => if m * q ^ e % d = 0 then f (q * d) else 0) (m * q ^ e) := by
    rw [hN, pd_sum_mult (f := fun d => if q * (m * q ^ e) % d = 0 then f d else 0) hq0]
    refine pd_sum_ext _ (fun d a b => ?_)
    have h4 : q * (m * q ^ e) % (q * d) = q * (m * q ^ e % d) := Nat.mul_mod_mul_left q _ d
    by_cases h5 : m * q ^ e % d = 0
    · rw [if_pos h5, if_pos (by rw [h4, h5, Nat.mul_zero])]
    · rw [if_neg h5, if_neg]
      rw [h4]
      intro h6
      rcases Nat.mul_eq_zero.mp h6 with h7 | h7
      · omega
      · exact h5 h7
  rw [h1, pd_sum_add, h2, h3]
theorem pd_tau_pow {m q : Nat} (hq : pd_pr q) (hm : 0 < m) (hqm : ¬ m % q = 0) : ∀ e, pd_tau (m * q ^ e) = pd_tau m * (e + 1) := by
  intro e
  induction e with
  | zero => rw [Nat.pow_zero, Nat.mul_one, Nat.zero_add, Nat.mul_one]
  | succ e ih =>
    have h := pd_D_step (f := fun _ => 1) (e := e) hq hm hqm
    have h2 : pd_tau (m * q ^ (e + 1)) = pd_tau m + pd_tau (m * q ^ e) := h
    rw [h2, ih, Nat.mul_add (pd_tau m) (e + 1) 1, Nat.mul_one, Nat.add_comm]
/-- 1 + q + .. + q^e as the class sums it -/
def pd_in (q : Nat) : Nat → Nat
  | 0 => 1
  | e + 1 => pd_in q e * q + 1
theorem pd_D_mul (q n : Nat) : pd_D (fun d => q * d) n = q * pd_sig n := by
  unfold pd_sig pd_D
  rw [← pd_sum_mul]
  refine pd_sum_ext n (fun k _ _ => ?_)
  by_cases h : n % k = 0
  · rw [if_pos h, if_pos h]
  · rw [if_neg h, if_neg h, Nat.mul_zero]
theorem pd_sig_pow {m q : Nat} (hq : pd_pr q) (hm : 0 < m) (hqm : ¬ m % q = 0) : ∀ e, pd_sig (m * q ^ e) = pd_sig m * pd_in q e := by
  intro e
  induction e with
  | zero => rw [Nat.pow_zero, Nat.mul_one]; show pd_sig m = pd_sig m * 1; rw [Nat.mul_one]
  | succ e ih =>
    have h := pd_D_step (f := fun d => d) (e := e) hq hm hqm
    have h2 : pd_sig (m * q ^ (e + 1)) = pd_sig m + pd_D (fun d => q * d) (m * q ^ e) := h
    rw [h2, pd_D_mul, ih]
    show pd_sig m + q * (pd_sig m * pd_in q e) = pd_sig m * (pd_in q e * q + 1)
    rw [Nat.mul_add, Nat.mul_one, Nat.mul_left_comm, Nat.mul_comm q, Nat.add_comm]
theorem pd_tau_1 : pd_tau 1 = 1 := by decide
theorem pd_sig_1 : pd_sig 1 = 1 := by decide
theorem pd_phi_1 : pd_phi 1 = 1 := by decide
theorem pd_phi_div {p m : Nat} (hpm : m % p = 0) : pd_phi (p * m) = p * pd_phi m := by
  have hd := Nat.dvd_of_mod_eq_zero hpm
  unfold pd_phi
  rw [← pd_sum_per (f := fun k => if Nat.gcd k m = 1 then 1 else 0) (m := m) (fun k => by simp only [Nat.gcd_self_add_left]) p]
  refine pd_sum_ext _ (fun k _ _ => ?_)
  have h1 : Nat.gcd k (p * m) = 1 ↔ Nat.gcd k m = 1 := by
    constructor
    · intro h
      exact Nat.Coprime.coprime_mul_left_right (show Nat.Coprime k (p * m) from h)
    · intro h
      have h2 : Nat.Coprime k m := h
      exact Nat.Coprime.mul_right (h2.coprime_dvd_right hd) h2
  by_cases h : Nat.gcd k m = 1
  · rw [if_pos h, if_pos (h1.mpr h)]
  · rw [if_neg h, if_neg (fun q => h (h1.mp q))]
theorem pd_phi_new {p m : Nat} (hp : pd_pr p) (hpm : ¬ m % p = 0) : pd_phi (p * m) = (p - 1) * pd_phi m := by
  have hp0 : 0 < p := by have := hp.1; omega
  have hcop : Nat.Coprime p m := pd_pr_cop hp (fun h => hpm (Nat.mod_eq_zero_of_dvd h))
  have hper := pd_sum_per (f := fun k => if Nat.gcd k m = 1 then 1 else 0) (m := m) (fun k => by simp only [Nat.gcd_self_add_left]) p
  have h1 : pd_sum (fun k => if Nat.gcd k m = 1 then 1 else 0) (p * m) = pd_sum (fun k => (if Nat.gcd k (p * m) = 1 then 1 else 0) + (if k % p = 0 then (if Nat.gcd k m = 1 then 1 else 0) else 0)) (p * m) := by
    refine pd_sum_ext _ (fun k _ _ => ?_)
    by_cases hk : k % p = 0
    · have h2 : ¬ Nat.gcd k (p * m) = 1 := by
        intro h
        have h3 : Nat.Coprime k p := Nat.Coprime.coprime_mul_right_right (show Nat.Coprime k (p * m) from h)
        have h4 := Nat.Coprime.eq_one_of_dvd h3.symm (Nat.dvd_of_mod_eq_zero hk)
        have := hp.1
        omega
      rw [if_neg h2, if_pos hk, Nat.zero_add]
    · rw [if_neg hk, Nat.add_zero]
      have h3 : Nat.Coprime k p := (pd_pr_cop hp (fun h => hk (Nat.mod_eq_zero_of_dvd h))).symm
      have h2 : Nat.gcd k (p * m) = 1 ↔ Nat.gcd k m = 1 := by
        constructor
        · intro h
          exact Nat.Coprime.coprime_mul_left_right (show Nat.Coprime k (p * m) from h)
        · intro h
          exact Nat.Coprime.mul_right h3 h
      by_cases h : Nat.gcd k m = 1
      · rw [if_pos h, if_pos (h2.mpr h)]
      · rw [if_neg h, if_neg (fun q => h (h2.mp q))]
  have h5 : pd_sum (fun k => if k % p = 0 then (if Nat.gcd k m = 1 then 1 else 0) else 0) (p * m) = pd_phi m := by
    rw [pd_sum_mult (f := fun k => if Nat.gcd k m = 1 then 1 else 0) hp0]
    refine pd_sum_ext _ (fun j _ _ => ?_)
    have h6 : Nat.gcd (p * j) m = Nat.gcd j m := Nat.Coprime.gcd_mul_left_cancel j hcop
    show (if Nat.gcd (p * j) m = 1 then 1 else 0) = if Nat.gcd j m = 1 then 1 else 0
    simp only [h6]
  have h7 : pd_phi (p * m) + pd_phi m = p * pd_phi m := by
    have h8 : p * pd_phi m = pd_sum (fun k => if Nat.gcd k m = 1 then 1 else 0) (p * m) := hper.symm
    rw [h8, h1, pd_sum_add, h5]
    rfl
  have h9 : p * pd_phi m = (p - 1) * pd_phi m + pd_phi m := by
    have e : p = (p - 1) + 1 := by omega
    calc p * pd_phi m = ((p - 1) + 1) * pd_phi m := by rw [← e]
      _ = (p - 1) * pd_phi m + pd_phi m := by rw [Nat.add_mul, Nat.one_mul]
  omega
theorem pd_phi_pos {n : Nat} (h : 1 ≤ n) : 1 ≤ pd_phi n := by
  unfold pd_phi
  have h1 := pd_sum_split (fun k => if Nat.gcd k n = 1 then 1 else 0) 1 (n - 1)
  rw [show 1 + (n - 1) = n by omega] at h1
  rw [h1]
  have h2 : pd_sum (fun k => if Nat.gcd k n = 1 then 1 else 0) 1 = 1 := by
    show 0 + (if Nat.gcd (0 + 1) n = 1 then 1 else 0) = 1
    rw [if_pos (by rw [Nat.zero_add]; exact Nat.gcd_one_left n)]
  omega
theorem pd_sum_le {f : Nat → Nat} {c : Nat} (hf : ∀ k, f k ≤ c) : ∀ n, pd_sum f n ≤ c * n := by
  intro n
  induction n with
  | zero => exact Nat.zero_le _
  | succ n ih =>
    have := hf (n + 1)
    show pd_sum f n + f (n + 1) ≤ c * (n + 1)
    rw [Nat.mul_add, Nat.mul_one]
    omega
theorem pd_phi_le (n : Nat) : pd_phi n ≤ n := by
  have h := pd_sum_le (f := fun k => if Nat.gcd k n = 1 then 1 else 0) (c := 1) (fun k => by
    show (if Nat.gcd k n = 1 then 1 else 0) ≤ 1
    by_cases q : Nat.gcd k n = 1
    · rw [if_pos q]; exact Nat.le_refl 1
    · rw [if_neg q]; exact Nat.zero_le 1) n
  rw [Nat.one_mul] at h
  exact h
theorem pd_phi_pr {p : Nat} (hp : pd_pr p) : pd_phi p = p - 1 := by
  have h := pd_phi_new (m := 1) hp (by rw [Nat.mod_eq_of_lt (by have := hp.1; omega)]; decide)
  rw [Nat.mul_one, pd_phi_1, Nat.mul_one] at h
  exact h
end
section
/-! M6: Euler's theorem, orders -/
theorem pd_perm : ∀ (l1 l2 : List Nat), l1.Nodup → (∀ x ∈ l1, x ∈ l2) → l2.length ≤ l1.length → l1.Perm l2 := by
  intro l1
  induction l1 with
  | nil =>
    intro l2 _ _ hl
    have : l2 = [] := List.eq_nil_of_length_eq_zero (by simpa using hl)
    rw [this]
  | cons x l1 ih =>
    intro l2 hn hs hl
    have hx := hs x List.mem_cons_self
    have hp : l2.Perm (x :: l2.erase x) := List.perm_cons_erase hx
    have hn2 := List.nodup_cons.mp hn
    have hlen := hp.length_eq
    simp only [List.length_cons] at hl hlen
    have h1 := ih (l2.erase x) hn2.2 (fun y hy => by
      have h2 := hs y (List.mem_cons_of_mem _ hy)
      have hne : y ≠ x := fun e => hn2.1 (e ▸ hy)
      exact (List.mem_erase_of_ne hne).mpr h2) (by omega)
    exact (List.Perm.cons x h1).trans hp.symm
theorem pd_prod_perm {l1 l2 : List Nat} (h : l1.Perm l2) : pd_prod l1 = pd_prod l2 := by
  induction h with
  | nil => rfl
  | cons x _ ih => show x * _ = x * _; rw [ih]
  | swap x y l => show y * (x * pd_prod l) = x * (y * pd_prod l); rw [Nat.mul_left_comm]
  | trans _ _ h1 h2 => rw [h1, h2]
/-- the numbers from 1 to m that are coprime to n -/
def pd_U (n : Nat) : Nat → List Nat
  | 0 => []
  | k + 1 => if Nat.gcd (k + 1) n = 1 then (k + 1) :: pd_U n k else pd_U n k
theorem pd_U_mem (n : Nat) : ∀ (m k : Nat), k ∈ pd_U n m ↔ 1 ≤ k ∧ k ≤ m ∧ Nat.gcd k n = 1 := by
  intro m
  induction m with
  | zero => intro k; constructor
            · intro h; cases h
            · intro h; omega
  | succ m ih =>
    intro k
    show k ∈ (if Nat.gcd (m + 1) n = 1 then (m + 1) :: pd_U n m else pd_U n m) ↔ _
    by_cases h : Nat.gcd (m + 1) n = 1
    · rw [if_pos h, List.mem_cons, ih]
      constructor
      · rintro (e | e)
        · rw [e]; exact ⟨by omega, Nat.le_refl _, h⟩
        · exact ⟨e.1, by omega, e.2.2⟩
      · intro e
        by_cases h1 : k = m + 1
        · exact Or.inl h1
        · exact Or.inr ⟨e.1, by omega, e.2.2⟩
    · rw [if_neg h, ih]
      constructor
      · intro e; exact ⟨e.1, by omega, e.2.2⟩
      · intro e
        refine ⟨e.1, ?_, e.2.2⟩
        by_cases h1 : k = m + 1
        · rw [h1] at e; exact absurd e.2.2 h
        · omega
theorem pd_U_nodup (n : Nat) : ∀ m, (pd_U n m).Nodup := by
  intro m
  induction m with
  | zero => exact List.nodup_nil
  | succ m ih =>
    show (if Nat.gcd (m + 1) n = 1 then (m + 1) :: pd_U n m else pd_U n m).Nodup
    by_cases h : Nat.gcd (m + 1) n = 1
    · rw [if_pos h]
      refine List.nodup_cons.mpr ⟨fun h1 => ?_, ih⟩
      have := ((pd_U_mem n m _).mp h1).2.1
      omega
    · rw [if_neg h]; exact ih
theorem pd_U_len (n : Nat) : ∀ m, (pd_U n m).length = pd_sum (fun k => if Nat.gcd k n = 1 then 1 else 0) m := by
  intro m
  induction m with
  | zero => rfl
  | succ m ih =>
    show (if Nat.gcd (m + 1) n = 1 then (m + 1) :: pd_U n m else pd_U n m).length = pd_sum (fun k => if Nat.gcd k n = 1 then 1 else 0) m + (if Nat.gcd (m + 1) n = 1 then 1 else 0)
    by_cases h : Nat.gcd (m + 1) n = 1
    · rw [if_pos h, if_pos h, List.length_cons, ih]
    · rw [if_neg h, if_neg h, ih, Nat.add_zero]
/-- equal rests: the difference -/
theorem pd_cancel {n a x y : Nat} (hc : Nat.Coprime n a) (h : a * x % n = a * y % n) (hxy : x ≤ y) : (y - x) % n = 0 := by
  have h1 : n ∣ a * y - a * x := by
    have e : (a * y - a * x) % n = 0 := Nat.sub_mod_eq_zero_of_mod_eq h.symm
    exact Nat.dvd_of_mod_eq_zero e
  rw [← Nat.mul_sub] at h1
  exact Nat.mod_eq_zero_of_dvd (hc.dvd_of_dvd_mul_left h1)
theorem pd_inj {n a x y : Nat} (hc : Nat.Coprime n a) (hx : x < n) (hy : y < n) (h : a * x % n = a * y % n) : x = y := by
  rcases Nat.le_total x y with q | q
  · have h1 := pd_cancel hc h q
    rw [Nat.mod_eq_of_lt (by omega)] at h1
    omega
  · have h1 := pd_cancel hc h.symm q
    rw [Nat.mod_eq_of_lt (by omega)] at h1
    omega
theorem pd_prod_map (a n : Nat) : ∀ l : List Nat, pd_prod (l.map (fun x => a * x % n)) % n = a ^ l.length * pd_prod l % n := by
  intro l
  induction l with
  | nil => show 1 % n = a ^ 0 * 1 % n; rw [Nat.pow_zero, Nat.mul_one]
  | cons x l ih =>
    show (a * x % n) * pd_prod (l.map (fun x => a * x % n)) % n = a ^ (l.length + 1) * (x * pd_prod l) % n
    rw [Nat.mul_mod, ih, Nat.mod_mod, ← Nat.mul_mod, Nat.pow_succ]
    congr 1
    rw [Nat.mul_assoc, Nat.mul_assoc, Nat.mul_left_comm x, Nat.mul_left_comm a]
theorem pd_map_nodup {n a : Nat} (hc : Nat.Coprime n a) : ∀ l : List Nat, l.Nodup → (∀ x ∈ l, x < n) → (l.map (fun x => a * x % n)).Nodup := by
  intro l
  induction l with
  | nil => intro _ _; exact List.nodup_nil
  | cons x l ih =>
    intro hn hl
    have hn2 := List.nodup_cons.mp hn
    show ((a * x % n) :: l.map (fun x => a * x % n)).Nodup
    refine List.nodup_cons.mpr ⟨fun h => ?_, ih hn2.2 (fun y hy => hl y (List.mem_cons_of_mem _ hy))⟩
    obtain ⟨y, hy, e⟩ := List.mem_map.mp h
    have := pd_inj hc (hl y (List.mem_cons_of_mem _ hy)) (hl x List.mem_cons_self) e
    rw [this] at hy
    exact hn2.1 hy
theorem pd_prod_cop {n : Nat} : ∀ l : List Nat, (∀ x ∈ l, Nat.gcd x n = 1) → Nat.Coprime (pd_prod l) n := by
  intro l
  induction l with
  | nil => intro _; exact Nat.gcd_one_left n
  | cons x l ih =>
    intro h
    exact Nat.Coprime.mul_left (h x List.mem_cons_self) (ih (fun y hy => h y (List.mem_cons_of_mem _ hy)))
theorem pd_euler {n a : Nat} (hn : 2 ≤ n) (ha : Nat.gcd a n = 1) : a ^ pd_phi n % n = 1 := by
  have hc : Nat.Coprime n a := Nat.Coprime.symm ha
  have hlt : ∀ x ∈ pd_U n n, x < n := by
    intro x hx
    have h1 := (pd_U_mem n n x).mp hx
    rcases Nat.lt_or_ge x n with q | q
    · exact q
    · have e : x = n := by omega
      rw [e, Nat.gcd_self] at h1
      omega
  have hmem : ∀ y ∈ (pd_U n n).map (fun x => a * x % n), y ∈ pd_U n n := by
    intro y hy
    obtain ⟨x, hx, e⟩ := List.mem_map.mp hy
    have h1 := (pd_U_mem n n x).mp hx
    have h2 : Nat.gcd (a * x) n = 1 := Nat.Coprime.mul_left (show Nat.Coprime a n from ha) (show Nat.Coprime x n from h1.2.2)
    have h3 : Nat.gcd (a * x % n) n = 1 := by
      rw [← Nat.gcd_rec n (a * x), Nat.gcd_comm]; exact h2
    have h4 : a * x % n < n := Nat.mod_lt _ (by omega)
    have h5 : 1 ≤ a * x % n := by
      rcases Nat.eq_zero_or_pos (a * x % n) with q | q
      · rw [q, Nat.gcd_zero_left] at h3; omega
      · exact q
    rw [← e]
    exact (pd_U_mem n n _).mpr ⟨h5, by omega, h3⟩
  have hp := pd_perm _ (pd_U n n) (pd_map_nodup hc _ (pd_U_nodup n n) hlt) hmem (by rw [List.length_map]; exact Nat.le_refl _)
  have h1 := pd_prod_map a n (pd_U n n)
  rw [pd_prod_perm hp] at h1
  have hcp : Nat.Coprime n (pd_prod (pd_U n n)) := (pd_prod_cop (pd_U n n) (fun x hx => ((pd_U_mem n n x).mp hx).2.2)).symm
  have hlen : (pd_U n n).length = pd_phi n := pd_U_len n n
  rw [hlen] at h1
  have h2 : pd_prod (pd_U n n) * 1 % n = pd_prod (pd_U n n) * (a ^ pd_phi n % n) % n := by
    rw [Nat.mul_one, Nat.mul_mod_mod, Nat.mul_comm (pd_prod _)]
    exact h1
  exact (pd_inj hcp (by omega) (Nat.mod_lt _ (by omega)) h2).symm
theorem pd_fermat {p a : Nat} (hp : pd_pr p) (ha : ¬ a % p = 0) : a ^ (p - 1) % p = 1 := by
  rw [← pd_phi_pr hp]
  exact pd_euler hp.1 ((pd_pr_cop hp (fun h => ha (Nat.mod_eq_zero_of_dvd h))).symm)
/-! orders -/
def pd_ord (n a o : Nat) : Prop := 1 ≤ o ∧ a ^ o % n = 1 ∧ ∀ e, 1 ≤ e → e < o → ¬ a ^ e % n = 1
theorem pd_ord_ex {n a : Nat} (hn : 2 ≤ n) (ha : Nat.gcd a n = 1) : ∃ o, pd_ord n a o := by
  obtain ⟨o, ⟨h1, h2⟩, h3⟩ := pk_least (fun e => 1 ≤ e ∧ a ^ e % n = 1) ⟨pd_phi n, pd_phi_pos (by omega), pd_euler hn ha⟩
  exact ⟨o, h1, h2, fun e a b c => h3 e b ⟨a, c⟩⟩
theorem pd_pow_mul_one {n a o : Nat} (hn : 2 ≤ n) (h : a ^ o % n = 1) (q : Nat) : a ^ (o * q) % n = 1 := by
  rw [Nat.pow_mul, Nat.pow_mod, h, Nat.one_pow, Nat.mod_eq_of_lt (by omega)]
theorem pd_ord_dvd {n a o e : Nat} (hn : 2 ≤ n) (ho : pd_ord n a o) : a ^ e % n = 1 ↔ o ∣ e := by
  constructor
  · intro h
    have h1 : a ^ (o * (e / o) + e % o) % n = 1 := by rw [Nat.div_add_mod]; exact h
    rw [Nat.pow_add, Nat.mul_mod, pd_pow_mul_one hn ho.2.1, Nat.one_mul, Nat.mod_mod] at h1
    rcases Nat.eq_zero_or_pos (e % o) with q | q
    · exact Nat.dvd_of_mod_eq_zero q
    · exact absurd h1 (ho.2.2 _ q (Nat.mod_lt _ ho.1))
  · rintro ⟨q, rfl⟩
    exact pd_pow_mul_one hn ho.2.1 q
/-- one step of the class's order: rest and result, by a prime p that divides rest -/
theorem pd_ord_step {n a o p rest res : Nat} (hn : 2 ≤ n) (ho : pd_ord n a o) (hp : pd_pr p) (hr : rest % p = 0) (h0 : 0 < rest) (hs : 0 < res)
    (h1 : o ∣ res) (h2 : res / o ∣ rest) (h3 : rest ∣ res) :
    0 < rest / p ∧ 0 < res / p ∧ rest / p ∣ rest ∧ (a ^ (res / p) % n = 1 → o ∣ res / p ∧ (res / p) / o ∣ rest / p ∧ rest / p ∣ res / p) ∧
    (¬ a ^ (res / p) % n = 1 → res / o ∣ rest / p ∧ rest / p ∣ res) := by
  have hp0 : 0 < p := by have := hp.1; omega
  obtain ⟨r, rfl⟩ := Nat.dvd_of_mod_eq_zero hr
  have hr0 : 0 < r := by
    rcases Nat.eq_zero_or_pos r with q | q
    · rw [q, Nat.mul_zero] at h0; omega
    · exact q
  obtain ⟨u, hu⟩ := h3
  have e1 : p * r / p = r := Nat.mul_div_cancel_left r hp0
  have hres : res = p * (r * u) := by rw [hu, Nat.mul_assoc]
  have e2 : res / p = r * u := by rw [hres]; exact Nat.mul_div_cancel_left _ hp0
  have hu0 : 0 < u := by
    rcases Nat.eq_zero_or_pos u with q | q
    · rw [hres, q, Nat.mul_zero, Nat.mul_zero] at hs; omega
    · exact q
  have hdv : r ∣ p * r := Nat.dvd_mul_left r p
  rw [e1, e2]
  obtain ⟨t, ht⟩ := h1
  have ho0 := ho.1
  have e3 : res / o = t := by rw [ht]; exact Nat.mul_div_cancel_left t ho0
  rw [e3] at h2 ⊢
  refine ⟨hr0, Nat.mul_pos hr0 hu0, hdv, ?_, ?_⟩
  · intro h
    have h4 : o ∣ r * u := (pd_ord_dvd hn ho).mp h
    obtain ⟨t', ht'⟩ := h4
    have h5 : t = p * t' := by
      have h6 : o * t = o * (p * t') := by
        rw [← ht, hres, ht', Nat.mul_left_comm]
      exact Nat.eq_of_mul_eq_mul_left ho0 h6
    refine ⟨⟨t', ht'⟩, ?_, Nat.dvd_mul_right r u⟩
    rw [ht', Nat.mul_div_cancel_left t' ho0]
    rw [h5] at h2
    exact Nat.dvd_of_mul_dvd_mul_left hp0 h2
  · intro h
    have h4 : ¬ p ∣ t := by
      rintro ⟨t', rfl⟩
      apply h
      refine (pd_ord_dvd hn ho).mpr ⟨t', ?_⟩
      have h6 : p * (r * u) = p * (o * t') := by rw [← hres, ht, Nat.mul_left_comm]
      exact Nat.eq_of_mul_eq_mul_left hp0 h6
    refine ⟨?_, ?_⟩
    · exact (pd_pr_cop hp h4).symm.dvd_of_dvd_mul_left h2
    · rw [hres]; exact Nat.dvd_trans (Nat.dvd_mul_right r u) (Nat.dvd_mul_left _ _)
theorem pd_ord_end {o res : Nat} (ho : 0 < o) (h1 : o ∣ res) (h2 : res / o ∣ 1) : res = o := by
  obtain ⟨t, rfl⟩ := h1
  rw [Nat.mul_div_cancel_left t ho] at h2
  rw [Nat.dvd_one.mp h2, Nat.mul_one]
/-- full order: no prime part of the group's size suffices -/
theorem pd_gen_iff {p g o : Nat} (hp : pd_pr p) (hg : ¬ g % p = 0) (ho : pd_ord p g o) : o = p - 1 ↔ ∀ q, pd_pr q → (p - 1) % q = 0 → ¬ g ^ ((p - 1) / q) % p = 1 := by
  have hp2 := hp.1
  have hd : o ∣ p - 1 := (pd_ord_dvd hp2 ho).mp (pd_fermat hp hg)
  constructor
  · intro e q hq hqd h
    have h1 := (pd_ord_dvd hp2 ho).mp h
    rw [e] at h1
    have hpos : 0 < (p - 1) / q := Nat.div_pos (Nat.le_of_dvd (by omega) (Nat.dvd_of_mod_eq_zero hqd)) (by have := hq.1; omega)
    have hle := Nat.le_of_dvd hpos h1
    have hlt : (p - 1) / q < p - 1 := Nat.div_lt_self (by omega) hq.1
    omega
  · intro h
    obtain ⟨t, ht⟩ := hd
    rcases Nat.lt_or_ge t 2 with q | q
    · have h01 : t = 0 ∨ t = 1 := by omega
      rcases h01 with e | e
      · rw [e, Nat.mul_zero] at ht; omega
      · rw [e, Nat.mul_one] at ht; exact ht.symm
    · obtain ⟨q, hq, ⟨r, hr⟩⟩ := pd_ex_pr q
      have hq0 : 0 < q := by have := hq.1; omega
      have e1 : p - 1 = q * (o * r) := by rw [ht, hr, Nat.mul_left_comm]
      refine absurd ((pd_ord_dvd hp2 ho).mpr ⟨r, ?_⟩) (h q hq (by rw [e1]; exact Nat.mul_mod_right q _))
      rw [e1]; exact Nat.mul_div_cancel_left _ hq0
end
section
/-! M8: square roots of rests -/
theorem pd_mm (p a b : Nat) : (a % p) * (b % p) % p = a * b % p := (Nat.mul_mod a b p).symm
theorem pd_e_mul {p a b c d : Nat} (h1 : a % p = b % p) (h2 : c % p = d % p) : a * c % p = b * d % p := by
  rw [Nat.mul_mod a c, Nat.mul_mod b d, h1, h2]
theorem pd_e_pow {p a b : Nat} (h : a % p = b % p) (k : Nat) : a ^ k % p = b ^ k % p := by
  rw [Nat.pow_mod a, Nat.pow_mod b, h]
theorem pd_neg_sq {p : Nat} (hp : 2 ≤ p) : (p - 1) * (p - 1) % p = 1 := by
  obtain ⟨q, rfl⟩ : ∃ q, p = q + 2 := ⟨p - 2, by omega⟩
  have e : (q + 2 - 1) * (q + 2 - 1) = (q + 2) * q + 1 := by
    show (q + 1) * (q + 1) = (q + 2) * q + 1
    rw [Nat.add_mul, Nat.mul_add, Nat.add_mul q 2 q]; omega
  rw [e, Nat.mul_add_mod, Nat.mod_eq_of_lt (by omega)]
/-- two roots at most -/
theorem pd_two {p x y : Nat} (hp : pd_pr p) (hx : x < p) (hy : y < p) (h : x * x % p = y * y % p) : x = y ∨ x + y = p := by
  have key : ∀ u v : Nat, u ≤ v → v < p → u * u % p = v * v % p → u = v ∨ u + v = p := by
    intro u v huv hv h
    have h1 : (v * v - u * u) % p = 0 := Nat.sub_mod_eq_zero_of_mod_eq h.symm
    have h2 : v * v - u * u = (v + u) * (v - u) := by
      obtain ⟨d, rfl⟩ : ∃ d, v = u + d := ⟨v - u, by omega⟩
      have e1 : u + d - u = d := by omega
      rw [e1]
      have e2 : (u + d) * (u + d) = u * u + (u + d + u) * d := by
        rw [Nat.add_mul, Nat.mul_add, Nat.mul_add, Nat.add_mul (u + d), Nat.add_mul u d d, Nat.mul_comm d u]; omega
      rw [e2]; omega
    rw [h2] at h1
    rcases pd_euclid hp (Nat.dvd_of_mod_eq_zero h1) with q | q
    · rcases Nat.eq_zero_or_pos (v + u) with e | e
      · left; omega
      · obtain ⟨k, hk⟩ := q
        have hk1 : k = 1 := by
          rcases Nat.lt_or_ge k 2 with c | c
          · have : k = 0 ∨ k = 1 := by omega
            rcases this with e0 | e0
            · rw [e0, Nat.mul_zero] at hk; omega
            · exact e0
          · have := Nat.mul_le_mul (Nat.le_refl p) c
            omega
        right
        rw [hk1, Nat.mul_one] at hk; omega
    · left
      rcases Nat.eq_zero_or_pos (v - u) with e | e
      · omega
      · have := Nat.le_of_dvd e q
        omega
  rcases Nat.le_total x y with q | q
  · exact key x y q hy h
  · rcases key y x q hx h.symm with e | e
    · exact Or.inl e.symm
    · exact Or.inr (by omega)
theorem pd_sq1 {p x : Nat} (hp : pd_pr p) (h : x * x % p = 1) : x % p = 1 ∨ x % p = p - 1 := by
  have h2 := hp.1
  have h1 : (x % p) * (x % p) % p = 1 * 1 % p := by
    rw [pd_mm, h]
    show 1 = 1 % p
    rw [Nat.mod_eq_of_lt (by omega)]
  rcases pd_two hp (Nat.mod_lt x (by omega)) (show 1 < p by omega) h1 with e | e
  · exact Or.inl e
  · exact Or.inr (by omega)
theorem pd_half {p x : Nat} (hp : pd_pr p) (h3 : 3 ≤ p) (hx : ¬ x % p = 0) (h : ¬ x ^ ((p - 1) / 2) % p = 1) : x ^ ((p - 1) / 2) % p = p - 1 := by
  have hodd : p % 2 = 1 := by
    rcases Nat.mod_two_eq_zero_or_one p with e | e
    · exact absurd e (hp.2 2 (Nat.le_refl 2) (by omega))
    · exact e
  have h1 : x ^ ((p - 1) / 2) * x ^ ((p - 1) / 2) % p = 1 := by
    rw [← Nat.pow_add, show (p - 1) / 2 + (p - 1) / 2 = p - 1 by omega]
    exact pd_fermat hp hx
  rcases pd_sq1 hp h1 with e | e
  · exact absurd e h
  · exact e
theorem pd_ppow (x a b : Nat) : (x ^ (2 ^ a)) ^ (2 ^ b) = x ^ (2 ^ (a + b)) := by
  rw [← Nat.pow_mul, ← Nat.pow_add]
theorem pd_psq (x a : Nat) : x ^ (2 ^ a) * x ^ (2 ^ a) = x ^ (2 ^ (a + 1)) := by
  rw [← Nat.pow_add, ← Nat.two_mul, Nat.pow_succ, Nat.mul_comm]
/-- the loop's invariant -/
def pd_ts (p a size off hel root : Nat) : Prop := 1 ≤ size ∧ root * root % p = a * off % p ∧ off ^ (2 ^ (size - 1)) % p = 1 ∧ hel ^ (2 ^ (size - 1)) % p = p - 1
/-- k: how often off must be squared to come to 1 -/
def pd_lp (p off k : Nat) : Prop := off ^ (2 ^ k) % p = 1 ∧ ∀ j, j < k → ¬ off ^ (2 ^ j) % p = 1
theorem pd_lp_ex {p off size : Nat} (h : off ^ (2 ^ (size - 1)) % p = 1) : ∃ k, pd_lp p off k ∧ k ≤ size - 1 := by
  obtain ⟨k, h1, h2⟩ := pk_least (fun k => off ^ (2 ^ k) % p = 1) ⟨size - 1, h⟩
  refine ⟨k, ⟨h1, h2⟩, ?_⟩
  rcases Nat.lt_or_ge (size - 1) k with q | q
  · exact absurd h (h2 _ q)
  · exact q
theorem pd_ts_step {p a size off hel root k fac : Nat} (hp : pd_pr p) (h : pd_ts p a size off hel root) (hk : pd_lp p off k) (hk1 : 1 ≤ k) (hks : k ≤ size - 1)
    (hf : fac % p = hel ^ (2 ^ (size - k - 1)) % p) : pd_ts p a k (off * (fac * fac % p) % p) (fac * fac % p) (root * fac % p) := by
  obtain ⟨hs, h1, h2, h3⟩ := h
  have hh : (fac * fac % p) ^ (2 ^ (k - 1)) % p = p - 1 := by
    rw [← Nat.pow_mod, pd_e_pow (pd_e_mul hf hf), pd_psq, show size - k - 1 + 1 = size - k by omega, pd_ppow, show size - k + (k - 1) = size - 1 by omega]
    exact h3
  have ho : off ^ (2 ^ (k - 1)) % p = p - 1 := by
    have h4 : off ^ (2 ^ (k - 1)) * off ^ (2 ^ (k - 1)) % p = 1 := by
      rw [pd_psq, show k - 1 + 1 = k by omega]
      exact hk.1
    rcases pd_sq1 hp h4 with e | e
    · exact absurd e (hk.2 (k - 1) (by omega))
    · exact e
  refine ⟨hk1, ?_, ?_, hh⟩
  · rw [pd_mm, Nat.mul_mod_mod]
    have e1 : root * fac * (root * fac) = root * root * (fac * fac) := by rw [Nat.mul_assoc, Nat.mul_left_comm fac, ← Nat.mul_assoc, ← Nat.mul_assoc, Nat.mul_assoc (root * root)]
    have e2 : a * (off * (fac * fac % p)) % p = a * off * (fac * fac) % p := by rw [← Nat.mul_assoc, Nat.mul_mod_mod]
    rw [e1, e2]
    exact pd_e_mul h1 rfl
  · rw [← Nat.pow_mod, Nat.mul_pow, Nat.mul_mod, hh, ho]
    exact pd_neg_sq hp.1
theorem pd_ts_start {p a odd twos oth : Nat} (hp : pd_pr p) (h3 : 3 ≤ p) (ht : 1 ≤ twos) (hodd : odd * 2 ^ twos = p - 1) (ho : odd % 2 = 1)
    (ha : a ^ ((p - 1) / 2) % p = 1) (hoth : ¬ oth % p = 0) (hn : ¬ oth ^ ((p - 1) / 2) % p = 1) :
    pd_ts p a twos (a ^ odd % p) (oth ^ odd % p) (a ^ ((odd + 1) / 2) % p) := by
  have e : odd * 2 ^ (twos - 1) = (p - 1) / 2 := by
    rw [← hodd]
    obtain ⟨t, rfl⟩ : ∃ t, twos = t + 1 := ⟨twos - 1, by omega⟩
    rw [Nat.pow_succ, ← Nat.mul_assoc, Nat.mul_div_cancel _ (by decide)]
    rfl
  refine ⟨ht, ?_, ?_, ?_⟩
  · rw [pd_mm, Nat.mul_mod_mod, ← Nat.pow_add, show (odd + 1) / 2 + (odd + 1) / 2 = odd + 1 by omega, Nat.pow_succ, Nat.mul_comm]
  · rw [← Nat.pow_mod, ← Nat.pow_mul, e]; exact ha
  · rw [← Nat.pow_mod, ← Nat.pow_mul, e]; exact pd_half hp h3 hoth hn
/-- the least root -/
def pd_rt (n a x : Nat) : Prop := x < n ∧ x * x % n = a % n ∧ ∀ y, y < x → ¬ y * y % n = a % n
theorem pd_rt_of {p a x : Nat} (hp : pd_pr p) (ha : ¬ a % p = 0) (hx : x < p) (h : x * x % p = a % p) : pd_rt p a (if x ≤ p - x then x else p - x) := by
  have hx0 : 0 < x := by
    rcases Nat.eq_zero_or_pos x with q | q
    · rw [q, Nat.zero_mul, Nat.zero_mod] at h; exact absurd h.symm ha
    · exact q
  have h2 : (p - x) * (p - x) % p = a % p := by
    obtain ⟨d, rfl⟩ : ∃ d, p = x + d := ⟨p - x, by omega⟩
    rw [show x + d - x = d by omega]
    have e1 : d * d + (x + d) * x = x * x + (x + d) * d := by
      rw [Nat.add_mul, Nat.add_mul, Nat.mul_comm d x]; omega
    have e2 : (d * d + (x + d) * x) % (x + d) = d * d % (x + d) := Nat.add_mul_mod_self_left _ _ _
    have e3 : (x * x + (x + d) * d) % (x + d) = x * x % (x + d) := Nat.add_mul_mod_self_left _ _ _
    rw [← e2, e1, e3]; exact h
  have h3 : ∀ y, y < p → y * y % p = a % p → y = x ∨ y + x = p := fun y hy e => pd_two hp hy hx (e.trans h.symm)
  by_cases hc : x ≤ p - x
  · rw [if_pos hc]
    refine ⟨hx, h, fun y hy e => ?_⟩
    rcases h3 y (by omega) e with q | q <;> omega
  · rw [if_neg hc]
    refine ⟨by omega, h2, fun y hy e => ?_⟩
    rcases h3 y (by omega) e with q | q <;> omega
theorem pd_rt_no {p a y : Nat} (hp : pd_pr p) (h3 : 3 ≤ p) (ha : ¬ a % p = 0) (h : ¬ a ^ ((p - 1) / 2) % p = 1) : ¬ y * y % p = a % p := by
  intro e
  have hodd : p % 2 = 1 := by
    rcases Nat.mod_two_eq_zero_or_one p with e | e
    · exact absurd e (hp.2 2 (Nat.le_refl 2) (by omega))
    · exact e
  have hy : ¬ y % p = 0 := by
    intro hy
    rw [Nat.mul_mod, hy, Nat.zero_mul, Nat.zero_mod] at e
    exact ha e.symm
  apply h
  rw [← pd_e_pow e, Nat.mul_pow, ← Nat.pow_add, show (p - 1) / 2 + (p - 1) / 2 = p - 1 by omega]
  exact pd_fermat hp hy
theorem pd_rt_uniq {n a x y : Nat} (h1 : pd_rt n a x) (h2 : pd_rt n a y) : x = y := by
  rcases Nat.lt_trichotomy x y with q | q | q
  · exact absurd h1.2.1 (h2.2.2 x q)
  · exact q
  · exact absurd h2.2.1 (h1.2.2 y q)
end
section
/-! M2, M7: what the kernel computes: the prime test up to 30719, gaps, rests that are no squares, generators -/
noncomputable def pd_sq (n k : Nat) : Nat → Bool := Nat.rec (motive := fun _ => Nat → Bool) (fun _ => false) (fun _ ih x => cond (Nat.beq x (Nat.sub n 1)) true (ih (Nat.mod (Nat.mul x x) n))) k
theorem pd_sq_0 (n x : Nat) : pd_sq n 0 x = false := rfl
theorem pd_sq_s (n k x : Nat) : pd_sq n (k + 1) x = cond (Nat.beq x (n - 1)) true (pd_sq n k (x * x % n)) := rfl
noncomputable def pd_mrs (n b f : Nat) : Nat → Nat → Bool := Nat.rec (motive := fun _ => Nat → Nat → Bool) (fun _ _ => false) (fun _ ih m t => cond (Nat.beq (Nat.mod m 2) 0) (ih (Nat.div m 2) (Nat.add t 1)) (cond (Nat.beq (Nat.mod (Nat.pow b m) n) 1) true (pd_sq n t (Nat.mod (Nat.pow b m) n)))) f
theorem pd_mrs_s (n b f m t : Nat) : pd_mrs n b (f + 1) m t = cond (Nat.beq (m % 2) 0) (pd_mrs n b f (m / 2) (t + 1)) (cond (Nat.beq (b ^ m % n) 1) true (pd_sq n t (b ^ m % n))) := rfl
noncomputable def pd_mr (n b : Nat) : Bool := pd_mrs n b 16 (Nat.sub n 1) 0
noncomputable def pd_pt (n : Nat) : Bool := cond (Nat.ble 4 n) (cond (Nat.beq (Nat.mod n 2) 0) false (cond (Nat.beq (Nat.mod n 3) 0) false (cond (pd_mr n 2) (pd_mr n 3) false))) (Nat.ble 2 n)
noncomputable def pd_rng (P : Nat → Bool) (k : Nat) : Nat → Bool := Nat.rec (motive := fun _ => Nat → Bool) (fun lo => P lo) (fun k ih lo => cond (ih lo) (ih (Nat.add lo (Nat.pow 2 k))) false) k
theorem pd_rng_ok (P : Nat → Bool) : ∀ k lo, pd_rng P k lo = true → ∀ n, lo ≤ n → n < lo + 2 ^ k → P n = true := by
  intro k
  induction k with
  | zero =>
    intro lo h n h1 h2
    have e : n = lo := by rw [Nat.pow_zero] at h2; omega
    rw [e]; exact h
  | succ k ih =>
    intro lo h n h1 h2
    have h3 : cond (pd_rng P k lo) (pd_rng P k (lo + 2 ^ k)) false = true := h
    cases h4 : pd_rng P k lo with
    | false => rw [h4] at h3; cases h3
    | true =>
      rw [h4] at h3
      rw [Nat.pow_succ] at h2
      rcases Nat.lt_or_ge n (lo + 2 ^ k) with q | q
      · exact ih lo h4 n h1 q
      · exact ih (lo + 2 ^ k) h3 n q (by omega)
noncomputable def pd_any (P : Nat → Bool) (k : Nat) : Nat → Bool := Nat.rec (motive := fun _ => Nat → Bool) (fun _ => false) (fun _ ih x => cond (P x) true (ih (Nat.add x 1))) k
theorem pd_any_ok (P : Nat → Bool) : ∀ k x, pd_any P k x = true → ∃ y, x ≤ y ∧ y < x + k ∧ P y = true := by
  intro k
  induction k with
  | zero => intro x h; cases h
  | succ k ih =>
    intro x h
    have h3 : cond (P x) true (pd_any P k (x + 1)) = true := h
    cases h4 : P x with
    | true => exact ⟨x, Nat.le_refl x, by omega, h4⟩
    | false =>
      rw [h4] at h3
      obtain ⟨y, h5, h6, h7⟩ := ih (x + 1) h3
      exact ⟨y, by omega, by omega, h7⟩
/-- the prime test is trial division -/
noncomputable def pd_c1 (n : Nat) : Bool := cond (pd_pt n) (pd_isp n) (cond (pd_isp n) false true)
noncomputable def pd_c2 (j : Nat) : Bool := pd_any pd_pt 64 (Nat.add (Nat.mul 8 j) 1)
noncomputable def pd_c3 (n : Nat) : Bool := cond (Nat.ble 3 n) (cond (pd_pt n) (pd_any (fun k => cond (Nat.ble n k) false (cond (Nat.beq (Nat.mod (Nat.pow k (Nat.div (Nat.sub n 1) 2)) n) 1) false true)) 60 2) true) true
noncomputable def pd_gn (n g f : Nat) : Nat → Nat → Bool := Nat.rec (motive := fun _ => Nat → Nat → Bool) (fun _ _ => false) (fun _ ih rest p => cond (Nat.ble rest 1) true (cond (Nat.ble (Nat.mul p p) rest) (cond (Nat.beq (Nat.mod rest p) 0) (cond (Nat.beq (Nat.mod (Nat.pow g (Nat.div (Nat.sub n 1) p)) n) 1) false (ih (Nat.div rest p) p)) (ih rest (Nat.add p 1))) (cond (Nat.beq (Nat.mod (Nat.pow g (Nat.div (Nat.sub n 1) rest)) n) 1) false true))) f
noncomputable def pd_c4 (n : Nat) : Bool := cond (Nat.ble 3 n) (cond (pd_pt n) (pd_any (fun g => cond (Nat.ble n g) false (pd_gn n g 300 (Nat.sub n 1) 2)) 60 2) true) true
theorem pd_c1_0 : pd_rng pd_c1 11 0 = true := by decide +kernel
theorem pd_c1_1 : pd_rng pd_c1 11 2048 = true := by decide +kernel
theorem pd_c1_2 : pd_rng pd_c1 11 4096 = true := by decide +kernel
theorem pd_c1_3 : pd_rng pd_c1 11 6144 = true := by decide +kernel
theorem pd_c1_4 : pd_rng pd_c1 11 8192 = true := by decide +kernel
theorem pd_c1_5 : pd_rng pd_c1 11 10240 = true := by decide +kernel
theorem pd_c1_6 : pd_rng pd_c1 11 12288 = true := by decide +kernel
theorem pd_c1_7 : pd_rng pd_c1 11 14336 = true := by decide +kernel
theorem pd_c1_8 : pd_rng pd_c1 11 16384 = true := by decide +kernel
theorem pd_c1_9 : pd_rng pd_c1 11 18432 = true := by decide +kernel
theorem pd_c1_10 : pd_rng pd_c1 11 20480 = true := by decide +kernel
theorem pd_c1_11 : pd_rng pd_c1 11 22528 = true := by decide +kernel
theorem pd_c1_12 : pd_rng pd_c1 11 24576 = true := by decide +kernel
theorem pd_c1_13 : pd_rng pd_c1 11 26624 = true := by decide +kernel
theorem pd_c1_14 : pd_rng pd_c1 11 28672 = true := by decide +kernel
theorem pd_c3_0 : pd_rng pd_c3 11 0 = true := by decide +kernel
theorem pd_c3_1 : pd_rng pd_c3 11 2048 = true := by decide +kernel
theorem pd_c3_2 : pd_rng pd_c3 11 4096 = true := by decide +kernel
theorem pd_c3_3 : pd_rng pd_c3 11 6144 = true := by decide +kernel
theorem pd_c3_4 : pd_rng pd_c3 11 8192 = true := by decide +kernel
theorem pd_c3_5 : pd_rng pd_c3 11 10240 = true := by decide +kernel
theorem pd_c3_6 : pd_rng pd_c3 11 12288 = true := by decide +kernel
theorem pd_c3_7 : pd_rng pd_c3 11 14336 = true := by decide +kernel
theorem pd_c3_8 : pd_rng pd_c3 11 16384 = true := by decide +kernel
theorem pd_c3_9 : pd_rng pd_c3 11 18432 = true := by decide +kernel
theorem pd_c3_10 : pd_rng pd_c3 11 20480 = true := by decide +kernel
theorem pd_c3_11 : pd_rng pd_c3 11 22528 = true := by decide +kernel
theorem pd_c3_12 : pd_rng pd_c3 11 24576 = true := by decide +kernel
theorem pd_c3_13 : pd_rng pd_c3 11 26624 = true := by decide +kernel
theorem pd_c3_14 : pd_rng pd_c3 11 28672 = true := by decide +kernel
theorem pd_c4_0 : pd_rng pd_c4 11 0 = true := by decide +kernel
theorem pd_c4_1 : pd_rng pd_c4 11 2048 = true := by decide +kernel
theorem pd_c4_2 : pd_rng pd_c4 11 4096 = true := by decide +kernel
theorem pd_c4_3 : pd_rng pd_c4 11 6144 = true := by decide +kernel
theorem pd_c4_4 : pd_rng pd_c4 11 8192 = true := by decide +kernel
theorem pd_c4_5 : pd_rng pd_c4 11 10240 = true := by decide +kernel
theorem pd_c4_6 : pd_rng pd_c4 11 12288 = true := by decide +kernel
theorem pd_c4_7 : pd_rng pd_c4 11 14336 = true := by decide +kernel
theorem pd_c4_8 : pd_rng pd_c4 11 16384 = true := by decide +kernel
theorem pd_c4_9 : pd_rng pd_c4 11 18432 = true := by decide +kernel
theorem pd_c4_10 : pd_rng pd_c4 11 20480 = true := by decide +kernel
theorem pd_c4_11 : pd_rng pd_c4 11 22528 = true := by decide +kernel
theorem pd_c4_12 : pd_rng pd_c4 11 24576 = true := by decide +kernel
theorem pd_c4_13 : pd_rng pd_c4 11 26624 = true := by decide +kernel
theorem pd_c4_14 : pd_rng pd_c4 11 28672 = true := by decide +kernel
theorem pd_c2_0 : pd_rng pd_c2 11 0 = true := by decide +kernel
theorem pd_c2_1 : pd_rng pd_c2 10 2048 = true := by decide +kernel
theorem pd_c2_2 : pd_rng pd_c2 9 3072 = true := by decide +kernel
theorem pd_c2_3 : pd_rng pd_c2 7 3584 = true := by decide +kernel
theorem pd_c2_4 : pd_rng pd_c2 6 3712 = true := by decide +kernel
theorem pd_c1_all {n : Nat} (h : n < 30720) : pd_c1 n = true := by
  rcases Nat.lt_or_ge n 2048 with q0 | q0
  · exact pd_rng_ok pd_c1 11 0 pd_c1_0 n (by omega) (by omega)
  rcases Nat.lt_or_ge n 4096 with q1 | q1
  · exact pd_rng_ok pd_c1 11 2048 pd_c1_1 n (by omega) (by omega)
  rcases Nat.lt_or_ge n 6144 with q2 | q2
  · exact pd_rng_ok pd_c1 11 4096 pd_c1_2 n (by omega) (by omega)
  rcases Nat.lt_or_ge n 8192 with q3 | q3
  · exact pd_rng_ok pd_c1 11 6144 pd_c1_3 n (by omega) (by omega)
  rcases Nat.lt_or_ge n 10240 with q4 | q4
  · exact pd_rng_ok pd_c1 11 8192 pd_c1_4 n (by omega) (by omega)
  rcases Nat.lt_or_ge n 12288 with q5 | q5
  · exact pd_rng_ok pd_c1 11 10240 pd_c1_5 n (by omega) (by omega)
  rcases Nat.lt_or_ge n 14336 with q6 | q6
  · exact pd_rng_ok pd_c1 11 12288 pd_c1_6 n (by omega) (by omega)
  rcases Nat.lt_or_ge n 16384 with q7 | q7
  · exact pd_rng_ok pd_c1 11 14336 pd_c1_7 n (by omega) (by omega)
  rcases Nat.lt_or_ge n 18432 with q8 | q8
  · exact pd_rng_ok pd_c1 11 16384 pd_c1_8 n (by omega) (by omega)
  rcases Nat.lt_or_ge n 20480 with q9 | q9
  · exact pd_rng_ok pd_c1 11 18432 pd_c1_9 n (by omega) (by omega)
  rcases Nat.lt_or_ge n 22528 with q10 | q10
  · exact pd_rng_ok pd_c1 11 20480 pd_c1_10 n (by omega) (by omega)
  rcases Nat.lt_or_ge n 24576 with q11 | q11
  · exact pd_rng_ok pd_c1 11 22528 pd_c1_11 n (by omega) (by omega)
  rcases Nat.lt_or_ge n 26624 with q12 | q12
  · exact pd_rng_ok pd_c1 11 24576 pd_c1_12 n (by omega) (by omega)
  rcases Nat.lt_or_ge n 28672 with q13 | q13
  · exact pd_rng_ok pd_c1 11 26624 pd_c1_13 n (by omega) (by omega)
  exact pd_rng_ok pd_c1 11 28672 pd_c1_14 n (by omega) (by omega)
theorem pd_c3_all {n : Nat} (h : n < 30720) : pd_c3 n = true := by
  rcases Nat.lt_or_ge n 2048 with q0 | q0
  · exact pd_rng_ok pd_c3 11 0 pd_c3_0 n (by omega) (by omega)
  rcases Nat.lt_or_ge n 4096 with q1 | q1
  · exact pd_rng_ok pd_c3 11 2048 pd_c3_1 n (by omega) (by omega)
  rcases Nat.lt_or_ge n 6144 with q2 | q2
  · exact pd_rng_ok pd_c3 11 4096 pd_c3_2 n (by omega) (by omega)
  rcases Nat.lt_or_ge n 8192 with q3 | q3
  · exact pd_rng_ok pd_c3 11 6144 pd_c3_3 n (by omega) (by omega)
  rcases Nat.lt_or_ge n 10240 with q4 | q4
  · exact pd_rng_ok pd_c3 11 8192 pd_c3_4 n (by omega) (by omega)
  rcases Nat.lt_or_ge n 12288 with q5 | q5
  · exact pd_rng_ok pd_c3 11 10240 pd_c3_5 n (by omega) (by omega)
  rcases Nat.lt_or_ge n 14336 with q6 | q6
  · exact pd_rng_ok pd_c3 11 12288 pd_c3_6 n (by omega) (by omega)
  rcases Nat.lt_or_ge n 16384 with q7 | q7
  · exact pd_rng_ok pd_c3 11 14336 pd_c3_7 n (by omega) (by omega)
  rcases Nat.lt_or_ge n 18432 with q8 | q8
  · exact pd_rng_ok pd_c3 11 16384 pd_c3_8 n (by omega) (by omega)
  rcases Nat.lt_or_ge n 20480 with q9 | q9
  · exact pd_rng_ok pd_c3 11 18432 pd_c3_9 n (by omega) (by omega)
  rcases Nat.lt_or_ge n 22528 with q10 | q10
  · exact pd_rng_ok pd_c3 11 20480 pd_c3_10 n (by omega) (by omega)
  rcases Nat.lt_or_ge n 24576 with q11 | q11
  · exact pd_rng_ok pd_c3 11 22528 pd_c3_11 n (by omega) (by omega)
  rcases Nat.lt_or_ge n 26624 with q12 | q12
  · exact pd_rng_ok pd_c3 11 24576 pd_c3_12 n (by omega) (by omega)
  rcases Nat.lt_or_ge n 28672 with q13 | q13
  · exact pd_rng_ok pd_c3 11 26624 pd_c3_13 n (by omega) (by omega)
  exact pd_rng_ok pd_c3 11 28672 pd_c3_14 n (by omega) (by omega)
theorem pd_c4_all {n : Nat} (h : n < 30720) : pd_c4 n = true := by
  rcases Nat.lt_or_ge n 2048 with q0 | q0
  · exact pd_rng_ok pd_c4 11 0 pd_c4_0 n (by omega) (by omega)
  rcases Nat.lt_or_ge n 4096 with q1 | q1
  · exact pd_rng_ok pd_c4 11 2048 pd_c4_1 n (by omega) (by omega)
  rcases Nat.lt_or_ge n 6144 with q2 | q2
  · exact pd_rng_ok pd_c4 11 4096 pd_c4_2 n (by omega) (by omega)
  rcases Nat.lt_or_ge n 8192 with q3 | q3
  · exact pd_rng_ok pd_c4 11 6144 pd_c4_3 n (by omega) (by omega)
  rcases Nat.lt_or_ge n 10240 with q4 | q4
  · exact pd_rng_ok pd_c4 11 8192 pd_c4_4 n (by omega) (by omega)
  rcases Nat.lt_or_ge n 12288 with q5 | q5
  · exact pd_rng_ok pd_c4 11 10240 pd_c4_5 n (by omega) (by omega)
  rcases Nat.lt_or_ge n 14336 with q6 | q6
  · exact pd_rng_ok pd_c4 11 12288 pd_c4_6 n (by omega) (by omega)
  rcases Nat.lt_or_ge n 16384 with q7 | q7
  · exact pd_rng_ok pd_c4 11 14336 pd_c4_7 n (by omega) (by omega)
  rcases Nat.lt_or_ge n 18432 with q8 | q8
  · exact pd_rng_ok pd_c4 11 16384 pd_c4_8 n (by omega) (by omega)
  rcases Nat.lt_or_ge n 20480 with q9 | q9
  · exact pd_rng_ok pd_c4 11 18432 pd_c4_9 n (by omega) (by omega)
  rcases Nat.lt_or_ge n 22528 with q10 | q10
  · exact pd_rng_ok pd_c4 11 20480 pd_c4_10 n (by omega) (by omega)
  rcases Nat.lt_or_ge n 24576 with q11 | q11
  · exact pd_rng_ok pd_c4 11 22528 pd_c4_11 n (by omega) (by omega)
  rcases Nat.lt_or_ge n 26624 with q12 | q12
  · exact pd_rng_ok pd_c4 11 24576 pd_c4_12 n (by omega) (by omega)
  rcases Nat.lt_or_ge n 28672 with q13 | q13
  · exact pd_rng_ok pd_c4 11 26624 pd_c4_13 n (by omega) (by omega)
  exact pd_rng_ok pd_c4 11 28672 pd_c4_14 n (by omega) (by omega)
theorem pd_c2_all {n : Nat} (h : n < 3776) : pd_c2 n = true := by
  rcases Nat.lt_or_ge n 2048 with q0 | q0
  · exact pd_rng_ok pd_c2 11 0 pd_c2_0 n (by omega) (by omega)
  rcases Nat.lt_or_ge n 3072 with q1 | q1
  · exact pd_rng_ok pd_c2 10 2048 pd_c2_1 n (by omega) (by omega)
  rcases Nat.lt_or_ge n 3584 with q2 | q2
  · exact pd_rng_ok pd_c2 9 3072 pd_c2_2 n (by omega) (by omega)
  rcases Nat.lt_or_ge n 3712 with q3 | q3
  · exact pd_rng_ok pd_c2 7 3584 pd_c2_3 n (by omega) (by omega)
  exact pd_rng_ok pd_c2 6 3712 pd_c2_4 n (by omega) (by omega)
end
section
/-! what the tables say -/
theorem pd_beq_f {a b : Nat} (h : ¬ a = b) : Nat.beq a b = false := by
  cases hb : Nat.beq a b
  · rfl
  · exact absurd (Nat.beq_eq.mp hb) h
theorem pd_beq_t {a b : Nat} (h : a = b) : Nat.beq a b = true := Nat.beq_eq.mpr h
theorem pd_ble_t {a b : Nat} (h : a ≤ b) : Nat.ble a b = true := Nat.ble_eq.mpr h
theorem pd_ble_f {a b : Nat} (h : b < a) : Nat.ble a b = false := by
  cases hb : Nat.ble a b
  · rfl
  · have := Nat.ble_eq.mp hb; omega
theorem pd_pt_isp {n : Nat} (h : n < 30720) : pd_pt n = pd_isp n := by
  have h1 : cond (pd_pt n) (pd_isp n) (cond (pd_isp n) false true) = true := pd_c1_all h
  cases h2 : pd_pt n <;> cases h3 : pd_isp n <;> rw [h2, h3] at h1 <;> first | rfl | cases h1
theorem pd_pt_pr {n : Nat} (h : n < 30720) : pd_pt n = true ↔ pd_pr n := by
  rw [pd_pt_isp h]; exact pd_isp_ok n
theorem pd_next {n : Nat} (h : n ≤ 30000) : ∃ q, n < q ∧ q ≤ n + 72 ∧ pd_pr q ∧ ∀ j, n < j → j < q → ¬ pd_pr j := by
  have h1 : ∃ q, n < q ∧ q ≤ n + 72 ∧ pd_pr q := by
    obtain ⟨y, a, b, c⟩ := pd_any_ok pd_pt 64 _ (pd_c2_all (n := (n + 7) / 8) (by omega))
    have a1 : 8 * ((n + 7) / 8) + 1 ≤ y := a
    have b1 : y < 8 * ((n + 7) / 8) + 1 + 64 := b
    exact ⟨y, by omega, by omega, (pd_pt_pr (by omega)).mp c⟩
  obtain ⟨q, hq, hl⟩ := pk_least (fun q => n < q ∧ pd_pr q) (by obtain ⟨q, a, -, b⟩ := h1; exact ⟨q, a, b⟩)
  obtain ⟨q', a, b, c⟩ := h1
  refine ⟨q, hq.1, ?_, hq.2, fun j x y z => hl j y ⟨x, z⟩⟩
  rcases Nat.lt_or_ge q' q with e | e
  · exact absurd ⟨a, c⟩ (hl q' e)
  · omega
theorem pd_nonres {p : Nat} (h : p < 30720) (hp : pd_pr p) (h3 : 3 ≤ p) : ∃ k, 2 ≤ k ∧ k < p ∧ ¬ k ^ ((p - 1) / 2) % p = 1 ∧ ∀ j, 2 ≤ j → j < k → j ^ ((p - 1) / 2) % p = 1 := by
  have h1 : cond (Nat.ble 3 p) (cond (pd_pt p) (pd_any (fun k => cond (Nat.ble p k) false (cond (Nat.beq (k ^ ((p - 1) / 2) % p) 1) false true)) 60 2) true) true = true := pd_c3_all h
  rw [pd_ble_t h3, (pd_pt_pr h).mpr hp] at h1
  obtain ⟨y, a, -, c⟩ := pd_any_ok (fun k => cond (Nat.ble p k) false (cond (Nat.beq (k ^ ((p - 1) / 2) % p) 1) false true)) 60 2 h1
  have c : cond (Nat.ble p y) false (cond (Nat.beq (y ^ ((p - 1) / 2) % p) 1) false true) = true := c
  have hy : y < p ∧ ¬ y ^ ((p - 1) / 2) % p = 1 := by
    rcases Nat.lt_or_ge y p with q | q
    · refine ⟨q, fun e => ?_⟩
      rw [pd_ble_f q, pd_beq_t e] at c
      cases c
    · rw [pd_ble_t q] at c
      cases c
  obtain ⟨k, ⟨k1, k2⟩, kl⟩ := pk_least (fun k => 2 ≤ k ∧ ¬ k ^ ((p - 1) / 2) % p = 1) ⟨y, a, hy.2⟩
  refine ⟨k, k1, ?_, k2, fun j x z => ?_⟩
  · rcases Nat.lt_or_ge y k with q | q
    · exact absurd ⟨a, hy.2⟩ (kl y q)
    · omega
  · rcases Nat.decEq (j ^ ((p - 1) / 2) % p) 1 with q | q
    · exact absurd ⟨x, q⟩ (kl j z)
    · exact q
theorem pd_gn_s (n g f rest p : Nat) : pd_gn n g (f + 1) rest p = cond (Nat.ble rest 1) true (cond (Nat.ble (p * p) rest) (cond (Nat.beq (rest % p) 0) (cond (Nat.beq (g ^ ((n - 1) / p) % n) 1) false (pd_gn n g f (rest / p) p)) (pd_gn n g f rest (p + 1))) (cond (Nat.beq (g ^ ((n - 1) / rest) % n) 1) false true)) := rfl
theorem pd_gn_ok {n g : Nat} : ∀ f rest p, 0 < rest → 2 ≤ p → (∀ d, 2 ≤ d → d < p → ¬ rest % d = 0) → pd_gn n g f rest p = true → ∀ q, pd_pr q → q ∣ rest → ¬ g ^ ((n - 1) / q) % n = 1 := by
  intro f
  induction f with
  | zero => intro rest p _ _ _ h; cases h
  | succ f ih =>
    intro rest p h0 hp hl h q hq hqd
    rw [pd_gn_s] at h
    rcases Nat.lt_or_ge 1 rest with r1 | r1
    · rw [pd_ble_f r1] at h
      rcases Nat.lt_or_ge rest (p * p) with r2 | r2
      · rw [pd_ble_f r2] at h
        have hpr : pd_pr rest := pd_sqrt_pr r1 r2 hl
        have e : q = rest := by
          rcases pd_pr_dvd hpr hqd with e | e
          · have := hq.1; omega
          · exact e
        rw [e]
        intro e1
        rw [pd_beq_t e1] at h
        cases h
      · rw [pd_ble_t r2] at h
        rcases Nat.decEq (rest % p) 0 with r3 | r3
        · rw [pd_beq_f r3] at h
          refine ih rest (p + 1) h0 (by omega) (fun d a b => ?_) h q hq hqd
          rcases Nat.lt_or_ge d p with c | c
          · exact hl d a c
          · rw [show d = p by omega]; exact r3
        · rw [pd_beq_t r3] at h
          have hdv := Nat.dvd_of_mod_eq_zero r3
          have hpp : pd_pr p := pd_least_pr hp hdv hl
          rcases Nat.decEq (g ^ ((n - 1) / p) % n) 1 with r4 | r4
          · rw [pd_beq_f r4] at h
            have e : rest = p * (rest / p) := (Nat.mul_div_cancel' hdv).symm
            rw [e] at hqd
            rcases pd_euclid hq hqd with c | c
            · rcases pd_pr_dvd hpp c with e1 | e1
              · have := hq.1; omega
              · rw [e1]; exact r4
            · refine ih (rest / p) p (Nat.div_pos (Nat.le_of_dvd h0 hdv) (by omega)) hp (fun d a b e1 => ?_) h q hq c
              refine hl d a b (Nat.mod_eq_zero_of_dvd ?_)
              rw [e]
              exact Nat.dvd_trans (Nat.dvd_of_mod_eq_zero e1) (Nat.dvd_mul_left _ _)
          · rw [pd_beq_t r4] at h
            cases h
    · have h5 := Nat.le_of_dvd h0 hqd
      have := hq.1
      omega
theorem pd_gen_ex {p : Nat} (h : p < 30720) (hp : pd_pr p) (h3 : 3 ≤ p) : ∃ g, 2 ≤ g ∧ g < p ∧ ∀ q, pd_pr q → (p - 1) % q = 0 → ¬ g ^ ((p - 1) / q) % p = 1 := by
  have h1 : cond (Nat.ble 3 p) (cond (pd_pt p) (pd_any (fun g => cond (Nat.ble p g) false (pd_gn p g 300 (p - 1) 2)) 60 2) true) true = true := pd_c4_all h
  rw [pd_ble_t h3, (pd_pt_pr h).mpr hp] at h1
  obtain ⟨g, a, -, c⟩ := pd_any_ok (fun g => cond (Nat.ble p g) false (pd_gn p g 300 (p - 1) 2)) 60 2 h1
  have c : cond (Nat.ble p g) false (pd_gn p g 300 (p - 1) 2) = true := c
  rcases Nat.lt_or_ge g p with q | q
  · rw [pd_ble_f q] at c
    exact ⟨g, a, q, fun r hr hrd => pd_gn_ok 300 (p - 1) 2 (by omega) (Nat.le_refl 2) (fun d a b => by omega) c r hr (Nat.dvd_of_mod_eq_zero hrd)⟩
  · rw [pd_ble_t q] at c
    cases c
/-- the least generator, by orders -/
theorem pd_gen_least {p : Nat} (h : p < 30720) (hp : pd_pr p) (h3 : 3 ≤ p) : ∃ g, 2 ≤ g ∧ g < p ∧ pd_ord p g (p - 1) ∧ ∀ j, 2 ≤ j → j < g → ¬ pd_ord p j (p - 1) := by
  obtain ⟨g0, a, b, c⟩ := pd_gen_ex h hp h3
  have hg0 : ¬ g0 % p = 0 := by rw [Nat.mod_eq_of_lt b]; omega
  obtain ⟨o, ho⟩ := pd_ord_ex hp.1 ((pd_pr_cop hp (fun h => hg0 (Nat.mod_eq_zero_of_dvd h))).symm)
  have e := (pd_gen_iff hp hg0 ho).mpr c
  rw [e] at ho
  obtain ⟨g, ⟨g1, g2⟩, gl⟩ := pk_least (fun g => 2 ≤ g ∧ pd_ord p g (p - 1)) ⟨g0, a, ho⟩
  refine ⟨g, g1, ?_, g2, fun j x y z => gl j y ⟨x, z⟩⟩
  rcases Nat.lt_or_ge g0 g with q | q
  · exact absurd ⟨a, ho⟩ (gl g0 q)
  · omega
end
section
/-! rows over natural numbers: what the walks of this claim use -/
abbrev vwCl : List vw_C := [(RX0, TX0, 6), (RX1, TX1, 1)]
theorem pw_i1 (a : Nat) : nI a + Int32.ofInt 1 = nI (a + 1) := nI_1 a
theorem pw_i2 (a : Nat) : nI a + Int32.ofInt 2 = nI (a + 2) := nI_add a 2
theorem pw_i3 (a : Nat) : nI a + Int32.ofInt 3 = nI (a + 3) := nI_add a 3
theorem pw_im1 {a : Nat} (h : 0 < a) : nI a + Int32.ofInt (-1) = nI (a - 1) := by
  obtain ⟨b, rfl⟩ : ∃ b, a = b + 1 := ⟨a - 1, by omega⟩
  exact pk_m1 b
theorem pw_cl {a : Nat} (h : a < 2147483648) : (nI a).toNatClampNeg = a := nI_clamp (by omega)
section PDW
variable {p : Program} {l : Launch} {e : Env} {R : Room} {s : State} {m : MethodId} {args : Array Value} {below : List Frame} {meth : Method} {c : Code} {H : Heap} {locs : List Loc} {cells slots : Nat} {Q : State → Prop}
variable {cc : ByteArray} {pc : Nat} {ls : Array Slot} {rest : List Value}
theorem pw_add (hx : p.tables.exec = Jvm.exec) (hb : c.code = cc) (hdg : decode cc pc = .ok (.iadd, 1)) {a b : Nat} (n : Nat) (hn : a + b = n)
    (k : W p l e R s m args below meth c H locs cells slots Q (F0 m (pc + 1) ls (.int (nI n) :: rest))) : W p l e R s m args below meth c H locs cells slots Q (F0 m pc ls (.int (nI b) :: .int (nI a) :: rest)) := by
  subst hn
  refine lv_iadd hx hb hdg ?_
  rw [nI_add]
  exact k
theorem pw_sub (hx : p.tables.exec = Jvm.exec) (hb : c.code = cc) (hdg : decode cc pc = .ok (.isub, 1)) {a b : Nat} (h : b ≤ a) (n : Nat) (hn : a - b = n)
    (k : W p l e R s m args below meth c H locs cells slots Q (F0 m (pc + 1) ls (.int (nI n) :: rest))) : W p l e R s m args below meth c H locs cells slots Q (F0 m pc ls (.int (nI b) :: .int (nI a) :: rest)) := by
  subst hn
  refine lv_isub hx hb hdg ?_
  rw [pk_sub h]
  exact k
theorem pw_mul (hx : p.tables.exec = Jvm.exec) (hb : c.code = cc) (hdg : decode cc pc = .ok (.imul, 1)) {a b : Nat} (n : Nat) (hn : a * b = n)
    (k : W p l e R s m args below meth c H locs cells slots Q (F0 m (pc + 1) ls (.int (nI n) :: rest))) : W p l e R s m args below meth c H locs cells slots Q (F0 m pc ls (.int (nI b) :: .int (nI a) :: rest)) := by
  subst hn
  refine lv_imul hx hb hdg ?_
  rw [pk_mul]
  exact k
theorem pw_div (hx : p.tables.exec = Jvm.exec) (hb : c.code = cc) (hdg : decode cc pc = .ok (.idiv, 1)) {a b : Nat} (ha : a < 2147483648) (h0 : 0 < b) (hb2 : b < 2147483648) (n : Nat) (hn : a / b = n)
    (k : W p l e R s m args below meth c H locs cells slots Q (F0 m (pc + 1) ls (.int (nI n) :: rest))) : W p l e R s m args below meth c H locs cells slots Q (F0 m pc ls (.int (nI b) :: .int (nI a) :: rest)) := by
  subst hn
  refine lv_idiv hx hb hdg (nI_ne0 h0 hb2) ?_
  rw [pk_div ha h0 hb2]
  exact k
theorem pw_rem (hx : p.tables.exec = Jvm.exec) (hb : c.code = cc) (hdg : decode cc pc = .ok (.irem, 1)) {a b : Nat} (ha : a < 2147483648) (h0 : 0 < b) (hb2 : b < 2147483648) (n : Nat) (hn : a % b = n)
    (k : W p l e R s m args below meth c H locs cells slots Q (F0 m (pc + 1) ls (.int (nI n) :: rest))) : W p l e R s m args below meth c H locs cells slots Q (F0 m pc ls (.int (nI b) :: .int (nI a) :: rest)) := by
  subst hn
  refine lv_irem hx hb hdg (nI_ne0 h0 hb2) ?_
  rw [pk_rem ha h0 hb2]
  exact k
theorem pw_and1 (hx : p.tables.exec = Jvm.exec) (hb : c.code = cc) (hdg : decode cc pc = .ok (.iand, 1)) {a : Nat} (ha : a < 2147483648) (n : Nat) (hn : a % 2 = n)
    (k : W p l e R s m args below meth c H locs cells slots Q (F0 m (pc + 1) ls (.int (nI n) :: rest))) : W p l e R s m args below meth c H locs cells slots Q (F0 m pc ls (.int (nI 1) :: .int (nI a) :: rest)) := by
  subst hn
  refine lv_iand hx hb hdg ?_
  rw [pk_andN (n := a) (by omega) (m := nI 1) 1 (by decide)]
  exact k
theorem pw_shr1 (hx : p.tables.exec = Jvm.exec) (hb : c.code = cc) (hdg : decode cc pc = .ok (.ishr, 1)) {a : Nat} (ha : a < 2147483648) (n : Nat) (hn : a / 2 = n)
    (k : W p l e R s m args below meth c H locs cells slots Q (F0 m (pc + 1) ls (.int (nI n) :: rest))) : W p l e R s m args below meth c H locs cells slots Q (F0 m pc ls (.int (nI 1) :: .int (nI a) :: rest)) := by
  subst hn
  refine lv_ishr hx hb hdg ?_
  rw [pk_shrN (n := a) ha (nI 1 &&& 31) 1 (by decide)]
  exact k
theorem pw_lmul (hx : p.tables.exec = Jvm.exec) (hb : c.code = cc) (hdg : decode cc pc = .ok (.lmul, 1)) {a b : Nat} (n : Nat) (hn : a * b = n)
    (k : W p l e R s m args below meth c H locs cells slots Q (F0 m (pc + 1) ls (.long (lN n) :: rest))) : W p l e R s m args below meth c H locs cells slots Q (F0 m pc ls (.long (lN b) :: .long (lN a) :: rest)) := by
  subst hn
  refine lv_lmul hx hb hdg ?_
  rw [lN_mul]
  exact k
theorem pw_lrem (hx : p.tables.exec = Jvm.exec) (hb : c.code = cc) (hdg : decode cc pc = .ok (.lrem, 1)) {a b : Nat} (ha : a < 9223372036854775808) (h0 : 0 < b) (hb2 : b < 2147483648) (n : Nat) (hn : a % b = n)
    (k : W p l e R s m args below meth c H locs cells slots Q (F0 m (pc + 1) ls (.long (lN n) :: rest))) : W p l e R s m args below meth c H locs cells slots Q (F0 m pc ls (.long (lN b) :: .long (lN a) :: rest)) := by
  subst hn
  have hne : ¬ lN b = 0 := by
    intro h
    have h1 : lN b = lN 0 := h
    have := (pk_lEQ (a := b) (b := 0) (by omega) (by decide)).mp h1
    omega
  refine lv_lrem hx hb hdg hne ?_
  rw [pk_lRem ha h0 (by omega)]
  exact k
theorem pw_icmp_eq (hx : p.tables.exec = Jvm.exec) (hb : c.code = cc) {a b : Nat} {off : Int} {tgt : Nat} (hdg : decode cc pc = .ok (.if_icmp .eq off, 3)) (ht : (pc : Int) + off = (tgt : Int)) (ha : a < 2147483648) (hb2 : b < 2147483648)
    (kt : a = b → W p l e R s m args below meth c H locs cells slots Q (F0 m tgt ls rest)) (kf : ¬ a = b → W p l e R s m args below meth c H locs cells slots Q (F0 m (pc + 3) ls rest)) : W p l e R s m args below meth c H locs cells slots Q (F0 m pc ls (.int (nI b) :: .int (nI a) :: rest)) :=
  lv_icmp_eq hx hb hdg ht (fun h => kt ((nI_eq ha hb2).mp h)) (fun h => kf (fun q => h ((nI_eq ha hb2).mpr q)))
theorem pw_icmp_ne (hx : p.tables.exec = Jvm.exec) (hb : c.code = cc) {a b : Nat} {off : Int} {tgt : Nat} (hdg : decode cc pc = .ok (.if_icmp .ne off, 3)) (ht : (pc : Int) + off = (tgt : Int)) (ha : a < 2147483648) (hb2 : b < 2147483648)
    (kt : ¬ a = b → W p l e R s m args below meth c H locs cells slots Q (F0 m tgt ls rest)) (kf : a = b → W p l e R s m args below meth c H locs cells slots Q (F0 m (pc + 3) ls rest)) : W p l e R s m args below meth c H locs cells slots Q (F0 m pc ls (.int (nI b) :: .int (nI a) :: rest)) :=
  lv_icmp_ne hx hb hdg ht (fun h => kt (fun q => h ((nI_eq ha hb2).mpr q))) (fun h => kf ((nI_eq ha hb2).mp h))
theorem pw_icmp_lt (hx : p.tables.exec = Jvm.exec) (hb : c.code = cc) {a b : Nat} {off : Int} {tgt : Nat} (hdg : decode cc pc = .ok (.if_icmp .lt off, 3)) (ht : (pc : Int) + off = (tgt : Int)) (ha : a < 2147483648) (hb2 : b < 2147483648)
    (kt : a < b → W p l e R s m args below meth c H locs cells slots Q (F0 m tgt ls rest)) (kf : b ≤ a → W p l e R s m args below meth c H locs cells slots Q (F0 m (pc + 3) ls rest)) : W p l e R s m args below meth c H locs cells slots Q (F0 m pc ls (.int (nI b) :: .int (nI a) :: rest)) :=
  lv_icmp_lt hx hb hdg ht (fun h => kt ((nI_ltI ha hb2).mp h)) (fun h => kf (Nat.le_of_not_lt fun q => h ((nI_ltI ha hb2).mpr q)))
theorem pw_icmp_ge (hx : p.tables.exec = Jvm.exec) (hb : c.code = cc) {a b : Nat} {off : Int} {tgt : Nat} (hdg : decode cc pc = .ok (.if_icmp .ge off, 3)) (ht : (pc : Int) + off = (tgt : Int)) (ha : a < 2147483648) (hb2 : b < 2147483648)
    (kt : b ≤ a → W p l e R s m args below meth c H locs cells slots Q (F0 m tgt ls rest)) (kf : a < b → W p l e R s m args below meth c H locs cells slots Q (F0 m (pc + 3) ls rest)) : W p l e R s m args below meth c H locs cells slots Q (F0 m pc ls (.int (nI b) :: .int (nI a) :: rest)) :=
  lv_icmp_ge hx hb hdg ht (fun h => kt ((nI_leI hb2 ha).mp h)) (fun h => kf (Nat.lt_of_not_le fun q => h ((nI_leI hb2 ha).mpr q)))
theorem pw_icmp_gt (hx : p.tables.exec = Jvm.exec) (hb : c.code = cc) {a b : Nat} {off : Int} {tgt : Nat} (hdg : decode cc pc = .ok (.if_icmp .gt off, 3)) (ht : (pc : Int) + off = (tgt : Int)) (ha : a < 2147483648) (hb2 : b < 2147483648)
    (kt : b < a → W p l e R s m args below meth c H locs cells slots Q (F0 m tgt ls rest)) (kf : a ≤ b → W p l e R s m args below meth c H locs cells slots Q (F0 m (pc + 3) ls rest)) : W p l e R s m args below meth c H locs cells slots Q (F0 m pc ls (.int (nI b) :: .int (nI a) :: rest)) :=
  lv_icmp_gt hx hb hdg ht (fun h => kt ((nI_ltI hb2 ha).mp h)) (fun h => kf (Nat.le_of_not_lt fun q => h ((nI_ltI hb2 ha).mpr q)))
theorem pw_icmp_le (hx : p.tables.exec = Jvm.exec) (hb : c.code = cc) {a b : Nat} {off : Int} {tgt : Nat} (hdg : decode cc pc = .ok (.if_icmp .le off, 3)) (ht : (pc : Int) + off = (tgt : Int)) (ha : a < 2147483648) (hb2 : b < 2147483648)
    (kt : a ≤ b → W p l e R s m args below meth c H locs cells slots Q (F0 m tgt ls rest)) (kf : b < a → W p l e R s m args below meth c H locs cells slots Q (F0 m (pc + 3) ls rest)) : W p l e R s m args below meth c H locs cells slots Q (F0 m pc ls (.int (nI b) :: .int (nI a) :: rest)) :=
  lv_icmp_le hx hb hdg ht (fun h => kt ((nI_leI ha hb2).mp h)) (fun h => kf (Nat.lt_of_not_le fun q => h ((nI_leI ha hb2).mpr q)))
theorem pw_if_eq (hx : p.tables.exec = Jvm.exec) (hb : c.code = cc) {a : Nat} {off : Int} {tgt : Nat} (hdg : decode cc pc = .ok (.ifCond .eq off, 3)) (ht : (pc : Int) + off = (tgt : Int)) (ha : a < 2147483648)
    (kt : a = 0 → W p l e R s m args below meth c H locs cells slots Q (F0 m tgt ls rest)) (kf : ¬ a = 0 → W p l e R s m args below meth c H locs cells slots Q (F0 m (pc + 3) ls rest)) : W p l e R s m args below meth c H locs cells slots Q (F0 m pc ls (.int (nI a) :: rest)) :=
  lv_if_eq hx hb hdg ht (fun h => kt ((nI_eq ha (show 0 < 2147483648 by decide)).mp h)) (fun h => kf (fun q => h (by rw [q]; rfl)))
theorem pw_if_ne (hx : p.tables.exec = Jvm.exec) (hb : c.code = cc) {a : Nat} {off : Int} {tgt : Nat} (hdg : decode cc pc = .ok (.ifCond .ne off, 3)) (ht : (pc : Int) + off = (tgt : Int)) (ha : a < 2147483648)
    (kt : ¬ a = 0 → W p l e R s m args below meth c H locs cells slots Q (F0 m tgt ls rest)) (kf : a = 0 → W p l e R s m args below meth c H locs cells slots Q (F0 m (pc + 3) ls rest)) : W p l e R s m args below meth c H locs cells slots Q (F0 m pc ls (.int (nI a) :: rest)) :=
  lv_if_ne hx hb hdg ht (fun h => kt (fun q => h (by rw [q]; rfl))) (fun h => kf ((nI_eq ha (show 0 < 2147483648 by decide)).mp h))
theorem pw_if_le (hx : p.tables.exec = Jvm.exec) (hb : c.code = cc) {a : Nat} {off : Int} {tgt : Nat} (hdg : decode cc pc = .ok (.ifCond .le off, 3)) (ht : (pc : Int) + off = (tgt : Int)) (ha : a < 2147483648)
    (kt : a = 0 → W p l e R s m args below meth c H locs cells slots Q (F0 m tgt ls rest)) (kf : 0 < a → W p l e R s m args below meth c H locs cells slots Q (F0 m (pc + 3) ls rest)) : W p l e R s m args below meth c H locs cells slots Q (F0 m pc ls (.int (nI a) :: rest)) :=
  lv_if_le hx hb hdg ht (fun h => kt (Nat.le_zero.mp ((nI_leI ha (show 0 < 2147483648 by decide)).mp h))) (fun h => kf (Nat.lt_of_not_le fun q => h (by rw [Nat.le_zero.mp q]; decide)))
end PDW
/-! contracts of this claim: any start whose heap has G; the answer has post, the heap has G', nothing but A's cells changed -/
def pc_pre (D : va_G) (tys : List (ClassId × FieldType)) (G : Heap → Prop) (av : List Value) : Array Value → State → Prop := va_Pc av (fun U => G U.heap ∧ va_K D vwCl tys U)
def pc_post (post : Int32 → Prop) (G' : Heap → Prop) (A : Nat → Prop) : Array Value → State → Outcome → State → Prop := va_Qi (fun r (_ : Unit) => post r) (fun _ t => G' t.heap) A
def pc_postv (G' : Heap → Prop) (A : Nat → Prop) : Array Value → State → Outcome → State → Prop := va_Qv (fun (_ : Unit) => True) (fun _ t => G' t.heap) A
def pc_M (l : Launch) (y : MethodName) (ws : List Cond) (rm : Room) (D : va_G) (tys : List (ClassId × FieldType)) (av : List Value) (G : Heap → Prop) (post : Int32 → Prop) (G' : Heap → Prop) (A : Nat → Prop) : Prop := Met l y ws rm (pc_pre D tys G av) (pc_post post G' A) 0 0 A
def pc_Mv (l : Launch) (y : MethodName) (ws : List Cond) (rm : Room) (D : va_G) (tys : List (ClassId × FieldType)) (av : List Value) (G : Heap → Prop) (G' : Heap → Prop) (A : Nat → Prop) : Prop := Met l y ws rm (pc_pre D tys G av) (pc_postv G' A) 0 0 A
/-- a pure one: the heap stays H -/
def pp_M (l : Launch) (y : MethodName) (ws : List Cond) (rm : Room) (D : va_G) (tys : List (ClassId × FieldType)) (av : List Value) (H : Heap) (post : Int32 → Prop) : Prop := pc_M l y ws rm D tys av (fun h => h = H) post (fun h => h = H) (fun _ => False)
theorem pc_blind {D : va_G} {tys : List (ClassId × FieldType)} {G : Heap → Prop} {av : List Value} : FrameBlind (pc_pre D tys G av) := fun a U g mk q => ⟨q.1, q.2.1, va_K.moved (u := U) (U := U.calling g mk a) (Vm.Alike.refl U.vm) q.2.2⟩
def pc_rt (ret : Option FieldType) (post : Int32 → Prop) : Prop := ret = some .int ∨ (ret = some .boolean ∧ ∀ r, post r → r = 0 ∨ r = 1)
theorem pc_start {l : Launch} {y : MethodName} {cc : ByteArray} {nL : Nat} {ret : Option FieldType} {rm : Room} {D : va_G} {tys : List (ClassId × FieldType)} {av : List Value} {G : Heap → Prop} {post : Int32 → Prop} {G' : Heap → Prop} {A : Nat → Prop}
    (hy : plainName y.cls = true) (hret : pc_rt ret post) (hn : (lg_sl av).length ≤ nL)
    (body : ∀ (p : Program) (e : Env) (s : State) (m : MethodId) (args : Array Value) (below : List Frame) (meth : Method) (c : Code) (Q : State → Prop) (ls : Array Slot), CallFix p m c cc nL s args lw_all y.cls → va_K D vwCl tys s → G s.heap → lv_has ls nL (lv_args 0 av) →
      (∀ (pc : Nat) (ls : Array Slot) (r : Int32) (H : Heap) (locs : List Loc), decode cc pc = .ok (.ireturn, 1) → post r → G' H → va_S A s.heap H locs → W p l e rm s m args below meth c H locs 0 0 Q (F0 m pc ls [.int r])) → W p l e rm s m args below meth c s.heap [] 0 0 Q (F0 m 0 ls [])) :
    pc_M l y (ws_ y cc nL ret) rm D tys av G post G' A := by
  refine Met.ofW (cc := cc) (maxL := nL) (ret := ret) hy rfl ?_
  intro p e s m args below meth c s₁ B hml hv
  obtain ⟨rfl, hG, hK⟩ := hv
  have hts := atoms_spec (ws := ws_ y cc nL ret) B.pre
  have hts : ∀ w ∈ lw_all, w.before _ s = true := fun w h => hts w (List.mem_cons_of_mem _ h)
  have hl := lv_entry av (n := nL) hn
  have hlk := B.notSynchronized
  rw [lg_entry_eq]
  refine body p e s m _ below meth c _ _ ⟨B.exec, B.bytes, hml, findClass_of_methodNamed B.named, hts⟩ hK hG hl ?_
  intro pc ls r H locs hd hp hG' hS
  have hq : ∀ t : State, t.heap = H → s.WarmedH t.vm → pc_post post G' A av.toArray s (.returned (some (.int r))) t := fun t ht hW => ⟨⟨r, (), rfl, hp, (show G' t.heap by rw [ht]; exact hG')⟩, hS.F ht⟩
  rcases hret with h | ⟨h, h01⟩
  · exact W.zret (ty := .int) (v := r) B.exec B.bytes (B.returns.trans h) rfl hq hS.2.2 hd hlk
  · exact W.zret (ty := .boolean) (v := r) B.exec B.bytes (B.returns.trans h) (by rcases h01 r hp with e | e <;> rw [e] <;> decide) hq hS.2.2 hd hlk
theorem pc_startv {l : Launch} {y : MethodName} {cc : ByteArray} {nL : Nat} {rm : Room} {D : va_G} {tys : List (ClassId × FieldType)} {av : List Value} {G : Heap → Prop} {G' : Heap → Prop} {A : Nat → Prop}
    (hy : plainName y.cls = true) (hn : (lg_sl av).length ≤ nL)
    (body : ∀ (p : Program) (e : Env) (s : State) (m : MethodId) (args : Array Value) (below : List Frame) (meth : Method) (c : Code) (Q : State → Prop) (ls : Array Slot), CallFix p m c cc nL s args lw_all y.cls → va_K D vwCl tys s → G s.heap → lv_has ls nL (lv_args 0 av) →
      (∀ (pc : Nat) (ls : Array Slot) (H : Heap) (locs : List Loc), decode cc pc = .ok (.return_, 1) → G' H → va_S A s.heap H locs → W p l e rm s m args below meth c H locs 0 0 Q (F0 m pc ls [])) → W p l e rm s m args below meth c s.heap [] 0 0 Q (F0 m 0 ls [])) :
    pc_Mv l y (ws_ y cc nL none) rm D tys av G G' A := by
  refine Met.ofW (cc := cc) (maxL := nL) (ret := none) hy rfl ?_
  intro p e s m args below meth c s₁ B hml hv
  obtain ⟨rfl, hG, hK⟩ := hv
  have hts := atoms_spec (ws := ws_ y cc nL none) B.pre
  have hts : ∀ w ∈ lw_all, w.before _ s = true := fun w h => hts w (List.mem_cons_of_mem _ h)
  have hl := lv_entry av (n := nL) hn
  have hlk := B.notSynchronized
  have hr := B.returns
  rw [lg_entry_eq]
  refine body p e s m _ below meth c _ _ ⟨B.exec, B.bytes, hml, findClass_of_methodNamed B.named, hts⟩ hK hG hl ?_
  intro pc ls H locs hd hG' hS
  have hq : ∀ t : State, t.heap = H → s.WarmedH t.vm → pc_postv G' A av.toArray s (.returned none) t := fun t ht hW => ⟨⟨(), rfl, trivial, (show G' t.heap by rw [ht]; exact hG')⟩, hS.F ht⟩
  exact W.vret B.exec B.bytes hr hq hS.2.2 hd
/-- the start of a pure one -/
theorem pp_start {l : Launch} {y : MethodName} {cc : ByteArray} {nL : Nat} {ret : Option FieldType} {rm : Room} {D : va_G} {tys : List (ClassId × FieldType)} {av : List Value} {H : Heap} {post : Int32 → Prop}
    (hy : plainName y.cls = true) (hret : pc_rt ret post) (hn : (lg_sl av).length ≤ nL)
    (body : ∀ (p : Program) (e : Env) (s : State) (m : MethodId) (args : Array Value) (below : List Frame) (meth : Method) (c : Code) (Q : State → Prop) (ls : Array Slot), CallFix p m c cc nL s args lw_all y.cls → va_K D vwCl tys s → lv_has ls nL (lv_args 0 av) →
      (∀ (pc : Nat) (ls : Array Slot) (r : Int32), decode cc pc = .ok (.ireturn, 1) → post r → W p l e rm s m args below meth c H [] 0 0 Q (F0 m pc ls [.int r])) → W p l e rm s m args below meth c H [] 0 0 Q (F0 m 0 ls [])) :
    pp_M l y (ws_ y cc nL ret) rm D tys av H post := by
  refine pc_start hy hret hn ?_
  intro p e s m args below meth c Q ls CF hK hH hl hr
  subst hH
  exact body p e s m args below meth c Q ls CF hK hl (fun pc ls r hd hp => hr pc ls r _ [] hd hp rfl va_S.rf)
section PDC
variable {p : Program} {l : Launch} {e : Env} {R : Room} {s : State} {m : MethodId} {args : Array Value} {below : List Frame} {meth : Method} {c : Code} {H : Heap} {locs : List Loc} {cells slots : Nat} {Q : State → Prop}
variable {cc : ByteArray} {pc nL : Nat} {ls : Array Slot} {rest : List Value} {D : va_G} {tys : List (ClassId × FieldType)}
/-- a call of a method with any contract of ours -/
theorem pc_call {own C : String} {y : MethodName} {bytes : ByteArray} {maxL idx b n : Nat} {ret : Option FieldType} {rm : Room} {As st0 : List Value} {G G' : Heap → Prop} {post : Int32 → Prop} {A A0 : Nat → Prop} {H0 : Heap}
    (CF : CallFix p m c cc nL s args lw_all own) (hM : pc_M l y (ws_ y bytes maxL ret) rm D tys (.ref b :: As) G post G' A) (hV : GoodIn lw_all (wsV own idx C y (ws_ y bytes maxL ret)))
    (hrc : rm.cells = 0) (hrs : rm.slots = 0) (hd : y.cls = C ∧ y.cls ≠ "java/lang/invoke/MethodHandle" ∧ y.cls ≠ "java/lang/invoke/VarHandle" ∧ (parseMethodDescriptor y.desc).map (fun d => d.parameters.length) = some n) (hn : As.length = n)
    (hR : rm.frames + 1 ≤ R.frames ∧ 8 + (maxL + 11) + rm.locals ≤ R.locals) (hK : va_K D vwCl tys s) (hrec : ∃ cell : Cell, H[b]? = some cell ∧ cell.vm.isStatics = false ∧ s.vm.findClass C = some cell.cls) (hG : G H)
    (hst : st0 = As.reverse ++ .ref b :: rest) (hl : ls.size = nL) (hroom : (rest.map fun v => v.category).sum ≤ 8) (hdg : decode cc pc = .ok (.invokevirtual idx, 3)) (hcs : cells ≤ R.cells ∧ slots ≤ R.slots)
    (hS : va_S A0 H0 H locs) (hA : ∀ q, A q → A0 q)
    (kk : ∀ (r : Int32) (H1 : Heap) (locs1 : List Loc), post r → G' H1 → H.size ≤ H1.size → (∀ q : Nat, q < H.size → ¬ A q → H1[q]? = H[q]?) → va_S A0 H0 H1 locs1 → W p l e R s m args below meth c H1 locs1 cells slots Q (F0 m (pc + 3) ls (.int r :: rest))) : W p l e R s m args below meth c H locs cells slots Q (F0 m pc ls st0) := by
  refine va_calli (va_runV (As := As) (rest := rest) CF hM (cwV n CF.2.2.2.2 hV rfl hrc hrs hd hR) ⟨pc_blind, hrec, fun U hU hW => ⟨rfl, by rw [hU]; exact hG, va_K.moved hW.alike hK⟩⟩ rfl hn hl hst (lv_room hroom) hdg hcs) hS (fun q _ h => hA q h) hA ?_
  intro r u t H1 locs1 ht _ hp hB hz hk hS1
  exact kk r H1 locs1 hp (by rw [← ht]; exact hB) hz hk hS1
theorem pc_callv {own C : String} {y : MethodName} {bytes : ByteArray} {maxL idx b n : Nat} {rm : Room} {As st0 : List Value} {G G' : Heap → Prop} {A A0 : Nat → Prop} {H0 : Heap}
    (CF : CallFix p m c cc nL s args lw_all own) (hM : pc_Mv l y (ws_ y bytes maxL none) rm D tys (.ref b :: As) G G' A) (hV : GoodIn lw_all (wsV own idx C y (ws_ y bytes maxL none)))
    (hrc : rm.cells = 0) (hrs : rm.slots = 0) (hd : y.cls = C ∧ y.cls ≠ "java/lang/invoke/MethodHandle" ∧ y.cls ≠ "java/lang/invoke/VarHandle" ∧ (parseMethodDescriptor y.desc).map (fun d => d.parameters.length) = some n) (hn : As.length = n)
    (hR : rm.frames + 1 ≤ R.frames ∧ 8 + (maxL + 11) + rm.locals ≤ R.locals) (hK : va_K D vwCl tys s) (hrec : ∃ cell : Cell, H[b]? = some cell ∧ cell.vm.isStatics = false ∧ s.vm.findClass C = some cell.cls) (hG : G H)
    (hst : st0 = As.reverse ++ .ref b :: rest) (hl : ls.size = nL) (hroom : (rest.map fun v => v.category).sum ≤ 8) (hdg : decode cc pc = .ok (.invokevirtual idx, 3)) (hcs : cells ≤ R.cells ∧ slots ≤ R.slots)
    (hS : va_S A0 H0 H locs) (hA : ∀ q, A q → A0 q)
    (kk : ∀ (H1 : Heap) (locs1 : List Loc), G' H1 → H.size ≤ H1.size → (∀ q : Nat, q < H.size → ¬ A q → H1[q]? = H[q]?) → va_S A0 H0 H1 locs1 → W p l e R s m args below meth c H1 locs1 cells slots Q (F0 m (pc + 3) ls rest)) : W p l e R s m args below meth c H locs cells slots Q (F0 m pc ls st0) := by
  refine va_callv (va_runV (As := As) (rest := rest) CF hM (cwV n CF.2.2.2.2 hV rfl hrc hrs hd hR) ⟨pc_blind, hrec, fun U hU hW => ⟨rfl, by rw [hU]; exact hG, va_K.moved hW.alike hK⟩⟩ rfl hn hl hst (lv_room hroom) hdg hcs) hS (fun q _ h => hA q h) hA ?_
  intro u t H1 locs1 ht _ hp hB hz hk hS1
  exact kk H1 locs1 (by rw [← ht]; exact hB) hz hk hS1
/-- a call of a pure method: the heap stays as it is -/
theorem pp_call {own C : String} {y : MethodName} {bytes : ByteArray} {maxL idx b n : Nat} {ret : Option FieldType} {rm : Room} {As st0 : List Value} {post : Int32 → Prop}
    (CF : CallFix p m c cc nL s args lw_all own) (hM : pp_M l y (ws_ y bytes maxL ret) rm D tys (.ref b :: As) H post) (hV : GoodIn lw_all (wsV own idx C y (ws_ y bytes maxL ret)))
    (hrc : rm.cells = 0) (hrs : rm.slots = 0) (hd : y.cls = C ∧ y.cls ≠ "java/lang/invoke/MethodHandle" ∧ y.cls ≠ "java/lang/invoke/VarHandle" ∧ (parseMethodDescriptor y.desc).map (fun d => d.parameters.length) = some n) (hn : As.length = n)
    (hR : rm.frames + 1 ≤ R.frames ∧ 8 + (maxL + 11) + rm.locals ≤ R.locals) (hK : va_K D vwCl tys s) (hrec : ∃ cell : Cell, H[b]? = some cell ∧ cell.vm.isStatics = false ∧ s.vm.findClass C = some cell.cls)
    (hst : st0 = As.reverse ++ .ref b :: rest) (hl : ls.size = nL) (hroom : (rest.map fun v => v.category).sum ≤ 8) (hdg : decode cc pc = .ok (.invokevirtual idx, 3)) (hcs : cells ≤ R.cells ∧ slots ≤ R.slots)
    (kk : ∀ r : Int32, post r → W p l e R s m args below meth c H locs cells slots Q (F0 m (pc + 3) ls (.int r :: rest))) : W p l e R s m args below meth c H locs cells slots Q (F0 m pc ls st0) := by
  have hM : Met l y (ws_ y bytes maxL ret) rm (pc_pre D tys (fun h => h = H) (.ref b :: As)) (pc_post post (fun h => h = H) (fun _ => False)) 0 0 (fun _ => False) := hM
  have hr := va_runV (p := p) (l := l) (e := e) (below := below) (meth := meth) (locs := locs) (g := F0 m pc ls st0) (As := As) (rest := rest) CF hM (cwV n CF.2.2.2.2 hV rfl hrc hrs hd hR) ⟨pc_blind, hrec, fun U hU hW => ⟨rfl, hU, va_K.moved hW.alike hK⟩⟩ rfl hn hl hst (lv_room hroom) hdg hcs
  intro T hT X
  obtain ⟨v, st₀, t, T', L, h0, X', hL, e1, e2, ⟨⟨r, u, hv, hp, hB⟩, hz, hk⟩, st⟩ := hr T hT X
  cases hv
  have hL0 : L = [] := by
    cases L with
    | nil => rfl
    | cons a L => exact (hL a List.mem_cons_self).elim
  subst hL0
  rw [List.append_nil] at X'
  obtain ⟨t2, a1, b1⟩ := kk r hp T' (by rw [e1]; exact hB) X'
  exact ⟨t2, st t2 a1, b1⟩
end PDC
/-- the desk's object with its number -/
def pd_ob (D : va_G) (h0 n : Nat) (H : Heap) : Prop := ∃ fs, va_P D vwCl [(h0, .inr (0, .int (nI n) :: fs))] H
/-- the model's object -/
def pd_md (D : va_G) (h0 n : Nat) (H : Heap) : Prop := va_P D vwCl [(h0, .inr (1, [.int (nI n)]))] H
theorem pd_ob.recv {s : State} {D : va_G} {tys : List (ClassId × FieldType)} {h0 n : Nat} {H : Heap} (h : pd_ob D h0 n H) (hK : va_K D vwCl tys s) : ∃ cell : Cell, H[h0]? = some cell ∧ cell.vm.isStatics = false ∧ s.vm.findClass RX0 = some cell.cls := by
  obtain ⟨fs, hP⟩ := h
  exact va_recv hK hP (ci := 0) (q0 := 0) rfl rfl
theorem pd_md.recv {s : State} {D : va_G} {tys : List (ClassId × FieldType)} {h0 n : Nat} {H : Heap} (h : pd_md D h0 n H) (hK : va_K D vwCl tys s) : ∃ cell : Cell, H[h0]? = some cell ∧ cell.vm.isStatics = false ∧ s.vm.findClass RX1 = some cell.cls := va_recv hK h (ci := 1) (q0 := 0) rfl rfl
section PDG
variable {p : Program} {l : Launch} {e : Env} {R : Room} {s : State} {m : MethodId} {args : Array Value} {below : List Frame} {meth : Method} {c : Code} {H : Heap} {locs : List Loc} {cells slots : Nat} {Q : State → Prop}
variable {cc : ByteArray} {pc nL : Nat} {ls : Array Slot} {rest : List Value} {D : va_G} {tys : List (ClassId × FieldType)}
theorem pw_num {h0 n : Nat} (CF : CallFix p m c cc nL s args lw_all RX0) (hK : va_K D vwCl tys s) (hO : pd_ob D h0 n H) (hdg : decode cc pc = .ok (.getfield 16, 3))
    (kk : W p l e R s m args below meth c H locs cells slots Q (F0 m (pc + 3) ls (.int (nI n) :: rest))) : W p l e R s m args below meth c H locs cells slots Q (F0 m pc ls (.ref h0 :: rest)) := by
  obtain ⟨fs, hP⟩ := hO
  exact va_get (D := D) (ci := 0) (v := .int (nI n)) (C := RX0) (T := TX0) (N := 6) CF.1 CF.2.1 CF.2.2.2.2 in_X0 CF.2.2.2.1 hK hP 0 rfl rfl 0 (by decide) (CF.2.2.2.2 _ q27) (fun _ h9 => h9) rfl hdg kk
theorem pw_hand {h0 n : Nat} (CF : CallFix p m c cc nL s args lw_all RX1) (hK : va_K D vwCl tys s) (hO : pd_md D h0 n H) (hdg : decode cc pc = .ok (.getfield 7, 3))
    (kk : W p l e R s m args below meth c H locs cells slots Q (F0 m (pc + 3) ls (.int (nI n) :: rest))) : W p l e R s m args below meth c H locs cells slots Q (F0 m pc ls (.ref h0 :: rest)) :=
  va_get (D := D) (ci := 1) (v := .int (nI n)) (C := RX1) (T := TX1) (N := 1) CF.1 CF.2.1 CF.2.2.2.2 in_X1 CF.2.2.2.1 hK hO 0 rfl rfl 0 (by decide) (CF.2.2.2.2 _ q154) (fun _ h9 => h9) rfl hdg kk
end PDG
end
section
/-! the desk's pure methods -/
theorem pw_01 {r : Int32} {P P' : Prop} (h : (r = nI 1 ∧ P) ∨ (r = nI 0 ∧ P')) : r = 0 ∨ r = 1 := by
  rcases h with h | h
  · exact Or.inr h.1
  · exact Or.inl h.1
theorem pw_ml {a b : Nat} (ha : a < 2147483648) (hb : b < 2147483648) : a * b < 9223372036854775808 :=
  Nat.lt_of_lt_of_le (Nat.mul_lt_mul'' ha hb) (by decide)
theorem pw_sq {a : Nat} (ha : a < 30720) : a * a < 2147483648 :=
  Nat.lt_of_lt_of_le (Nat.mul_lt_mul'' ha ha) (by decide)
theorem pw_m2 {a b : Nat} (ha : a < 30720) (hb : b < 30720) : a * b < 2147483648 :=
  Nat.lt_of_lt_of_le (Nat.mul_lt_mul'' ha hb) (by decide)
theorem pw_pow0 {r q e n : Nat} (h : e % 2 = 0) : r * (q * q % n) ^ (e / 2) % n = r * q ^ e % n := by
  have h1 : (q * q % n) ^ (e / 2) % n = q ^ e % n := by
    rw [← Nat.pow_mod, ← Nat.pow_two, ← Nat.pow_mul, show 2 * (e / 2) = e by omega]
  rw [Nat.mul_mod, h1, ← Nat.mul_mod]
theorem pw_pow1 {r q e n : Nat} (h : ¬ e % 2 = 0) : (r * q % n) * (q * q % n) ^ (e / 2) % n = r * q ^ e % n := by
  have h1 : (q * q % n) ^ (e / 2) % n = q ^ (2 * (e / 2)) % n := by
    rw [← Nat.pow_mod, ← Nat.pow_two, ← Nat.pow_mul]
  rw [Nat.mul_mod, Nat.mod_mod, h1, ← Nat.mul_mod, Nat.mul_assoc, ← Nat.pow_succ', show (2 * (e / 2)).succ = e by omega]
theorem pw_lpst {x n k : Nat} : (x ^ 2 ^ k % n) * (x ^ 2 ^ k % n) % n = x ^ 2 ^ (k + 1) % n := by
  rw [pd_mm, pd_psq]
theorem pd_ge {rest p : Nat} (h1 : 1 < rest) (hl : ∀ d, 2 ≤ d → d < p → ¬ rest % d = 0) : p ≤ rest := by
  rcases Nat.lt_or_ge rest p with q | q
  · exact absurd (Nat.mod_self rest) (hl rest h1 q)
  · exact q
theorem pd_nodiv_s {rest p : Nat} (hl : ∀ d, 2 ≤ d → d < p → ¬ rest % d = 0) (hp : ¬ rest % p = 0) : ∀ d, 2 ≤ d → d < p + 1 → ¬ rest % d = 0 := by
  intro d a b
  rcases Nat.lt_or_ge d p with q | q
  · exact hl d a q
  · rw [show d = p by omega]; exact hp
theorem pd_nodiv_d {rest r p : Nat} (hl : ∀ d, 2 ≤ d → d < p → ¬ rest % d = 0) (hr : r ∣ rest) : ∀ d, 2 ≤ d → d < p → ¬ r % d = 0 :=
  fun d a b e => hl d a b (Nat.mod_eq_zero_of_dvd (Nat.dvd_trans (Nat.dvd_of_mod_eq_zero e) hr))
/-- X0.timesRest -/
abbrev rmX0_timesRest : Room := { frames := 0, cells := 0, slots := 0, locals := 0 }
set_option maxHeartbeats 4000000 in
set_option maxRecDepth 100000 in
theorem metX0_timesRest (l : Launch) (D : va_G) (tys : List (ClassId × FieldType)) (H : Heap) (h0 nn : Nat) (hO : pd_ob D h0 nn H) (a b md : Nat) (ha : a < 2147483648) (hb' : b < 2147483648) (h0' : 0 < md) (hmd : md < 2147483648) : pp_M l yX0_timesRest (ws_ yX0_timesRest cX0_timesRest 4 (some .int)) rmX0_timesRest D tys [.ref h0, .int (nI a), .int (nI b), .int (nI md)] H (fun r => r = nI (a * b % md)) := by
  refine pp_start (by decide) (Or.inl rfl) (Nat.le_of_ble_eq_true rfl) ?_
  intro p e s m args below meth c Q ls CF hK hl hret
  have hx := CF.1
  have hb := CF.2.1
  have hl : lv_has ls 4 [(0, .ref h0), (1, .int (nI a)), (2, .int (nI b)), (3, .int (nI md))] := hl
  refine lv_iload_n hx hb dX0_timesRest_0 rfl (lv_at hl 1 rfl) ?_
  refine lv_i2l (v := lN a) hx hb dX0_timesRest_1 (nI_l (ha)) ?_
  refine lv_iload_n hx hb dX0_timesRest_2 rfl (lv_at hl 2 rfl) ?_
  refine lv_i2l (v := lN b) hx hb dX0_timesRest_3 (nI_l (hb')) ?_
  refine pw_lmul hx hb dX0_timesRest_4 (a * b) rfl ?_
  refine lv_iload_n hx hb dX0_timesRest_5 rfl (lv_at hl 3 rfl) ?_
  refine lv_i2l (v := lN md) hx hb dX0_timesRest_6 (nI_l (hmd)) ?_
  refine pw_lrem hx hb dX0_timesRest_7 (pw_ml ha hb') (h0') (hmd) ((a * b) % md) rfl ?_
  refine lv_l2i (v := nI ((a * b) % md)) hx hb dX0_timesRest_8 (lN_i _) ?_
  exact hret _ _ _ dX0_timesRest_9 rfl
set_option maxHeartbeats 4000000 in
set_option maxRecDepth 100000 in
theorem callX0_timesRest {p : Program} {l : Launch} {e : Env} {R : Room} {s : State} {m : MethodId} {args : Array Value} {below : List Frame} {meth : Method} {c : Code} {H : Heap} {locs : List Loc} {cells slots : Nat} {Q : State → Prop} {cc : ByteArray} {pc nL : Nat} {ls : Array Slot} {rest : List Value} {D : va_G} {tys : List (ClassId × FieldType)} {h0 nn : Nat} {a b md : Nat} (CF : CallFix p m c cc nL s args lw_all RX0) (hR : 1 ≤ R.frames ∧ 23 ≤ R.locals) (hK : va_K D vwCl tys s) (hO : pd_ob D h0 nn H) (ha : a < 2147483648) (hb' : b < 2147483648) (h0' : 0 < md) (hmd : md < 2147483648) (hsz : ls.size = nL) (hroom : (rest.map fun v => v.category).sum ≤ 8) (hdg : decode cc pc = .ok (.invokevirtual 52, 3)) (hcs : cells ≤ R.cells ∧ slots ≤ R.slots)
    (kk : W p l e R s m args below meth c H locs cells slots Q (F0 m (pc + 3) ls (.int (nI (a * b % md)) :: rest))) : W p l e R s m args below meth c H locs cells slots Q (F0 m pc ls (.int (nI md) :: .int (nI b) :: .int (nI a) :: .ref h0 :: rest)) := pp_call (n := 3) CF (metX0_timesRest l D tys H h0 nn hO a b md ha hb' h0' hmd) (lw_V q67 q69 qs3 q17 q70) rfl rfl (by decide +kernel) rfl hR hK (hO.recv hK) rfl hsz hroom hdg hcs (fun r hr => by rw [hr]; exact kk)
/-- X0.powerRest -/
abbrev rmX0_powerRest : Room := { frames := 1, cells := 0, slots := 0, locals := 23 }
set_option maxHeartbeats 4000000 in
set_option maxRecDepth 100000 in
theorem metX0_powerRest (l : Launch) (D : va_G) (tys : List (ClassId × FieldType)) (H : Heap) (h0 nn : Nat) (hO : pd_ob D h0 nn H) (a x md : Nat) (ha : a < 2147483648) (hx' : x < 2147483648) (h0' : 0 < md) (hmd : md < 2147483648) : pp_M l yX0_powerRest (ws_ yX0_powerRest cX0_powerRest 7 (some .int)) rmX0_powerRest D tys [.ref h0, .int (nI a), .int (nI x), .int (nI md)] H (fun r => r = nI (a ^ x % md)) := by
  refine pp_start (by decide) (Or.inl rfl) (Nat.le_of_ble_eq_true rfl) ?_
  intro p e s m args below meth c Q ls CF hK hl hret
  have hx := CF.1
  have hb := CF.2.1
  have hl : lv_has ls 7 [(0, .ref h0), (1, .int (nI a)), (2, .int (nI x)), (3, .int (nI md))] := hl
  refine lv_iconst (v := nI 1) hx hb dX0_powerRest_0 (by decide) ?_
  refine lv_iload_n hx hb dX0_powerRest_1 rfl (lv_at hl 3 rfl) ?_
  refine pw_rem hx hb dX0_powerRest_2 (by omega) (by omega) (by omega) (1 % md) rfl ?_
  refine lv_istore (lv' := [(4, .int (nI (1 % md))), (0, .ref h0), (1, .int (nI a)), (2, .int (nI x)), (3, .int (nI md))]) hx hb dX0_powerRest_3 hl (by decide) rfl (fun ls hl => ?_)
  refine lv_iload_n hx hb dX0_powerRest_5 rfl (lv_at hl 2 rfl) ?_
  refine lv_iload_n hx hb dX0_powerRest_6 rfl (lv_at hl 4 rfl) ?_
  refine pw_rem hx hb dX0_powerRest_7 (by omega) (by omega) (by omega) (a % md) rfl ?_
  refine lv_istore (lv' := [(5, .int (nI (a % md))), (4, .int (nI (1 % md))), (0, .ref h0), (1, .int (nI a)), (2, .int (nI x)), (3, .int (nI md))]) hx hb dX0_powerRest_8 hl (by decide) rfl (fun ls hl => ?_)
  refine lv_iload_n hx hb dX0_powerRest_10 rfl (lv_at hl 4 rfl) ?_
  refine lv_istore (lv' := [(6, .int (nI x)), (5, .int (nI (a % md))), (4, .int (nI (1 % md))), (0, .ref h0), (1, .int (nI a)), (2, .int (nI x)), (3, .int (nI md))]) hx hb dX0_powerRest_11 hl (by decide) rfl (fun ls hl => ?_)
  have lp : ∀ (k : Nat) (y r q : Nat) (ls : Array Slot), (y < k) → (y < 2147483648) → (r < md) → (q < md) → (r * q ^ y % md = a ^ x % md) → lv_has ls 7 [(0, .ref h0), (1, .int (nI a)), (2, .int (nI x)), (3, .int (nI md)), (4, .int (nI r)), (5, .int (nI q)), (6, .int (nI y))] → W p l e rmX0_powerRest s m args below meth c H [] 0 0 Q (F0 m 13 ls []) := by
    intro k
    induction k with
    | zero =>
      intro y r q ls hm
      exact absurd hm (Nat.not_lt_zero _)
    | succ k ihlp =>
      intro y r q ls hm hy hr hq hinv hl
      refine lv_iload hx hb dX0_powerRest_13 (lv_at hl 6 rfl) ?_
      refine pw_if_le (tgt := 56) hx hb dX0_powerRest_15 (by decide) (by omega) (fun c15 => ?_) (fun c15 => ?_)
      · refine lv_iload hx hb dX0_powerRest_56 (lv_at hl 4 rfl) ?_
        exact hret _ _ _ dX0_powerRest_58 (by rw [show r = a ^ x % md by rw [← hinv, c15, Nat.pow_zero, Nat.mul_one, Nat.mod_eq_of_lt hr]])
      · refine lv_iload hx hb dX0_powerRest_18 (lv_at hl 6 rfl) ?_
        refine lv_iconst (v := nI 1) hx hb dX0_powerRest_20 (by decide) ?_
        refine pw_and1 hx hb dX0_powerRest_21 (by omega) (y % 2) rfl ?_
        refine pw_if_eq (tgt := 36) hx hb dX0_powerRest_22 (by decide) (by omega) (fun c22 => ?_) (fun c22 => ?_)
        · refine lv_aload_n hx hb dX0_powerRest_36 rfl (lv_at hl 0 rfl) ?_
          refine lv_iload hx hb dX0_powerRest_37 (lv_at hl 5 rfl) ?_
          refine lv_iload hx hb dX0_powerRest_39 (lv_at hl 5 rfl) ?_
          refine lv_iload_n hx hb dX0_powerRest_41 rfl (lv_at hl 3 rfl) ?_
          refine callX0_timesRest CF ⟨by decide, by decide⟩ hK hO (by omega) (by omega) (by omega) (by omega) hl.1 (Nat.le_of_ble_eq_true rfl) dX0_powerRest_42 ⟨Nat.zero_le _, Nat.zero_le _⟩ ?_
          refine lv_istore (lv' := [(5, .int (nI (q * q % md))), (0, .ref h0), (1, .int (nI a)), (2, .int (nI x)), (3, .int (nI md)), (4, .int (nI r)), (6, .int (nI y))]) hx hb dX0_powerRest_45 hl (by decide) rfl (fun ls hl => ?_)
          refine lv_iload hx hb dX0_powerRest_47 (lv_at hl 6 rfl) ?_
          refine lv_iconst (v := nI 1) hx hb dX0_powerRest_49 (by decide) ?_
          refine pw_shr1 hx hb dX0_powerRest_50 (by omega) (y / 2) rfl ?_
          refine lv_istore (lv' := [(6, .int (nI (y / 2))), (5, .int (nI (q * q % md))), (0, .ref h0), (1, .int (nI a)), (2, .int (nI x)), (3, .int (nI md)), (4, .int (nI r))]) hx hb dX0_powerRest_51 hl (by decide) rfl (fun ls hl => ?_)
          refine lv_goto (tgt := 13) hx hb dX0_powerRest_53 (by decide) ?_
          exact ihlp (y / 2) r (q * q % md) ls (by omega) (by omega) (hr) (Nat.mod_lt _ h0') ((pw_pow0 c22).trans hinv) (lv_sub hl [2, 3, 4, 5, 6, 1, 0] rfl)
        · refine lv_aload_n hx hb dX0_powerRest_25 rfl (lv_at hl 0 rfl) ?_
          refine lv_iload hx hb dX0_powerRest_26 (lv_at hl 4 rfl) ?_
          refine lv_iload hx hb dX0_powerRest_28 (lv_at hl 5 rfl) ?_
          refine lv_iload_n hx hb dX0_powerRest_30 rfl (lv_at hl 3 rfl) ?_
          refine callX0_timesRest CF ⟨by decide, by decide⟩ hK hO (by omega) (by omega) (by omega) (by omega) hl.1 (Nat.le_of_ble_eq_true rfl) dX0_powerRest_31 ⟨Nat.zero_le _, Nat.zero_le _⟩ ?_
          refine lv_istore (lv' := [(4, .int (nI (r * q % md))), (0, .ref h0), (1, .int (nI a)), (2, .int (nI x)), (3, .int (nI md)), (5, .int (nI q)), (6, .int (nI y))]) hx hb dX0_powerRest_34 hl (by decide) rfl (fun ls hl => ?_)
          refine lv_aload_n hx hb dX0_powerRest_36 rfl (lv_at hl 1 rfl) ?_
          refine lv_iload hx hb dX0_powerRest_37 (lv_at hl 5 rfl) ?_
          refine lv_iload hx hb dX0_powerRest_39 (lv_at hl 5 rfl) ?_
          refine lv_iload_n hx hb dX0_powerRest_41 rfl (lv_at hl 4 rfl) ?_
          refine callX0_timesRest CF ⟨by decide, by decide⟩ hK hO (by omega) (by omega) (by omega) (by omega) hl.1 (Nat.le_of_ble_eq_true rfl) dX0_powerRest_42 ⟨Nat.zero_le _, Nat.zero_le _⟩ ?_
          refine lv_istore (lv' := [(5, .int (nI (q * q % md))), (4, .int (nI (r * q % md))), (0, .ref h0), (1, .int (nI a)), (2, .int (nI x)), (3, .int (nI md)), (6, .int (nI y))]) hx hb dX0_powerRest_45 hl (by decide) rfl (fun ls hl => ?_)
          refine lv_iload hx hb dX0_powerRest_47 (lv_at hl 6 rfl) ?_
          refine lv_iconst (v := nI 1) hx hb dX0_powerRest_49 (by decide) ?_
          refine pw_shr1 hx hb dX0_powerRest_50 (by omega) (y / 2) rfl ?_
          refine lv_istore (lv' := [(6, .int (nI (y / 2))), (5, .int (nI (q * q % md))), (4, .int (nI (r * q % md))), (0, .ref h0), (1, .int (nI a)), (2, .int (nI x)), (3, .int (nI md))]) hx hb dX0_powerRest_51 hl (by decide) rfl (fun ls hl => ?_)
          refine lv_goto (tgt := 13) hx hb dX0_powerRest_53 (by decide) ?_
          exact ihlp (y / 2) (r * q % md) (q * q % md) ls (by omega) (by omega) (Nat.mod_lt _ h0') (Nat.mod_lt _ h0') ((pw_pow1 c22).trans hinv) (lv_sub hl [3, 4, 5, 6, 2, 1, 0] rfl)
  exact lp (x + 1) x (1 % md) (a % md) ls (Nat.lt_succ_self _) (by omega) (Nat.mod_lt _ h0') (Nat.mod_lt _ h0') (by rw [← Nat.mul_mod_mod, ← Nat.pow_mod, Nat.mul_mod_mod, Nat.mod_mul_mod, Nat.one_mul]) (lv_sub hl [3, 4, 5, 6, 2, 1, 0] rfl)
set_option maxHeartbeats 4000000 in
set_option maxRecDepth 100000 in
theorem callX0_powerRest {p : Program} {l : Launch} {e : Env} {R : Room} {s : State} {m : MethodId} {args : Array Value} {below : List Frame} {meth : Method} {c : Code} {H : Heap} {locs : List Loc} {cells slots : Nat} {Q : State → Prop} {cc : ByteArray} {pc nL : Nat} {ls : Array Slot} {rest : List Value} {D : va_G} {tys : List (ClassId × FieldType)} {h0 nn : Nat} {a x md : Nat} (CF : CallFix p m c cc nL s args lw_all RX0) (hR : 2 ≤ R.frames ∧ 49 ≤ R.locals) (hK : va_K D vwCl tys s) (hO : pd_ob D h0 nn H) (ha : a < 2147483648) (hx' : x < 2147483648) (h0' : 0 < md) (hmd : md < 2147483648) (hsz : ls.size = nL) (hroom : (rest.map fun v => v.category).sum ≤ 8) (hdg : decode cc pc = .ok (.invokevirtual 34, 3)) (hcs : cells ≤ R.cells ∧ slots ≤ R.slots)
    (kk : W p l e R s m args below meth c H locs cells slots Q (F0 m (pc + 3) ls (.int (nI (a ^ x % md)) :: rest))) : W p l e R s m args below meth c H locs cells slots Q (F0 m pc ls (.int (nI md) :: .int (nI x) :: .int (nI a) :: .ref h0 :: rest)) := pp_call (n := 3) CF (metX0_powerRest l D tys H h0 nn hO a x md ha hx' h0' hmd) (lw_V q63 q65 qs2 q17 q66) rfl rfl (by decide +kernel) rfl hR hK (hO.recv hK) rfl hsz hroom hdg hcs (fun r hr => by rw [hr]; exact kk)
/-- X0.commonDivisor -/
abbrev rmX0_commonDivisor : Room := { frames := 0, cells := 0, slots := 0, locals := 0 }
set_option maxHeartbeats 4000000 in
set_option maxRecDepth 100000 in
theorem metX0_commonDivisor (l : Launch) (D : va_G) (tys : List (ClassId × FieldType)) (H : Heap) (h0 nn : Nat) (hO : pd_ob D h0 nn H) (a b : Nat) (ha : a < 2147483648) (hb' : b < 2147483648) : pp_M l yX0_commonDivisor (ws_ yX0_commonDivisor cX0_commonDivisor 6 (some .int)) rmX0_commonDivisor D tys [.ref h0, .int (nI a), .int (nI b)] H (fun r => r = nI (Nat.gcd a b)) := by
  refine pp_start (by decide) (Or.inl rfl) (Nat.le_of_ble_eq_true rfl) ?_
  intro p e s m args below meth c Q ls CF hK hl hret
  have hx := CF.1
  have hb := CF.2.1
  have hl : lv_has ls 6 [(0, .ref h0), (1, .int (nI a)), (2, .int (nI b))] := hl
  refine lv_iload_n hx hb dX0_commonDivisor_0 rfl (lv_at hl 1 rfl) ?_
  refine lv_istore_n (lv' := [(3, .int (nI a)), (0, .ref h0), (1, .int (nI a)), (2, .int (nI b))]) hx hb dX0_commonDivisor_1 rfl hl (by decide) rfl (fun ls hl => ?_)
  refine lv_iload_n hx hb dX0_commonDivisor_2 rfl (lv_at hl 3 rfl) ?_
  refine lv_istore (lv' := [(4, .int (nI b)), (3, .int (nI a)), (0, .ref h0), (1, .int (nI a)), (2, .int (nI b))]) hx hb dX0_commonDivisor_3 hl (by decide) rfl (fun ls hl => ?_)
  have lp : ∀ (k : Nat) (x y : Nat) (ls : Array Slot), (x < k) → (x < 2147483648) → (y < 2147483648) → (Nat.gcd x y = Nat.gcd a b) → lv_has ls 6 [(0, .ref h0), (1, .int (nI a)), (2, .int (nI b)), (3, .int (nI x)), (4, .int (nI y))] → W p l e rmX0_commonDivisor s m args below meth c H [] 0 0 Q (F0 m 5 ls []) := by
    intro k
    induction k with
    | zero =>
      intro x y ls hm
      exact absurd hm (Nat.not_lt_zero _)
    | succ k ihlp =>
      intro x y ls hm hx2 hy2 hinv hl
      refine lv_iload_n hx hb dX0_commonDivisor_5 rfl (lv_at hl 3 rfl) ?_
      refine pw_if_eq (tgt := 24) hx hb dX0_commonDivisor_6 (by decide) (by omega) (fun c6 => ?_) (fun c6 => ?_)
      · refine lv_iload hx hb dX0_commonDivisor_24 (lv_at hl 4 rfl) ?_
        exact hret _ _ _ dX0_commonDivisor_26 (by rw [← hinv, c6, Nat.gcd_zero_left])
      · refine lv_iload hx hb dX0_commonDivisor_9 (lv_at hl 4 rfl) ?_
        refine lv_iload_n hx hb dX0_commonDivisor_11 rfl (lv_at hl 3 rfl) ?_
        refine pw_rem hx hb dX0_commonDivisor_12 (by omega) (by omega) (by omega) (y % x) rfl ?_
        refine lv_istore (lv' := [(5, .int (nI (y % x))), (0, .ref h0), (1, .int (nI a)), (2, .int (nI b)), (3, .int (nI x)), (4, .int (nI y))]) hx hb dX0_commonDivisor_13 hl (by decide) rfl (fun ls hl => ?_)
        refine lv_iload_n hx hb dX0_commonDivisor_15 rfl (lv_at hl 4 rfl) ?_
        refine lv_istore (lv' := [(4, .int (nI x)), (5, .int (nI (y % x))), (0, .ref h0), (1, .int (nI a)), (2, .int (nI b)), (3, .int (nI x))]) hx hb dX0_commonDivisor_16 hl (by decide) rfl (fun ls hl => ?_)
        refine lv_iload hx hb dX0_commonDivisor_18 (lv_at hl 1 rfl) ?_
        refine lv_istore_n (lv' := [(3, .int (nI (y % x))), (4, .int (nI x)), (5, .int (nI (y % x))), (0, .ref h0), (1, .int (nI a)), (2, .int (nI b))]) hx hb dX0_commonDivisor_20 rfl hl (by decide) rfl (fun ls hl => ?_)
        refine lv_goto (tgt := 5) hx hb dX0_commonDivisor_21 (by decide) ?_
        exact ihlp (y % x) x ls (by have := Nat.mod_lt y (show 0 < x by omega); omega) (by have := Nat.mod_lt y (show 0 < x by omega); omega) (by omega) ((Nat.gcd_rec x y).symm.trans hinv) (lv_sub hl [3, 4, 5, 0, 1] rfl)
  exact lp (a + 1) a b ls (Nat.lt_succ_self _) (by omega) (by omega) (rfl) (lv_sub hl [2, 3, 4, 1, 0] rfl)
set_option maxHeartbeats 4000000 in
set_option maxRecDepth 100000 in
theorem callX0_commonDivisor {p : Program} {l : Launch} {e : Env} {R : Room} {s : State} {m : MethodId} {args : Array Value} {below : List Frame} {meth : Method} {c : Code} {H : Heap} {locs : List Loc} {cells slots : Nat} {Q : State → Prop} {cc : ByteArray} {pc nL : Nat} {ls : Array Slot} {rest : List Value} {D : va_G} {tys : List (ClassId × FieldType)} {h0 nn : Nat} {a b : Nat} (CF : CallFix p m c cc nL s args lw_all RX0) (hR : 1 ≤ R.frames ∧ 25 ≤ R.locals) (hK : va_K D vwCl tys s) (hO : pd_ob D h0 nn H) (ha : a < 2147483648) (hb' : b < 2147483648) (hsz : ls.size = nL) (hroom : (rest.map fun v => v.category).sum ≤ 8) (hdg : decode cc pc = .ok (.invokevirtual 38, 3)) (hcs : cells ≤ R.cells ∧ slots ≤ R.slots)
    (kk : W p l e R s m args below meth c H locs cells slots Q (F0 m (pc + 3) ls (.int (nI (Nat.gcd a b)) :: rest))) : W p l e R s m args below meth c H locs cells slots Q (F0 m pc ls (.int (nI b) :: .int (nI a) :: .ref h0 :: rest)) := pp_call (n := 2) CF (metX0_commonDivisor l D tys H h0 nn hO a b ha hb') (lw_V q95 q97 qs9 q17 q98) rfl rfl (by decide +kernel) rfl hR hK (hO.recv hK) rfl hsz hroom hdg hcs (fun r hr => by rw [hr]; exact kk)
/-- X0.leastPower -/
abbrev rmX0_leastPower : Room := { frames := 1, cells := 0, slots := 0, locals := 23 }
set_option maxHeartbeats 4000000 in
set_option maxRecDepth 100000 in
theorem metX0_leastPower (l : Launch) (D : va_G) (tys : List (ClassId × FieldType)) (H : Heap) (h0 nn : Nat) (hO : pd_ob D h0 nn H) (x pp : Nat) (k : Nat) (hxp : x < pp) (hpp : pp < 2147483648) (hk : pd_lp pp x k) (hk2 : k < 1000) : pp_M l yX0_leastPower (ws_ yX0_leastPower cX0_leastPower 5 (some .int)) rmX0_leastPower D tys [.ref h0, .int (nI x), .int (nI pp)] H (fun r => r = nI k) := by
  refine pp_start (by decide) (Or.inl rfl) (Nat.le_of_ble_eq_true rfl) ?_
  intro p e s m args below meth c Q ls CF hK hl hret
  have hx := CF.1
  have hb := CF.2.1
  have hl : lv_has ls 5 [(0, .ref h0), (1, .int (nI x)), (2, .int (nI pp))] := hl
  refine lv_iconst (v := nI 0) hx hb dX0_leastPower_0 (by decide) ?_
  refine lv_istore_n (lv' := [(3, .int (nI 0)), (0, .ref h0), (1, .int (nI x)), (2, .int (nI pp))]) hx hb dX0_leastPower_1 rfl hl (by decide) rfl (fun ls hl => ?_)
  refine lv_iload_n hx hb dX0_leastPower_2 rfl (lv_at hl 2 rfl) ?_
  refine lv_istore (lv' := [(4, .int (nI x)), (3, .int (nI 0)), (0, .ref h0), (1, .int (nI x)), (2, .int (nI pp))]) hx hb dX0_leastPower_3 hl (by decide) rfl (fun ls hl => ?_)
  have lp : ∀ (f : Nat) (t y : Nat) (ls : Array Slot), (k - t < f) → (t ≤ k) → (y = x ^ 2 ^ t % pp) → (y < pp) → lv_has ls 5 [(0, .ref h0), (1, .int (nI x)), (2, .int (nI pp)), (3, .int (nI t)), (4, .int (nI y))] → W p l e rmX0_leastPower s m args below meth c H [] 0 0 Q (F0 m 5 ls []) := by
    intro f
    induction f with
    | zero =>
      intro t y ls hm
      exact absurd hm (Nat.not_lt_zero _)
    | succ f ihlp =>
      intro t y ls hm ht hy hy2 hl
      refine lv_iload hx hb dX0_leastPower_5 (lv_at hl 4 rfl) ?_
      refine lv_iconst (v := nI 1) hx hb dX0_leastPower_7 (by decide) ?_
      refine pw_icmp_eq (tgt := 28) hx hb dX0_leastPower_8 (by decide) (by omega) (by omega) (fun c8 => ?_) (fun c8 => ?_)
      · have htk : t = k := by
          rcases Nat.lt_or_ge t k with q | q
          · exact absurd (hy.symm.trans c8) (hk.2 t q)
          · omega
        refine lv_iload_n hx hb dX0_leastPower_28 rfl (lv_at hl 3 rfl) ?_
        exact hret _ _ _ dX0_leastPower_29 (by rw [htk])
      · have hlt : t < k := by
          rcases Nat.lt_or_ge t k with q | q
          · exact q
          · exact absurd (by rw [hy, show t = k by omega]; exact hk.1) c8
        refine lv_aload_n hx hb dX0_leastPower_11 rfl (lv_at hl 0 rfl) ?_
        refine lv_iload hx hb dX0_leastPower_12 (lv_at hl 4 rfl) ?_
        refine lv_iload hx hb dX0_leastPower_14 (lv_at hl 4 rfl) ?_
        refine lv_iload_n hx hb dX0_leastPower_16 rfl (lv_at hl 2 rfl) ?_
        refine callX0_timesRest CF ⟨by decide, by decide⟩ hK hO (by omega) (by omega) (by omega) (by omega) hl.1 (Nat.le_of_ble_eq_true rfl) dX0_leastPower_17 ⟨Nat.zero_le _, Nat.zero_le _⟩ ?_
        refine lv_istore (lv' := [(4, .int (nI (y * y % pp))), (0, .ref h0), (1, .int (nI x)), (2, .int (nI pp)), (3, .int (nI t))]) hx hb dX0_leastPower_20 hl (by decide) rfl (fun ls hl => ?_)
        refine lv_iinc (v := nI (t + 1)) (lv' := [(3, .int (nI (t + 1))), (4, .int (nI (y * y % pp))), (0, .ref h0), (1, .int (nI x)), (2, .int (nI pp))]) hx hb dX0_leastPower_22 hl (k := 4) rfl (pw_i1 _) (by decide) rfl (fun ls hl => ?_)
        refine lv_goto (tgt := 5) hx hb dX0_leastPower_25 (by decide) ?_
        exact ihlp (t + 1) (y * y % pp) ls (by omega) (by omega) (by rw [hy]; exact pw_lpst) (Nat.mod_lt _ (by omega)) (lv_sub hl [2, 3, 4, 0, 1] rfl)
  exact lp (k + 1) 0 x ls (by omega) (Nat.zero_le _) (by rw [Nat.pow_zero, Nat.pow_one, Nat.mod_eq_of_lt hxp]) (hxp) (lv_sub hl [2, 3, 4, 1, 0] rfl)
set_option maxHeartbeats 4000000 in
set_option maxRecDepth 100000 in
theorem callX0_leastPower {p : Program} {l : Launch} {e : Env} {R : Room} {s : State} {m : MethodId} {args : Array Value} {below : List Frame} {meth : Method} {c : Code} {H : Heap} {locs : List Loc} {cells slots : Nat} {Q : State → Prop} {cc : ByteArray} {pc nL : Nat} {ls : Array Slot} {rest : List Value} {D : va_G} {tys : List (ClassId × FieldType)} {h0 nn : Nat} {x pp : Nat} {k : Nat} (CF : CallFix p m c cc nL s args lw_all RX0) (hR : 2 ≤ R.frames ∧ 47 ≤ R.locals) (hK : va_K D vwCl tys s) (hO : pd_ob D h0 nn H) (hxp : x < pp) (hpp : pp < 2147483648) (hk : pd_lp pp x k) (hk2 : k < 1000) (hsz : ls.size = nL) (hroom : (rest.map fun v => v.category).sum ≤ 8) (hdg : decode cc pc = .ok (.invokevirtual 76, 3)) (hcs : cells ≤ R.cells ∧ slots ≤ R.slots)
    (kk : W p l e R s m args below meth c H locs cells slots Q (F0 m (pc + 3) ls (.int (nI k) :: rest))) : W p l e R s m args below meth c H locs cells slots Q (F0 m pc ls (.int (nI pp) :: .int (nI x) :: .ref h0 :: rest)) := pp_call (n := 2) CF (metX0_leastPower l D tys H h0 nn hO x pp k hxp hpp hk hk2) (lw_V q136 q138 qs11 q17 q139) rfl rfl (by decide +kernel) rfl hR hK (hO.recv hK) rfl hsz hroom hdg hcs (fun r hr => by rw [hr]; exact kk)
end
section
/-! the desk's pure methods, 2 -/
theorem pd_sq_t {n k x : Nat} (hk : 1 ≤ k) (h : x = n - 1) : pd_sq n k x = true := by
  obtain ⟨j, rfl⟩ : ∃ j, k = j + 1 := ⟨k - 1, by omega⟩
  rw [pd_sq_s, pd_beq_t h]; rfl
theorem pd_sq_n {n k x : Nat} (hk : 1 ≤ k) (h : ¬ x = n - 1) : pd_sq n k x = pd_sq n (k - 1) (x * x % n) := by
  obtain ⟨j, rfl⟩ : ∃ j, k = j + 1 := ⟨k - 1, by omega⟩
  rw [pd_sq_s, pd_beq_f h]; rfl
theorem pd_pt_of {n : Nat} (h4 : 4 ≤ n) (h2 : ¬ n % 2 = 0) (h3 : ¬ n % 3 = 0) : pd_pt n = cond (pd_mr n 2) (pd_mr n 3) false := by
  show cond (Nat.ble 4 n) (cond (Nat.beq (n % 2) 0) false (cond (Nat.beq (n % 3) 0) false (cond (pd_mr n 2) (pd_mr n 3) false))) (Nat.ble 2 n) = _
  rw [pd_ble_t h4, pd_beq_f h2, pd_beq_f h3]; rfl
theorem pd_oddstep {n d : Nat} (hdo : d % 2 = 1) (hl2 : ∀ j, 3 ≤ j → j < d → ¬ (j % 2 = 1 ∧ n % j = 0)) (c : ¬ n % d = 0) : ∀ j, 3 ≤ j → j < d + 2 → ¬ (j % 2 = 1 ∧ n % j = 0) := by
  intro j a b e
  rcases Nat.lt_or_ge j d with q | q
  · exact hl2 j a q e
  · have e1 : j = d := by omega
    rw [e1] at e
    exact c e.2
def pd_gp (n g : Nat) : Prop := ∀ q, pd_pr q → (n - 1) % q = 0 → ¬ g ^ ((n - 1) / q) % n = 1
/-- X0.passes -/
abbrev rmX0_passes : Room := { frames := 2, cells := 0, slots := 0, locals := 49 }
set_option maxHeartbeats 4000000 in
set_option maxRecDepth 100000 in
theorem metX0_passes (l : Launch) (D : va_G) (tys : List (ClassId × FieldType)) (H : Heap) (h0 nn : Nat) (hO : pd_ob D h0 nn H) (n b : Nat) (hn3 : 3 ≤ n) (hn2 : n % 2 = 1) (hnb : n < 30720) (hbb : b < 1000) : pp_M l yX0_passes (ws_ yX0_passes cX0_passes 7 (some .boolean)) rmX0_passes D tys [.ref h0, .int (nI n), .int (nI b)] H (fun r => (r = nI 1 ∧ (pd_mr n b = true)) ∨ (r = nI 0 ∧ (pd_mr n b = false))) := by
  refine pp_start (by decide) (Or.inr ⟨rfl, fun r h => pw_01 h⟩) (Nat.le_of_ble_eq_true rfl) ?_
  intro p e s m args below meth c Q ls CF hK hl hret
  have hx := CF.1
  have hb := CF.2.1
  have hl : lv_has ls 7 [(0, .ref h0), (1, .int (nI n)), (2, .int (nI b))] := hl
  refine lv_iload_n hx hb dX0_passes_0 rfl (lv_at hl 1 rfl) ?_
  refine lv_iconst (v := nI 1) hx hb dX0_passes_1 (by decide) ?_
  refine pw_sub hx hb dX0_passes_2 (by omega) (n - 1) rfl ?_
  refine lv_istore_n (lv' := [(3, .int (nI (n - 1))), (0, .ref h0), (1, .int (nI n)), (2, .int (nI b))]) hx hb dX0_passes_3 rfl hl (by decide) rfl (fun ls hl => ?_)
  refine lv_iconst (v := nI 0) hx hb dX0_passes_4 (by decide) ?_
  refine lv_istore (lv' := [(4, .int (nI 0)), (3, .int (nI (n - 1))), (0, .ref h0), (1, .int (nI n)), (2, .int (nI b))]) hx hb dX0_passes_5 hl (by decide) rfl (fun ls hl => ?_)
  have lp : ∀ (k : Nat) (odd twos : Nat) (ls : Array Slot), (odd < 2 ^ k) → (0 < odd) → (twos + k ≤ 16) → (twos = 0 → odd = n - 1) → (odd ≤ n - 1) → (pd_mrs n b k odd twos = pd_mr n b) → lv_has ls 7 [(0, .ref h0), (1, .int (nI n)), (2, .int (nI b)), (3, .int (nI odd)), (4, .int (nI twos))] → W p l e rmX0_passes s m args below meth c H [] 0 0 Q (F0 m 7 ls []) := by
    intro k
    induction k with
    | zero =>
      intro odd twos ls hm
      intro ho; exact absurd hm (by rw [Nat.pow_zero]; omega)
    | succ k ihlp =>
      intro odd twos ls hm ho ht hz hob hinv hl
      refine lv_iload_n hx hb dX0_passes_7 rfl (lv_at hl 3 rfl) ?_
      refine lv_iconst (v := nI 1) hx hb dX0_passes_8 (by decide) ?_
      refine pw_and1 hx hb dX0_passes_9 (by omega) (odd % 2) rfl ?_
      refine pw_if_ne (tgt := 23) hx hb dX0_passes_10 (by decide) (by omega) (fun c10 => ?_) (fun c10 => ?_)
      · have hv : cond (Nat.beq (b ^ odd % n) 1) true (pd_sq n twos (b ^ odd % n)) = pd_mr n b := by rw [pd_mrs_s, pd_beq_f c10] at hinv; exact hinv
        have ht1 : 1 ≤ twos := by
          rcases Nat.eq_zero_or_pos twos with q | q
          · have := hz q; omega
          · exact q
        obtain ⟨x, ex⟩ : ∃ x, x = b ^ odd % n := ⟨_, rfl⟩
        have bx : x < n := by rw [ex]; exact Nat.mod_lt _ (by omega)
        rw [← ex] at hv
        refine lv_aload_n hx hb dX0_passes_23 rfl (lv_at hl 0 rfl) ?_
        refine lv_iload_n hx hb dX0_passes_24 rfl (lv_at hl 2 rfl) ?_
        refine lv_iload_n hx hb dX0_passes_25 rfl (lv_at hl 3 rfl) ?_
        refine lv_iload_n hx hb dX0_passes_26 rfl (lv_at hl 1 rfl) ?_
        refine callX0_powerRest CF ⟨by decide, by decide⟩ hK hO (by omega) (by omega) (by omega) (by omega) hl.1 (Nat.le_of_ble_eq_true rfl) dX0_passes_27 ⟨Nat.zero_le _, Nat.zero_le _⟩ ?_
        rw [show b ^ odd % n = x from ex.symm]
        refine lv_istore (lv' := [(5, .int (nI x)), (0, .ref h0), (1, .int (nI n)), (2, .int (nI b)), (3, .int (nI odd)), (4, .int (nI twos))]) hx hb dX0_passes_30 hl (by decide) rfl (fun ls hl => ?_)
        refine lv_iload hx hb dX0_passes_32 (lv_at hl 0 rfl) ?_
        refine lv_iconst (v := nI 1) hx hb dX0_passes_34 (by decide) ?_
        refine pw_icmp_eq (tgt := 46) hx hb dX0_passes_35 (by decide) (by omega) (by omega) (fun c35 => ?_) (fun c35 => ?_)
        · refine lv_iconst (v := nI 1) hx hb dX0_passes_46 (by decide) ?_
          exact hret _ _ _ dX0_passes_47 (Or.inl ⟨rfl, by rw [← hv, pd_beq_t c35]; rfl⟩)
        · refine lv_iload hx hb dX0_passes_38 (lv_at hl 0 rfl) ?_
          refine lv_iload_n hx hb dX0_passes_40 rfl (lv_at hl 2 rfl) ?_
          refine lv_iconst (v := nI 1) hx hb dX0_passes_41 (by decide) ?_
          refine pw_sub hx hb dX0_passes_42 (by omega) (n - 1) rfl ?_
          refine pw_icmp_ne (tgt := 48) hx hb dX0_passes_43 (by decide) (by omega) (by omega) (fun c43 => ?_) (fun c43 => ?_)
          · refine lv_iconst (v := nI 1) hx hb dX0_passes_48 (by decide) ?_
            refine lv_istore (lv' := [(6, .int (nI 1)), (5, .int (nI x)), (0, .ref h0), (1, .int (nI n)), (2, .int (nI b)), (3, .int (nI odd)), (4, .int (nI twos))]) hx hb dX0_passes_49 hl (by decide) rfl (fun ls hl => ?_)
            have lq : ∀ (f : Nat) (j z : Nat) (ls : Array Slot), (twos - j < f) → (1 ≤ j) → (j ≤ twos) → (z < n) → (pd_sq n (twos - j) (z * z % n) = pd_mr n b) → lv_has ls 7 [(0, .ref h0), (1, .int (nI n)), (2, .int (nI b)), (3, .int (nI odd)), (4, .int (nI twos)), (5, .int (nI z)), (6, .int (nI j))] → W p l e rmX0_passes s m args below meth c H [] 0 0 Q (F0 m 51 ls []) := by
              intro f
              induction f with
              | zero =>
                intro j z ls hm
                exact absurd hm (Nat.not_lt_zero _)
              | succ f ihlq =>
                intro j z ls hm hj hj2 hz2 hinv2 hl
                refine lv_iload hx hb dX0_passes_51 (lv_at hl 6 rfl) ?_
                refine lv_iload hx hb dX0_passes_53 (lv_at hl 4 rfl) ?_
                refine pw_icmp_ge (tgt := 85) hx hb dX0_passes_55 (by decide) (by omega) (by omega) (fun c55 => ?_) (fun c55 => ?_)
                · refine lv_iconst (v := nI 0) hx hb dX0_passes_85 (by decide) ?_
                  exact hret _ _ _ dX0_passes_86 (Or.inr ⟨rfl, by rw [← hinv2, show twos - j = 0 by omega]; rfl⟩)
                · refine lv_aload_n hx hb dX0_passes_58 rfl (lv_at hl 0 rfl) ?_
                  refine lv_iload hx hb dX0_passes_59 (lv_at hl 5 rfl) ?_
                  refine lv_iload hx hb dX0_passes_61 (lv_at hl 5 rfl) ?_
                  refine lv_iload_n hx hb dX0_passes_63 rfl (lv_at hl 1 rfl) ?_
                  refine callX0_timesRest CF ⟨by decide, by decide⟩ hK hO (by omega) (by omega) (by omega) (by omega) hl.1 (Nat.le_of_ble_eq_true rfl) dX0_passes_64 ⟨Nat.zero_le _, Nat.zero_le _⟩ ?_
                  refine lv_istore (lv' := [(5, .int (nI (z * z % n))), (0, .ref h0), (1, .int (nI n)), (2, .int (nI b)), (3, .int (nI odd)), (4, .int (nI twos)), (6, .int (nI j))]) hx hb dX0_passes_67 hl (by decide) rfl (fun ls hl => ?_)
                  refine lv_iload hx hb dX0_passes_69 (lv_at hl 0 rfl) ?_
                  refine lv_iload_n hx hb dX0_passes_71 rfl (lv_at hl 2 rfl) ?_
                  refine lv_iconst (v := nI 1) hx hb dX0_passes_72 (by decide) ?_
                  refine pw_sub hx hb dX0_passes_73 (by omega) (n - 1) rfl ?_
                  refine pw_icmp_ne (tgt := 79) hx hb dX0_passes_74 (by decide) (by have := Nat.mod_lt (z * z) (show 0 < n by omega); omega) (by omega) (fun c74 => ?_) (fun c74 => ?_)
                  · refine lv_iinc (v := nI (j + 1)) (lv' := [(6, .int (nI (j + 1))), (5, .int (nI (z * z % n))), (0, .ref h0), (1, .int (nI n)), (2, .int (nI b)), (3, .int (nI odd)), (4, .int (nI twos))]) hx hb dX0_passes_79 hl (k := 6) rfl (pw_i1 _) (by decide) rfl (fun ls hl => ?_)
                    refine lv_goto (tgt := 51) hx hb dX0_passes_82 (by decide) ?_
                    exact ihlq (j + 1) (z * z % n) ls (by omega) (by omega) (by omega) (Nat.mod_lt _ (by omega)) (by rw [← hinv2, pd_sq_n (k := twos - j) (by omega) c74, show twos - (j + 1) = twos - j - 1 by omega]) (lv_sub hl [2, 3, 4, 5, 6, 1, 0] rfl)
                  · refine lv_iconst (v := nI 1) hx hb dX0_passes_77 (by decide) ?_
                    exact hret _ _ _ dX0_passes_78 (Or.inl ⟨rfl, by rw [← hinv2]; exact pd_sq_t (by omega) c74⟩)
            exact lq (twos + 1) 1 x ls (by omega) (Nat.le_refl 1) (ht1) (bx) (by rw [← hv, pd_beq_f c35]; exact (pd_sq_n ht1 c43).symm) (lv_sub hl [2, 3, 4, 5, 6, 1, 0] rfl)
          · refine lv_iconst (v := nI 1) hx hb dX0_passes_46 (by decide) ?_
            exact hret _ _ _ dX0_passes_47 (Or.inl ⟨rfl, by rw [← hv, pd_beq_f c35]; exact pd_sq_t ht1 c43⟩)
      · refine lv_iload_n hx hb dX0_passes_13 rfl (lv_at hl 3 rfl) ?_
        refine lv_iconst (v := nI 1) hx hb dX0_passes_14 (by decide) ?_
        refine pw_shr1 hx hb dX0_passes_15 (by omega) (odd / 2) rfl ?_
        refine lv_istore_n (lv' := [(3, .int (nI (odd / 2))), (0, .ref h0), (1, .int (nI n)), (2, .int (nI b)), (4, .int (nI twos))]) hx hb dX0_passes_16 rfl hl (by decide) rfl (fun ls hl => ?_)
        refine lv_iinc (v := nI (twos + 1)) (lv' := [(4, .int (nI (twos + 1))), (3, .int (nI (odd / 2))), (0, .ref h0), (1, .int (nI n)), (2, .int (nI b))]) hx hb dX0_passes_17 hl (k := 4) rfl (pw_i1 _) (by decide) rfl (fun ls hl => ?_)
        refine lv_goto (tgt := 7) hx hb dX0_passes_20 (by decide) ?_
        exact ihlp (odd / 2) (twos + 1) ls (by rw [Nat.pow_succ] at hm; omega) (by omega) (by omega) (fun h => absurd h (by omega)) (by omega) (by rw [pd_mrs_s, pd_beq_t c10] at hinv; exact hinv) (lv_sub hl [2, 3, 4, 1, 0] rfl)
  exact lp 16 (n - 1) 0 ls (by omega) (by omega) (Nat.le_refl _) (fun _ => rfl) (Nat.le_refl _) (rfl) (lv_sub hl [2, 3, 4, 1, 0] rfl)
set_option maxHeartbeats 4000000 in
set_option maxRecDepth 100000 in
theorem callX0_passes {p : Program} {l : Launch} {e : Env} {R : Room} {s : State} {m : MethodId} {args : Array Value} {below : List Frame} {meth : Method} {c : Code} {H : Heap} {locs : List Loc} {cells slots : Nat} {Q : State → Prop} {cc : ByteArray} {pc nL : Nat} {ls : Array Slot} {rest : List Value} {D : va_G} {tys : List (ClassId × FieldType)} {h0 nn : Nat} {n b : Nat} (CF : CallFix p m c cc nL s args lw_all RX0) (hR : 3 ≤ R.frames ∧ 75 ≤ R.locals) (hK : va_K D vwCl tys s) (hO : pd_ob D h0 nn H) (hn3 : 3 ≤ n) (hn2 : n % 2 = 1) (hnb : n < 30720) (hbb : b < 1000) (hsz : ls.size = nL) (hroom : (rest.map fun v => v.category).sum ≤ 8) (hdg : decode cc pc = .ok (.invokevirtual 55, 3)) (hcs : cells ≤ R.cells ∧ slots ≤ R.slots)
    (kt : pd_mr n b = true → W p l e R s m args below meth c H locs cells slots Q (F0 m (pc + 3) ls (.int (nI 1) :: rest))) (kf : pd_mr n b = false → W p l e R s m args below meth c H locs cells slots Q (F0 m (pc + 3) ls (.int (nI 0) :: rest))) : W p l e R s m args below meth c H locs cells slots Q (F0 m pc ls (.int (nI b) :: .int (nI n) :: .ref h0 :: rest)) := pp_call (n := 2) CF (metX0_passes l D tys H h0 nn hO n b hn3 hn2 hnb hbb) (lw_V q59 q61 qs1 q17 q62) rfl rfl (by decide +kernel) rfl hR hK (hO.recv hK) rfl hsz hroom hdg hcs (fun r hr => by
  rcases hr with ⟨h1, h2⟩ | ⟨h1, h2⟩
  · rw [h1]; exact kt h2
  · rw [h1]; exact kf h2)
/-- X0.primeTest -/
abbrev rmX0_primeTest : Room := { frames := 3, cells := 0, slots := 0, locals := 75 }
set_option maxHeartbeats 4000000 in
set_option maxRecDepth 100000 in
theorem metX0_primeTest (l : Launch) (D : va_G) (tys : List (ClassId × FieldType)) (H : Heap) (h0 nn : Nat) (hO : pd_ob D h0 nn H) (n : Nat) (hn : n < 30720) : pp_M l yX0_primeTest (ws_ yX0_primeTest cX0_primeTest 2 (some .boolean)) rmX0_primeTest D tys [.ref h0, .int (nI n)] H (fun r => (r = nI 1 ∧ (pd_pr n)) ∨ (r = nI 0 ∧ (¬ pd_pr n))) := by
  refine pp_start (by decide) (Or.inr ⟨rfl, fun r h => pw_01 h⟩) (Nat.le_of_ble_eq_true rfl) ?_
  intro p e s m args below meth c Q ls CF hK hl hret
  have hx := CF.1
  have hb := CF.2.1
  have hl : lv_has ls 2 [(0, .ref h0), (1, .int (nI n))] := hl
  refine lv_iload_n hx hb dX0_primeTest_0 rfl (lv_at hl 1 rfl) ?_
  refine lv_iconst (v := nI 4) hx hb dX0_primeTest_1 (by decide) ?_
  refine pw_icmp_ge (tgt := 16) hx hb dX0_primeTest_2 (by decide) (by omega) (by omega) (fun c2 => ?_) (fun c2 => ?_)
  · refine lv_iload_n hx hb dX0_primeTest_16 rfl (lv_at hl 1 rfl) ?_
    refine lv_iconst (v := nI 2) hx hb dX0_primeTest_17 (by decide) ?_
    refine pw_rem hx hb dX0_primeTest_18 (by omega) (by omega) (by omega) (n % 2) rfl ?_
    refine pw_if_eq (tgt := 28) hx hb dX0_primeTest_19 (by decide) (by omega) (fun c19 => ?_) (fun c19 => ?_)
    · refine lv_iload_n hx hb dX0_primeTest_28 rfl (lv_at hl 1 rfl) ?_
      refine lv_iconst (v := nI 3) hx hb dX0_primeTest_29 (by decide) ?_
      refine pw_icmp_ne (tgt := 37) hx hb dX0_primeTest_30 (by decide) (by omega) (by omega) (fun c30 => ?_) (fun c30 => absurd c30 (by omega))
      refine lv_iconst (v := nI 0) hx hb dX0_primeTest_37 (by decide) ?_
      exact hret _ _ _ dX0_primeTest_38 (Or.inr ⟨rfl, fun h => h.2 2 (by omega) (by omega) c19⟩)
    · refine lv_iload_n hx hb dX0_primeTest_22 rfl (lv_at hl 1 rfl) ?_
      refine lv_iconst (v := nI 3) hx hb dX0_primeTest_23 (by decide) ?_
      refine pw_rem hx hb dX0_primeTest_24 (by omega) (by omega) (by omega) (n % 3) rfl ?_
      refine pw_if_ne (tgt := 39) hx hb dX0_primeTest_25 (by decide) (by omega) (fun c25 => ?_) (fun c25 => ?_)
      · refine lv_aload_n hx hb dX0_primeTest_39 rfl (lv_at hl 0 rfl) ?_
        refine lv_iload_n hx hb dX0_primeTest_40 rfl (lv_at hl 1 rfl) ?_
        refine lv_iconst (v := nI 2) hx hb dX0_primeTest_41 (by decide) ?_
        refine callX0_passes CF ⟨by decide, by decide⟩ hK hO (by omega) (by omega) (by omega) (by omega) hl.1 (Nat.le_of_ble_eq_true rfl) dX0_primeTest_42 ⟨Nat.zero_le _, Nat.zero_le _⟩ (fun b42 => ?_) (fun b42 => ?_)
        · refine pw_if_eq (tgt := 61) hx hb dX0_primeTest_45 (by decide) (by omega) (fun c45 => absurd c45 (by decide)) (fun c45 => ?_)
          refine lv_aload_n hx hb dX0_primeTest_48 rfl (lv_at hl 0 rfl) ?_
          refine lv_iload_n hx hb dX0_primeTest_49 rfl (lv_at hl 1 rfl) ?_
          refine lv_iconst (v := nI 3) hx hb dX0_primeTest_50 (by decide) ?_
          refine callX0_passes CF ⟨by decide, by decide⟩ hK hO (by omega) (by omega) (by omega) (by omega) hl.1 (Nat.le_of_ble_eq_true rfl) dX0_primeTest_51 ⟨Nat.zero_le _, Nat.zero_le _⟩ (fun b51 => ?_) (fun b51 => ?_)
          · refine pw_if_eq (tgt := 61) hx hb dX0_primeTest_54 (by decide) (by omega) (fun c54 => absurd c54 (by decide)) (fun c54 => ?_)
            refine lv_iconst (v := nI 1) hx hb dX0_primeTest_57 (by decide) ?_
            refine lv_goto (tgt := 62) hx hb dX0_primeTest_58 (by decide) ?_
            exact hret _ _ _ dX0_primeTest_62 (Or.inl ⟨rfl, (pd_pt_pr hn).mp (by rw [pd_pt_of c2 c19 c25, b42, b51]; rfl)⟩)
          · refine pw_if_eq (tgt := 61) hx hb dX0_primeTest_54 (by decide) (by omega) (fun c54 => ?_) (fun c54 => absurd c54 (by decide))
            refine lv_iconst (v := nI 0) hx hb dX0_primeTest_61 (by decide) ?_
            exact hret _ _ _ dX0_primeTest_62 (Or.inr ⟨rfl, fun h => by have h9 := (pd_pt_pr hn).mpr h; rw [pd_pt_of c2 c19 c25, b42, b51] at h9; cases h9⟩)
        · refine pw_if_eq (tgt := 61) hx hb dX0_primeTest_45 (by decide) (by omega) (fun c45 => ?_) (fun c45 => absurd c45 (by decide))
          refine lv_iconst (v := nI 0) hx hb dX0_primeTest_61 (by decide) ?_
          exact hret _ _ _ dX0_primeTest_62 (Or.inr ⟨rfl, fun h => by have h9 := (pd_pt_pr hn).mpr h; rw [pd_pt_of c2 c19 c25, b42] at h9; cases h9⟩)
      · refine lv_iload_n hx hb dX0_primeTest_28 rfl (lv_at hl 1 rfl) ?_
        refine lv_iconst (v := nI 3) hx hb dX0_primeTest_29 (by decide) ?_
        refine pw_icmp_ne (tgt := 37) hx hb dX0_primeTest_30 (by decide) (by omega) (by omega) (fun c30 => ?_) (fun c30 => absurd c30 (by omega))
        refine lv_iconst (v := nI 0) hx hb dX0_primeTest_37 (by decide) ?_
        exact hret _ _ _ dX0_primeTest_38 (Or.inr ⟨rfl, fun h => h.2 3 (by omega) (by omega) c25⟩)
  · refine lv_iload_n hx hb dX0_primeTest_5 rfl (lv_at hl 1 rfl) ?_
    refine lv_iconst (v := nI 1) hx hb dX0_primeTest_6 (by decide) ?_
    refine pw_icmp_le (tgt := 14) hx hb dX0_primeTest_7 (by decide) (by omega) (by omega) (fun c7 => ?_) (fun c7 => ?_)
    · refine lv_iconst (v := nI 0) hx hb dX0_primeTest_14 (by decide) ?_
      exact hret _ _ _ dX0_primeTest_15 (Or.inr ⟨rfl, fun h => by have := h.1; omega⟩)
    · refine lv_iconst (v := nI 1) hx hb dX0_primeTest_10 (by decide) ?_
      refine lv_goto (tgt := 15) hx hb dX0_primeTest_11 (by decide) ?_
      exact hret _ _ _ dX0_primeTest_15 (Or.inl ⟨rfl, (pd_pt_pr hn).mp (by rcases (show n = 2 ∨ n = 3 by omega) with q | q <;> rw [q] <;> decide +kernel)⟩)
set_option maxHeartbeats 4000000 in
set_option maxRecDepth 100000 in
theorem callX0_primeTest {p : Program} {l : Launch} {e : Env} {R : Room} {s : State} {m : MethodId} {args : Array Value} {below : List Frame} {meth : Method} {c : Code} {H : Heap} {locs : List Loc} {cells slots : Nat} {Q : State → Prop} {cc : ByteArray} {pc nL : Nat} {ls : Array Slot} {rest : List Value} {D : va_G} {tys : List (ClassId × FieldType)} {h0 nn : Nat} {n : Nat} (CF : CallFix p m c cc nL s args lw_all RX0) (hR : 4 ≤ R.frames ∧ 96 ≤ R.locals) (hK : va_K D vwCl tys s) (hO : pd_ob D h0 nn H) (hn : n < 30720) (hsz : ls.size = nL) (hroom : (rest.map fun v => v.category).sum ≤ 8) (hdg : decode cc pc = .ok (.invokevirtual 24, 3)) (hcs : cells ≤ R.cells ∧ slots ≤ R.slots)
    (kt : pd_pr n → W p l e R s m args below meth c H locs cells slots Q (F0 m (pc + 3) ls (.int (nI 1) :: rest))) (kf : ¬ pd_pr n → W p l e R s m args below meth c H locs cells slots Q (F0 m (pc + 3) ls (.int (nI 0) :: rest))) : W p l e R s m args below meth c H locs cells slots Q (F0 m pc ls (.int (nI n) :: .ref h0 :: rest)) := pp_call (n := 1) CF (metX0_primeTest l D tys H h0 nn hO n hn) (lw_V q55 q57 qs0 q17 q58) rfl rfl (by decide +kernel) rfl hR hK (hO.recv hK) rfl hsz hroom hdg hcs (fun r hr => by
  rcases hr with ⟨h1, h2⟩ | ⟨h1, h2⟩
  · rw [h1]; exact kt h2
  · rw [h1]; exact kf h2)
/-- X0.walk -/
abbrev rmX0_walk : Room := { frames := 1, cells := 0, slots := 0, locals := 25 }
set_option maxHeartbeats 4000000 in
set_option maxRecDepth 100000 in
theorem metX0_walk (l : Launch) (D : va_G) (tys : List (ClassId × FieldType)) (H : Heap) (h0 nn : Nat) (hO : pd_ob D h0 nn H) (n add : Nat) (hn : 2 ≤ n) (hn2 : n ≤ 30000) (hadd : add ≤ 8) : pp_M l yX0_walk (ws_ yX0_walk cX0_walk 8 (some .int)) rmX0_walk D tys [.ref h0, .int (nI n), .int (nI add)] H (fun r => ∃ d, r = nI d ∧ (d ∣ n)) := by
  refine pp_start (by decide) (Or.inl rfl) (Nat.le_of_ble_eq_true rfl) ?_
  intro p e s m args below meth c Q ls CF hK hl hret
  have hx := CF.1
  have hb := CF.2.1
  have hl : lv_has ls 8 [(0, .ref h0), (1, .int (nI n)), (2, .int (nI add))] := hl
  refine lv_iconst (v := nI 2) hx hb dX0_walk_0 (by decide) ?_
  refine lv_istore_n (lv' := [(3, .int (nI 2)), (0, .ref h0), (1, .int (nI n)), (2, .int (nI add))]) hx hb dX0_walk_1 rfl hl (by decide) rfl (fun ls hl => ?_)
  refine lv_iconst (v := nI 2) hx hb dX0_walk_2 (by decide) ?_
  refine lv_istore (lv' := [(4, .int (nI 2)), (3, .int (nI 2)), (0, .ref h0), (1, .int (nI n)), (2, .int (nI add))]) hx hb dX0_walk_3 hl (by decide) rfl (fun ls hl => ?_)
  refine lv_iconst (v := nI 1) hx hb dX0_walk_5 (by decide) ?_
  refine lv_istore (lv' := [(5, .int (nI 1)), (4, .int (nI 2)), (3, .int (nI 2)), (0, .ref h0), (1, .int (nI n)), (2, .int (nI add))]) hx hb dX0_walk_6 hl (by decide) rfl (fun ls hl => ?_)
  refine lv_iconst (v := nI 0) hx hb dX0_walk_8 (by decide) ?_
  refine lv_istore (lv' := [(6, .int (nI 0)), (5, .int (nI 1)), (4, .int (nI 2)), (3, .int (nI 2)), (0, .ref h0), (1, .int (nI n)), (2, .int (nI add))]) hx hb dX0_walk_9 hl (by decide) rfl (fun ls hl => ?_)
  have lp : ∀ (k : Nat) (slow fast d step : Nat) (ls : Array Slot), (2000 - step < k) → (slow < 40000) → (fast < 40000) → (d ∣ n) → (step ≤ 2000) → lv_has ls 8 [(0, .ref h0), (1, .int (nI n)), (2, .int (nI add)), (3, .int (nI slow)), (4, .int (nI fast)), (5, .int (nI d)), (6, .int (nI step))] → W p l e rmX0_walk s m args below meth c H [] 0 0 Q (F0 m 11 ls []) := by
    intro k
    induction k with
    | zero =>
      intro slow fast d step ls hm
      exact absurd hm (Nat.not_lt_zero _)
    | succ k ihlp =>
      intro slow fast d step ls hm hs hf hd hst hl
      have hdn : d ≤ n := Nat.le_of_dvd (by omega) hd
      refine lv_iload hx hb dX0_walk_11 (lv_at hl 6 rfl) ?_
      refine lv_sipush (v := nI 2000) hx hb dX0_walk_13 (by decide) ?_
      refine pw_icmp_ge (tgt := 110) hx hb dX0_walk_16 (by decide) (by omega) (by omega) (fun c16 => ?_) (fun c16 => ?_)
      · refine lv_iload hx hb dX0_walk_110 (lv_at hl 5 rfl) ?_
        exact hret _ _ _ dX0_walk_112 (⟨d, rfl, hd⟩)
      · refine lv_iload hx hb dX0_walk_19 (lv_at hl 5 rfl) ?_
        refine lv_iconst (v := nI 1) hx hb dX0_walk_21 (by decide) ?_
        refine pw_icmp_ne (tgt := 110) hx hb dX0_walk_22 (by decide) (by omega) (by omega) (fun c22 => ?_) (fun c22 => ?_)
        · refine lv_iload hx hb dX0_walk_110 (lv_at hl 5 rfl) ?_
          exact hret _ _ _ dX0_walk_112 (⟨d, rfl, hd⟩)
        · refine lv_aload_n hx hb dX0_walk_25 rfl (lv_at hl 0 rfl) ?_
          refine lv_iload_n hx hb dX0_walk_26 rfl (lv_at hl 3 rfl) ?_
          refine lv_iload_n hx hb dX0_walk_27 rfl (lv_at hl 3 rfl) ?_
          refine lv_iload_n hx hb dX0_walk_28 rfl (lv_at hl 1 rfl) ?_
          obtain ⟨t1, et1⟩ : ∃ v, v = slow * slow % n := ⟨_, rfl⟩
          have bt1 : t1 < n := by rw [et1]; exact Nat.mod_lt _ (by omega)
          refine callX0_timesRest CF ⟨by decide, by decide⟩ hK hO (by omega) (by omega) (by omega) (by omega) hl.1 (Nat.le_of_ble_eq_true rfl) dX0_walk_29 ⟨Nat.zero_le _, Nat.zero_le _⟩ ?_
          rw [show slow * slow % n = t1 from et1.symm]
          refine lv_iload_n hx hb dX0_walk_32 rfl (lv_at hl 2 rfl) ?_
          refine pw_add hx hb dX0_walk_33 (t1 + add) rfl ?_
          refine lv_iload_n hx hb dX0_walk_34 rfl (lv_at hl 1 rfl) ?_
          obtain ⟨s1, es1⟩ : ∃ v, v = (t1 + add) % n := ⟨_, rfl⟩
          have bs1 : s1 < n := by rw [es1]; exact Nat.mod_lt _ (by omega)
          refine pw_rem hx hb dX0_walk_35 (by omega) (by omega) (by omega) s1 (es1.symm) ?_
          refine lv_istore_n (lv' := [(3, .int (nI s1)), (0, .ref h0), (1, .int (nI n)), (2, .int (nI add)), (4, .int (nI fast)), (5, .int (nI d)), (6, .int (nI step))]) hx hb dX0_walk_36 rfl hl (by decide) rfl (fun ls hl => ?_)
          refine lv_aload_n hx hb dX0_walk_37 rfl (lv_at hl 1 rfl) ?_
          refine lv_iload hx hb dX0_walk_38 (lv_at hl 4 rfl) ?_
          refine lv_iload hx hb dX0_walk_40 (lv_at hl 4 rfl) ?_
          refine lv_iload_n hx hb dX0_walk_42 rfl (lv_at hl 2 rfl) ?_
          obtain ⟨t2, et2⟩ : ∃ v, v = fast * fast % n := ⟨_, rfl⟩
          have bt2 : t2 < n := by rw [et2]; exact Nat.mod_lt _ (by omega)
          refine callX0_timesRest CF ⟨by decide, by decide⟩ hK hO (by omega) (by omega) (by omega) (by omega) hl.1 (Nat.le_of_ble_eq_true rfl) dX0_walk_43 ⟨Nat.zero_le _, Nat.zero_le _⟩ ?_
          rw [show fast * fast % n = t2 from et2.symm]
          refine lv_iload_n hx hb dX0_walk_46 rfl (lv_at hl 3 rfl) ?_
          refine pw_add hx hb dX0_walk_47 (t2 + add) rfl ?_
          refine lv_iload_n hx hb dX0_walk_48 rfl (lv_at hl 2 rfl) ?_
          obtain ⟨f1, ef1⟩ : ∃ v, v = (t2 + add) % n := ⟨_, rfl⟩
          have bf1 : f1 < n := by rw [ef1]; exact Nat.mod_lt _ (by omega)
          refine pw_rem hx hb dX0_walk_49 (by omega) (by omega) (by omega) f1 (ef1.symm) ?_
          refine lv_istore (lv' := [(4, .int (nI f1)), (3, .int (nI s1)), (0, .ref h0), (1, .int (nI n)), (2, .int (nI add)), (5, .int (nI d)), (6, .int (nI step))]) hx hb dX0_walk_50 hl (by decide) rfl (fun ls hl => ?_)
          refine lv_aload_n hx hb dX0_walk_52 rfl (lv_at hl 2 rfl) ?_
          refine lv_iload hx hb dX0_walk_53 (lv_at hl 0 rfl) ?_
          refine lv_iload hx hb dX0_walk_55 (lv_at hl 0 rfl) ?_
          refine lv_iload_n hx hb dX0_walk_57 rfl (lv_at hl 3 rfl) ?_
          obtain ⟨t3, et3⟩ : ∃ v, v = f1 * f1 % n := ⟨_, rfl⟩
          have bt3 : t3 < n := by rw [et3]; exact Nat.mod_lt _ (by omega)
          refine callX0_timesRest CF ⟨by decide, by decide⟩ hK hO (by omega) (by omega) (by omega) (by omega) hl.1 (Nat.le_of_ble_eq_true rfl) dX0_walk_58 ⟨Nat.zero_le _, Nat.zero_le _⟩ ?_
          rw [show f1 * f1 % n = t3 from et3.symm]
          refine lv_iload_n hx hb dX0_walk_61 rfl (lv_at hl 4 rfl) ?_
          refine pw_add hx hb dX0_walk_62 (t3 + add) rfl ?_
          refine lv_iload_n hx hb dX0_walk_63 rfl (lv_at hl 3 rfl) ?_
          obtain ⟨f2, ef2⟩ : ∃ v, v = (t3 + add) % n := ⟨_, rfl⟩
          have bf2 : f2 < n := by rw [ef2]; exact Nat.mod_lt _ (by omega)
          refine pw_rem hx hb dX0_walk_64 (by omega) (by omega) (by omega) f2 (ef2.symm) ?_
          refine lv_istore (lv' := [(4, .int (nI f2)), (3, .int (nI s1)), (0, .ref h0), (1, .int (nI n)), (2, .int (nI add)), (5, .int (nI d)), (6, .int (nI step))]) hx hb dX0_walk_65 hl (by decide) rfl (fun ls hl => ?_)
          refine lv_iload_n hx hb dX0_walk_67 rfl (lv_at hl 1 rfl) ?_
          refine lv_iload hx hb dX0_walk_68 (lv_at hl 0 rfl) ?_
          refine pw_icmp_le (tgt := 80) hx hb dX0_walk_70 (by decide) (by omega) (by omega) (fun c70 => ?_) (fun c70 => ?_)
          · refine lv_iload hx hb dX0_walk_80 (lv_at hl 0 rfl) ?_
            refine lv_iload_n hx hb dX0_walk_82 rfl (lv_at hl 1 rfl) ?_
            refine pw_sub hx hb dX0_walk_83 (by omega) (f2 - s1) rfl ?_
            refine lv_istore (lv' := [(7, .int (nI (f2 - s1))), (4, .int (nI f2)), (3, .int (nI s1)), (0, .ref h0), (1, .int (nI n)), (2, .int (nI add)), (5, .int (nI d)), (6, .int (nI step))]) hx hb dX0_walk_84 hl (by decide) rfl (fun ls hl => ?_)
            refine lv_iload hx hb dX0_walk_86 (lv_at hl 0 rfl) ?_
            refine pw_if_ne (tgt := 95) hx hb dX0_walk_88 (by decide) (by omega) (fun c88 => ?_) (fun c88 => ?_)
            · refine lv_aload_n hx hb dX0_walk_95 rfl (lv_at hl 3 rfl) ?_
              refine lv_iload hx hb dX0_walk_96 (lv_at hl 0 rfl) ?_
              refine lv_iload_n hx hb dX0_walk_98 rfl (lv_at hl 4 rfl) ?_
              refine callX0_commonDivisor CF ⟨by decide, by decide⟩ hK hO (by omega) (by omega) hl.1 (Nat.le_of_ble_eq_true rfl) dX0_walk_99 ⟨Nat.zero_le _, Nat.zero_le _⟩ ?_
              refine lv_istore (lv' := [(5, .int (nI (Nat.gcd (f2 - s1) n))), (7, .int (nI (f2 - s1))), (4, .int (nI f2)), (3, .int (nI s1)), (0, .ref h0), (1, .int (nI n)), (2, .int (nI add)), (6, .int (nI step))]) hx hb dX0_walk_102 hl (by decide) rfl (fun ls hl => ?_)
              refine lv_iinc (v := nI (step + 1)) (lv' := [(6, .int (nI (step + 1))), (5, .int (nI (Nat.gcd (f2 - s1) n))), (7, .int (nI (f2 - s1))), (4, .int (nI f2)), (3, .int (nI s1)), (0, .ref h0), (1, .int (nI n)), (2, .int (nI add))]) hx hb dX0_walk_104 hl (k := 7) rfl (pw_i1 _) (by decide) rfl (fun ls hl => ?_)
              refine lv_goto (tgt := 11) hx hb dX0_walk_107 (by decide) ?_
              exact ihlp s1 f2 (Nat.gcd (f2 - s1) n) (step + 1) ls (by omega) (by omega) (by omega) (Nat.gcd_dvd_right _ _) (by omega) (lv_sub hl [5, 6, 7, 4, 3, 1, 0] rfl)
            · refine lv_iload_n hx hb dX0_walk_91 rfl (lv_at hl 4 rfl) ?_
              refine lv_goto (tgt := 102) hx hb dX0_walk_92 (by decide) ?_
              refine lv_istore (lv' := [(5, .int (nI n)), (7, .int (nI (f2 - s1))), (4, .int (nI f2)), (3, .int (nI s1)), (0, .ref h0), (1, .int (nI n)), (2, .int (nI add)), (6, .int (nI step))]) hx hb dX0_walk_102 hl (by decide) rfl (fun ls hl => ?_)
              refine lv_iinc (v := nI (step + 1)) (lv' := [(6, .int (nI (step + 1))), (5, .int (nI n)), (7, .int (nI (f2 - s1))), (4, .int (nI f2)), (3, .int (nI s1)), (0, .ref h0), (1, .int (nI n)), (2, .int (nI add))]) hx hb dX0_walk_104 hl (k := 7) rfl (pw_i1 _) (by decide) rfl (fun ls hl => ?_)
              refine lv_goto (tgt := 11) hx hb dX0_walk_107 (by decide) ?_
              exact ihlp s1 f2 n (step + 1) ls (by omega) (by omega) (by omega) (Nat.dvd_refl n) (by omega) (lv_sub hl [5, 6, 7, 4, 3, 1, 0] rfl)
          · refine lv_iload_n hx hb dX0_walk_73 rfl (lv_at hl 1 rfl) ?_
            refine lv_iload hx hb dX0_walk_74 (lv_at hl 0 rfl) ?_
            refine pw_sub hx hb dX0_walk_76 (by omega) (s1 - f2) rfl ?_
            refine lv_goto (tgt := 84) hx hb dX0_walk_77 (by decide) ?_
            refine lv_istore (lv' := [(7, .int (nI (s1 - f2))), (4, .int (nI f2)), (3, .int (nI s1)), (0, .ref h0), (1, .int (nI n)), (2, .int (nI add)), (5, .int (nI d)), (6, .int (nI step))]) hx hb dX0_walk_84 hl (by decide) rfl (fun ls hl => ?_)
            refine lv_iload hx hb dX0_walk_86 (lv_at hl 0 rfl) ?_
            refine pw_if_ne (tgt := 95) hx hb dX0_walk_88 (by decide) (by omega) (fun c88 => ?_) (fun c88 => ?_)
            · refine lv_aload_n hx hb dX0_walk_95 rfl (lv_at hl 3 rfl) ?_
              refine lv_iload hx hb dX0_walk_96 (lv_at hl 0 rfl) ?_
              refine lv_iload_n hx hb dX0_walk_98 rfl (lv_at hl 4 rfl) ?_
              refine callX0_commonDivisor CF ⟨by decide, by decide⟩ hK hO (by omega) (by omega) hl.1 (Nat.le_of_ble_eq_true rfl) dX0_walk_99 ⟨Nat.zero_le _, Nat.zero_le _⟩ ?_
              refine lv_istore (lv' := [(5, .int (nI (Nat.gcd (s1 - f2) n))), (7, .int (nI (s1 - f2))), (4, .int (nI f2)), (3, .int (nI s1)), (0, .ref h0), (1, .int (nI n)), (2, .int (nI add)), (6, .int (nI step))]) hx hb dX0_walk_102 hl (by decide) rfl (fun ls hl => ?_)
              refine lv_iinc (v := nI (step + 1)) (lv' := [(6, .int (nI (step + 1))), (5, .int (nI (Nat.gcd (s1 - f2) n))), (7, .int (nI (s1 - f2))), (4, .int (nI f2)), (3, .int (nI s1)), (0, .ref h0), (1, .int (nI n)), (2, .int (nI add))]) hx hb dX0_walk_104 hl (k := 7) rfl (pw_i1 _) (by decide) rfl (fun ls hl => ?_)
              refine lv_goto (tgt := 11) hx hb dX0_walk_107 (by decide) ?_
              exact ihlp s1 f2 (Nat.gcd (s1 - f2) n) (step + 1) ls (by omega) (by omega) (by omega) (Nat.gcd_dvd_right _ _) (by omega) (lv_sub hl [5, 6, 7, 4, 3, 1, 0] rfl)
            · refine lv_iload_n hx hb dX0_walk_91 rfl (lv_at hl 4 rfl) ?_
              refine lv_goto (tgt := 102) hx hb dX0_walk_92 (by decide) ?_
              refine lv_istore (lv' := [(5, .int (nI n)), (7, .int (nI (s1 - f2))), (4, .int (nI f2)), (3, .int (nI s1)), (0, .ref h0), (1, .int (nI n)), (2, .int (nI add)), (6, .int (nI step))]) hx hb dX0_walk_102 hl (by decide) rfl (fun ls hl => ?_)
              refine lv_iinc (v := nI (step + 1)) (lv' := [(6, .int (nI (step + 1))), (5, .int (nI n)), (7, .int (nI (s1 - f2))), (4, .int (nI f2)), (3, .int (nI s1)), (0, .ref h0), (1, .int (nI n)), (2, .int (nI add))]) hx hb dX0_walk_104 hl (k := 7) rfl (pw_i1 _) (by decide) rfl (fun ls hl => ?_)
              refine lv_goto (tgt := 11) hx hb dX0_walk_107 (by decide) ?_
              exact ihlp s1 f2 n (step + 1) ls (by omega) (by omega) (by omega) (Nat.dvd_refl n) (by omega) (lv_sub hl [5, 6, 7, 4, 3, 1, 0] rfl)
  exact lp 2001 2 2 1 0 ls (by omega) (by omega) (by omega) (Nat.one_dvd n) (by omega) (lv_sub hl [4, 5, 6, 3, 2, 1, 0] rfl)
set_option maxHeartbeats 4000000 in
set_option maxRecDepth 100000 in
theorem callX0_walk {p : Program} {l : Launch} {e : Env} {R : Room} {s : State} {m : MethodId} {args : Array Value} {below : List Frame} {meth : Method} {c : Code} {H : Heap} {locs : List Loc} {cells slots : Nat} {Q : State → Prop} {cc : ByteArray} {pc nL : Nat} {ls : Array Slot} {rest : List Value} {D : va_G} {tys : List (ClassId × FieldType)} {h0 nn : Nat} {n add : Nat} (CF : CallFix p m c cc nL s args lw_all RX0) (hR : 2 ≤ R.frames ∧ 52 ≤ R.locals) (hK : va_K D vwCl tys s) (hO : pd_ob D h0 nn H) (hn : 2 ≤ n) (hn2 : n ≤ 30000) (hadd : add ≤ 8) (hsz : ls.size = nL) (hroom : (rest.map fun v => v.category).sum ≤ 8) (hdg : decode cc pc = .ok (.invokevirtual 73, 3)) (hcs : cells ≤ R.cells ∧ slots ≤ R.slots)
    (kk : ∀ d : Nat, (d ∣ n) → W p l e R s m args below meth c H locs cells slots Q (F0 m (pc + 3) ls (.int (nI d) :: rest))) : W p l e R s m args below meth c H locs cells slots Q (F0 m pc ls (.int (nI add) :: .int (nI n) :: .ref h0 :: rest)) := pp_call (n := 2) CF (metX0_walk l D tys H h0 nn hO n add hn hn2 hadd) (lw_V q91 q93 qs8 q17 q94) rfl rfl (by decide +kernel) rfl hR hK (hO.recv hK) rfl hsz hroom hdg hcs (fun r hr => by
  obtain ⟨d, h1, h2⟩ := hr
  rw [h1]; exact kk d h2)
/-- X0.splitter -/
abbrev rmX0_splitter : Room := { frames := 2, cells := 0, slots := 0, locals := 52 }
set_option maxHeartbeats 4000000 in
set_option maxRecDepth 100000 in
theorem metX0_splitter (l : Launch) (D : va_G) (tys : List (ClassId × FieldType)) (H : Heap) (h0 nn : Nat) (hO : pd_ob D h0 nn H) (n : Nat) (h4 : 4 ≤ n) (hn2 : n ≤ 30000) (hc : ¬ pd_pr n) : pp_M l yX0_splitter (ws_ yX0_splitter cX0_splitter 4 (some .int)) rmX0_splitter D tys [.ref h0, .int (nI n)] H (fun r => ∃ d, r = nI d ∧ (1 < d ∧ d < n ∧ n % d = 0)) := by
  refine pp_start (by decide) (Or.inl rfl) (Nat.le_of_ble_eq_true rfl) ?_
  intro p e s m args below meth c Q ls CF hK hl hret
  have hx := CF.1
  have hb := CF.2.1
  have hl : lv_has ls 4 [(0, .ref h0), (1, .int (nI n))] := hl
  refine lv_iload_n hx hb dX0_splitter_0 rfl (lv_at hl 1 rfl) ?_
  refine lv_iconst (v := nI 2) hx hb dX0_splitter_1 (by decide) ?_
  refine pw_rem hx hb dX0_splitter_2 (by omega) (by omega) (by omega) (n % 2) rfl ?_
  refine pw_if_ne (tgt := 8) hx hb dX0_splitter_3 (by decide) (by omega) (fun c3 => ?_) (fun c3 => ?_)
  · refine lv_iconst (v := nI 1) hx hb dX0_splitter_8 (by decide) ?_
    refine lv_istore_n (lv' := [(2, .int (nI 1)), (0, .ref h0), (1, .int (nI n))]) hx hb dX0_splitter_9 rfl hl (by decide) rfl (fun ls hl => ?_)
    have lp : ∀ (k : Nat) (add : Nat) (ls : Array Slot), (9 - add < k) → (1 ≤ add) → (add ≤ 9) → lv_has ls 4 [(0, .ref h0), (1, .int (nI n)), (2, .int (nI add))] → W p l e rmX0_splitter s m args below meth c H [] 0 0 Q (F0 m 10 ls []) := by
      intro k
      induction k with
      | zero =>
        intro add ls hm
        exact absurd hm (Nat.not_lt_zero _)
      | succ k ihlp =>
        intro add ls hm ha1 ha9 hl
        refine lv_iload_n hx hb dX0_splitter_10 rfl (lv_at hl 2 rfl) ?_
        refine lv_bipush (v := nI 8) hx hb dX0_splitter_11 (by decide) ?_
        refine pw_icmp_gt (tgt := 41) hx hb dX0_splitter_13 (by decide) (by omega) (by omega) (fun c13 => ?_) (fun c13 => ?_)
        · refine lv_iconst (v := nI 3) hx hb dX0_splitter_41 (by decide) ?_
          refine lv_istore_n (lv' := [(2, .int (nI 3)), (0, .ref h0), (1, .int (nI n))]) hx hb dX0_splitter_42 rfl hl (by decide) rfl (fun ls hl => ?_)
          have lq : ∀ (f : Nat) (d : Nat) (ls : Array Slot), (n - d < f) → (3 ≤ d) → (d % 2 = 1) → (d ≤ n) → (∀ j, 3 ≤ j → j < d → ¬ (j % 2 = 1 ∧ n % j = 0)) → lv_has ls 4 [(0, .ref h0), (1, .int (nI n)), (2, .int (nI d))] → W p l e rmX0_splitter s m args below meth c H [] 0 0 Q (F0 m 43 ls []) := by
            intro f
            induction f with
            | zero =>
              intro d ls hm
              exact absurd hm (Nat.not_lt_zero _)
            | succ f ihlq =>
              intro d ls hm hd3 hdo hdn hl2 hl
              have hne : ¬ d = n := by
                intro e1
                obtain ⟨z, z1, z2, z3⟩ := pd_comp (by omega) hc
                have hz2 : z % 2 = 1 := by
                  rcases Nat.mod_two_eq_zero_or_one z with q | q
                  · exact absurd (Nat.mod_eq_zero_of_dvd (Nat.dvd_trans (Nat.dvd_of_mod_eq_zero q) (Nat.dvd_of_mod_eq_zero z3))) c3
                  · exact q
                exact hl2 z (by omega) (by omega) ⟨hz2, z3⟩
              refine lv_iload_n hx hb dX0_splitter_43 rfl (lv_at hl 1 rfl) ?_
              refine lv_iload_n hx hb dX0_splitter_44 rfl (lv_at hl 2 rfl) ?_
              refine pw_rem hx hb dX0_splitter_45 (by omega) (by omega) (by omega) (n % d) rfl ?_
              refine pw_if_eq (tgt := 55) hx hb dX0_splitter_46 (by decide) (by have := Nat.mod_lt n (show 0 < d by omega); omega) (fun c46 => ?_) (fun c46 => ?_)
              · refine lv_iload_n hx hb dX0_splitter_55 rfl (lv_at hl 2 rfl) ?_
                exact hret _ _ _ dX0_splitter_56 (⟨d, rfl, by omega, by omega, c46⟩)
              · refine lv_iinc (v := nI (d + 2)) (lv' := [(2, .int (nI (d + 2))), (0, .ref h0), (1, .int (nI n))]) hx hb dX0_splitter_49 hl (k := 2) rfl (pw_i2 _) (by decide) rfl (fun ls hl => ?_)
                refine lv_goto (tgt := 43) hx hb dX0_splitter_52 (by decide) ?_
                exact ihlq (d + 2) ls (by omega) (by omega) (by omega) (by omega) (pd_oddstep hdo hl2 c46) (lv_sub hl [1, 2, 0] rfl)
          exact lq (n + 1) 3 ls (by omega) (by omega) (by omega) (by omega) (fun j a b => by omega) (lv_sub hl [1, 2, 0] rfl)
        · refine lv_aload_n hx hb dX0_splitter_16 rfl (lv_at hl 0 rfl) ?_
          refine lv_iload_n hx hb dX0_splitter_17 rfl (lv_at hl 1 rfl) ?_
          refine lv_iload_n hx hb dX0_splitter_18 rfl (lv_at hl 2 rfl) ?_
          refine callX0_walk CF ⟨by decide, by decide⟩ hK hO (by omega) (by omega) (by omega) hl.1 (Nat.le_of_ble_eq_true rfl) dX0_splitter_19 ⟨Nat.zero_le _, Nat.zero_le _⟩ (fun d hd => ?_)
          have hdn : d ≤ n := Nat.le_of_dvd (by omega) hd
          refine lv_istore_n (lv' := [(3, .int (nI d)), (0, .ref h0), (1, .int (nI n)), (2, .int (nI add))]) hx hb dX0_splitter_22 rfl hl (by decide) rfl (fun ls hl => ?_)
          refine lv_iload_n hx hb dX0_splitter_23 rfl (lv_at hl 0 rfl) ?_
          refine lv_iconst (v := nI 1) hx hb dX0_splitter_24 (by decide) ?_
          refine pw_icmp_le (tgt := 35) hx hb dX0_splitter_25 (by decide) (by omega) (by omega) (fun c25 => ?_) (fun c25 => ?_)
          · refine lv_iinc (v := nI (add + 1)) (lv' := [(2, .int (nI (add + 1))), (3, .int (nI d)), (0, .ref h0), (1, .int (nI n))]) hx hb dX0_splitter_35 hl (k := 3) rfl (pw_i1 _) (by decide) rfl (fun ls hl => ?_)
            refine lv_goto (tgt := 10) hx hb dX0_splitter_38 (by decide) ?_
            exact ihlp (add + 1) ls (by omega) (by omega) (by omega) (lv_sub hl [2, 3, 0] rfl)
          · refine lv_iload_n hx hb dX0_splitter_28 rfl (lv_at hl 0 rfl) ?_
            refine lv_iload_n hx hb dX0_splitter_29 rfl (lv_at hl 2 rfl) ?_
            refine pw_icmp_ge (tgt := 35) hx hb dX0_splitter_30 (by decide) (by omega) (by omega) (fun c30 => ?_) (fun c30 => ?_)
            · refine lv_iinc (v := nI (add + 1)) (lv' := [(2, .int (nI (add + 1))), (3, .int (nI d)), (0, .ref h0), (1, .int (nI n))]) hx hb dX0_splitter_35 hl (k := 3) rfl (pw_i1 _) (by decide) rfl (fun ls hl => ?_)
              refine lv_goto (tgt := 10) hx hb dX0_splitter_38 (by decide) ?_
              exact ihlp (add + 1) ls (by omega) (by omega) (by omega) (lv_sub hl [2, 3, 0] rfl)
            · refine lv_iload_n hx hb dX0_splitter_33 rfl (lv_at hl 0 rfl) ?_
              exact hret _ _ _ dX0_splitter_34 (⟨d, rfl, by omega, by omega, Nat.mod_eq_zero_of_dvd hd⟩)
    exact lp 9 1 ls (by omega) (by omega) (by omega) (lv_sub hl [1, 2, 0] rfl)
  · refine lv_iconst (v := nI 2) hx hb dX0_splitter_6 (by decide) ?_
    exact hret _ _ _ dX0_splitter_7 (⟨2, rfl, by omega, by omega, c3⟩)
set_option maxHeartbeats 4000000 in
set_option maxRecDepth 100000 in
theorem callX0_splitter {p : Program} {l : Launch} {e : Env} {R : Room} {s : State} {m : MethodId} {args : Array Value} {below : List Frame} {meth : Method} {c : Code} {H : Heap} {locs : List Loc} {cells slots : Nat} {Q : State → Prop} {cc : ByteArray} {pc nL : Nat} {ls : Array Slot} {rest : List Value} {D : va_G} {tys : List (ClassId × FieldType)} {h0 nn : Nat} {n : Nat} (CF : CallFix p m c cc nL s args lw_all RX0) (hR : 3 ≤ R.frames ∧ 75 ≤ R.locals) (hK : va_K D vwCl tys s) (hO : pd_ob D h0 nn H) (h4 : 4 ≤ n) (hn2 : n ≤ 30000) (hc : ¬ pd_pr n) (hsz : ls.size = nL) (hroom : (rest.map fun v => v.category).sum ≤ 8) (hdg : decode cc pc = .ok (.invokevirtual 69, 3)) (hcs : cells ≤ R.cells ∧ slots ≤ R.slots)
    (kk : ∀ d : Nat, (1 < d ∧ d < n ∧ n % d = 0) → W p l e R s m args below meth c H locs cells slots Q (F0 m (pc + 3) ls (.int (nI d) :: rest))) : W p l e R s m args below meth c H locs cells slots Q (F0 m pc ls (.int (nI n) :: .ref h0 :: rest)) := pp_call (n := 1) CF (metX0_splitter l D tys H h0 nn hO n h4 hn2 hc) (lw_V q87 q89 qs7 q17 q90) rfl rfl (by decide +kernel) rfl hR hK (hO.recv hK) rfl hsz hroom hdg hcs (fun r hr => by
  obtain ⟨d, h1, h2⟩ := hr
  rw [h1]; exact kk d h2)
end
section
/-! the desk's pure methods, 3: rootModulo, generates -/
theorem pd_lp_pos {p off k : Nat} (h : pd_lp p off k) (ho : off < p) (h1 : ¬ off = 1) : 1 ≤ k := by
  rcases Nat.eq_zero_or_pos k with q | q
  · have h2 := h.1
    rw [q, Nat.pow_zero, Nat.pow_one, Nat.mod_eq_of_lt ho] at h2
    exact absurd h2 h1
  · exact q
theorem pd_pr_odd {p : Nat} (hp : pd_pr p) (h3 : 3 ≤ p) : p % 2 = 1 := by
  rcases Nat.mod_two_eq_zero_or_one p with e | e
  · exact absurd e (hp.2 2 (Nat.le_refl 2) (by omega))
  · exact e
theorem pd_gq_step {n g r P : Nat} (hP : pd_pr P) (hd : r % P = 0) (iq : ∀ q, pd_pr q → (n - 1) % q = 0 → ¬ q ∣ r → q = P ∨ ¬ g ^ ((n - 1) / q) % n = 1) : ∀ q, pd_pr q → (n - 1) % q = 0 → ¬ q ∣ r / P → q = P ∨ ¬ g ^ ((n - 1) / q) % n = 1 := by
  intro q hq hn hr
  by_cases h : q ∣ r
  · have e : r = P * (r / P) := (Nat.mul_div_cancel' (Nat.dvd_of_mod_eq_zero hd)).symm
    rw [e] at h
    rcases pd_euclid hq h with c | c
    · rcases pd_pr_dvd hP c with e1 | e1
      · have := hq.1; omega
      · exact Or.inl e1
    · exact absurd c hr
  · exact iq q hq hn h
theorem pd_gq_end {n g r P : Nat} (iq : ∀ q, pd_pr q → (n - 1) % q = 0 → ¬ q ∣ r → q = P ∨ ¬ g ^ ((n - 1) / q) % n = 1) (h : ¬ g ^ ((n - 1) / P) % n = 1) : ∀ q, pd_pr q → (n - 1) % q = 0 → ¬ q ∣ r → ¬ g ^ ((n - 1) / q) % n = 1 := by
  intro q a b c
  rcases iq q a b c with e | e
  · rw [e]; exact h
  · exact e
/-- X0.rootModulo -/
abbrev rmX0_rootModulo : Room := { frames := 2, cells := 0, slots := 0, locals := 49 }
set_option maxHeartbeats 4000000 in
set_option maxRecDepth 100000 in
theorem metX0_rootModulo (l : Launch) (D : va_G) (tys : List (ClassId × FieldType)) (H : Heap) (h0 nn : Nat) (hO : pd_ob D h0 nn H) (a pp : Nat) (hp : pd_pr pp) (h3 : 3 ≤ pp) (hpb : pp < 30720) (hap : a < pp) (ha : a ^ ((pp - 1) / 2) % pp = 1) : pp_M l yX0_rootModulo (ws_ yX0_rootModulo cX0_rootModulo 13 (some .int)) rmX0_rootModulo D tys [.ref h0, .int (nI a), .int (nI pp)] H (fun r => ∃ d, r = nI d ∧ (d < pp ∧ d * d % pp = a % pp)) := by
  refine pp_start (by decide) (Or.inl rfl) (Nat.le_of_ble_eq_true rfl) ?_
  intro p e s m args below meth c Q ls CF hK hl hret
  have hx := CF.1
  have hb := CF.2.1
  have hl : lv_has ls 13 [(0, .ref h0), (1, .int (nI a)), (2, .int (nI pp))] := hl
  have hpo := pd_pr_odd hp h3
  refine lv_iload_n hx hb dX0_rootModulo_0 rfl (lv_at hl 2 rfl) ?_
  refine lv_iconst (v := nI 1) hx hb dX0_rootModulo_1 (by decide) ?_
  refine pw_sub hx hb dX0_rootModulo_2 (by omega) (pp - 1) rfl ?_
  refine lv_istore_n (lv' := [(3, .int (nI (pp - 1))), (0, .ref h0), (1, .int (nI a)), (2, .int (nI pp))]) hx hb dX0_rootModulo_3 rfl hl (by decide) rfl (fun ls hl => ?_)
  refine lv_iconst (v := nI 0) hx hb dX0_rootModulo_4 (by decide) ?_
  refine lv_istore (lv' := [(4, .int (nI 0)), (3, .int (nI (pp - 1))), (0, .ref h0), (1, .int (nI a)), (2, .int (nI pp))]) hx hb dX0_rootModulo_5 hl (by decide) rfl (fun ls hl => ?_)
  have lp : ∀ (k : Nat) (odd twos : Nat) (ls : Array Slot), (odd < 2 ^ k) → (0 < odd) → (twos + k ≤ 16) → (twos = 0 → odd = pp - 1) → (odd ≤ pp - 1) → (odd * 2 ^ twos = pp - 1) → lv_has ls 13 [(0, .ref h0), (1, .int (nI a)), (2, .int (nI pp)), (3, .int (nI odd)), (4, .int (nI twos))] → W p l e rmX0_rootModulo s m args below meth c H [] 0 0 Q (F0 m 7 ls []) := by
    intro k
    induction k with
    | zero =>
      intro odd twos ls hm
      intro ho; exact absurd hm (by rw [Nat.pow_zero]; omega)
    | succ k ihlp =>
      intro odd twos ls hm ho ht hz hob hinv hl
      refine lv_iload_n hx hb dX0_rootModulo_7 rfl (lv_at hl 3 rfl) ?_
      refine lv_iconst (v := nI 1) hx hb dX0_rootModulo_8 (by decide) ?_
      refine pw_and1 hx hb dX0_rootModulo_9 (by omega) (odd % 2) rfl ?_
      refine pw_if_ne (tgt := 23) hx hb dX0_rootModulo_10 (by decide) (by omega) (fun c10 => ?_) (fun c10 => ?_)
      · have ht1 : 1 ≤ twos := by
          rcases Nat.eq_zero_or_pos twos with q | q
          · have := hz q; omega
          · exact q
        obtain ⟨qq, q1, q2, q3, q4⟩ := pd_nonres hpb hp h3
        refine lv_iconst (v := nI 2) hx hb dX0_rootModulo_23 (by decide) ?_
        refine lv_istore (lv' := [(5, .int (nI 2)), (0, .ref h0), (1, .int (nI a)), (2, .int (nI pp)), (3, .int (nI odd)), (4, .int (nI twos))]) hx hb dX0_rootModulo_24 hl (by decide) rfl (fun ls hl => ?_)
        have lq : ∀ (f : Nat) (oth : Nat) (ls : Array Slot), (qq - oth < f) → (2 ≤ oth) → (oth ≤ qq) → lv_has ls 13 [(0, .ref h0), (1, .int (nI a)), (2, .int (nI pp)), (3, .int (nI odd)), (4, .int (nI twos)), (5, .int (nI oth))] → W p l e rmX0_rootModulo s m args below meth c H [] 0 0 Q (F0 m 26 ls []) := by
          intro f
          induction f with
          | zero =>
            intro oth ls hm
            exact absurd hm (Nat.not_lt_zero _)
          | succ f ihlq =>
            intro oth ls hm ho2 hoq hl
            refine lv_aload_n hx hb dX0_rootModulo_26 rfl (lv_at hl 0 rfl) ?_
            refine lv_iload hx hb dX0_rootModulo_27 (lv_at hl 5 rfl) ?_
            refine lv_iload_n hx hb dX0_rootModulo_29 rfl (lv_at hl 2 rfl) ?_
            refine lv_iconst (v := nI 1) hx hb dX0_rootModulo_30 (by decide) ?_
            refine pw_sub hx hb dX0_rootModulo_31 (by omega) (pp - 1) rfl ?_
            refine lv_iconst (v := nI 2) hx hb dX0_rootModulo_32 (by decide) ?_
            refine pw_div hx hb dX0_rootModulo_33 (by omega) (by omega) (by omega) ((pp - 1) / 2) rfl ?_
            refine lv_iload_n hx hb dX0_rootModulo_34 rfl (lv_at hl 2 rfl) ?_
            refine callX0_powerRest CF ⟨by decide, by decide⟩ hK hO (by omega) (by omega) (by omega) (by omega) hl.1 (Nat.le_of_ble_eq_true rfl) dX0_rootModulo_35 ⟨Nat.zero_le _, Nat.zero_le _⟩ ?_
            refine lv_iconst (v := nI 1) hx hb dX0_rootModulo_38 (by decide) ?_
            refine pw_icmp_ne (tgt := 48) hx hb dX0_rootModulo_39 (by decide) (by have := Nat.mod_lt (oth ^ ((pp - 1) / 2)) (show 0 < pp by omega); omega) (by omega) (fun c39 => ?_) (fun c39 => ?_)
            · refine lv_aload_n hx hb dX0_rootModulo_48 rfl (lv_at hl 0 rfl) ?_
              refine lv_iload hx hb dX0_rootModulo_49 (lv_at hl 5 rfl) ?_
              refine lv_iload_n hx hb dX0_rootModulo_51 rfl (lv_at hl 3 rfl) ?_
              refine lv_iload_n hx hb dX0_rootModulo_52 rfl (lv_at hl 2 rfl) ?_
              obtain ⟨hel, ehel⟩ : ∃ v, v = oth ^ odd % pp := ⟨_, rfl⟩
              have bhel : hel < pp := by rw [ehel]; exact Nat.mod_lt _ (by omega)
              refine callX0_powerRest CF ⟨by decide, by decide⟩ hK hO (by omega) (by omega) (by omega) (by omega) hl.1 (Nat.le_of_ble_eq_true rfl) dX0_rootModulo_53 ⟨Nat.zero_le _, Nat.zero_le _⟩ ?_
              rw [show oth ^ odd % pp = hel from ehel.symm]
              refine lv_istore (lv' := [(6, .int (nI hel)), (0, .ref h0), (1, .int (nI a)), (2, .int (nI pp)), (3, .int (nI odd)), (4, .int (nI twos)), (5, .int (nI oth))]) hx hb dX0_rootModulo_56 hl (by decide) rfl (fun ls hl => ?_)
              refine lv_aload_n hx hb dX0_rootModulo_58 rfl (lv_at hl 1 rfl) ?_
              refine lv_iload_n hx hb dX0_rootModulo_59 rfl (lv_at hl 2 rfl) ?_
              refine lv_iload_n hx hb dX0_rootModulo_60 rfl (lv_at hl 4 rfl) ?_
              refine lv_iconst (v := nI 1) hx hb dX0_rootModulo_61 (by decide) ?_
              refine pw_add hx hb dX0_rootModulo_62 (odd + 1) rfl ?_
              refine lv_iconst (v := nI 2) hx hb dX0_rootModulo_63 (by decide) ?_
              refine pw_div hx hb dX0_rootModulo_64 (by omega) (by omega) (by omega) ((odd + 1) / 2) rfl ?_
              refine lv_iload_n hx hb dX0_rootModulo_65 rfl (lv_at hl 3 rfl) ?_
              obtain ⟨root, eroot⟩ : ∃ v, v = a ^ ((odd + 1) / 2) % pp := ⟨_, rfl⟩
              have broot : root < pp := by rw [eroot]; exact Nat.mod_lt _ (by omega)
              refine callX0_powerRest CF ⟨by decide, by decide⟩ hK hO (by omega) (by omega) (by omega) (by omega) hl.1 (Nat.le_of_ble_eq_true rfl) dX0_rootModulo_66 ⟨Nat.zero_le _, Nat.zero_le _⟩ ?_
              rw [show a ^ ((odd + 1) / 2) % pp = root from eroot.symm]
              refine lv_istore (lv' := [(7, .int (nI root)), (6, .int (nI hel)), (0, .ref h0), (1, .int (nI a)), (2, .int (nI pp)), (3, .int (nI odd)), (4, .int (nI twos)), (5, .int (nI oth))]) hx hb dX0_rootModulo_69 hl (by decide) rfl (fun ls hl => ?_)
              refine lv_aload_n hx hb dX0_rootModulo_71 rfl (lv_at hl 2 rfl) ?_
              refine lv_iload_n hx hb dX0_rootModulo_72 rfl (lv_at hl 3 rfl) ?_
              refine lv_iload_n hx hb dX0_rootModulo_73 rfl (lv_at hl 5 rfl) ?_
              refine lv_iload_n hx hb dX0_rootModulo_74 rfl (lv_at hl 4 rfl) ?_
              obtain ⟨off, eoff⟩ : ∃ v, v = a ^ odd % pp := ⟨_, rfl⟩
              have boff : off < pp := by rw [eoff]; exact Nat.mod_lt _ (by omega)
              refine callX0_powerRest CF ⟨by decide, by decide⟩ hK hO (by omega) (by omega) (by omega) (by omega) hl.1 (Nat.le_of_ble_eq_true rfl) dX0_rootModulo_75 ⟨Nat.zero_le _, Nat.zero_le _⟩ ?_
              rw [show a ^ odd % pp = off from eoff.symm]
              refine lv_istore (lv' := [(8, .int (nI off)), (7, .int (nI root)), (6, .int (nI hel)), (0, .ref h0), (1, .int (nI a)), (2, .int (nI pp)), (3, .int (nI odd)), (4, .int (nI twos)), (5, .int (nI oth))]) hx hb dX0_rootModulo_78 hl (by decide) rfl (fun ls hl => ?_)
              refine lv_iload hx hb dX0_rootModulo_80 (lv_at hl 7 rfl) ?_
              refine lv_istore (lv' := [(9, .int (nI twos)), (8, .int (nI off)), (7, .int (nI root)), (6, .int (nI hel)), (0, .ref h0), (1, .int (nI a)), (2, .int (nI pp)), (3, .int (nI odd)), (4, .int (nI twos)), (5, .int (nI oth))]) hx hb dX0_rootModulo_82 hl (by decide) rfl (fun ls hl => ?_)
              have lr : ∀ (g : Nat) (hel root off size : Nat) (ls : Array Slot), (size < g) → (hel < pp) → (root < pp) → (off < pp) → (size ≤ 16) → (pd_ts pp a size off hel root) → lv_has ls 13 [(0, .ref h0), (1, .int (nI a)), (2, .int (nI pp)), (3, .int (nI odd)), (4, .int (nI twos)), (5, .int (nI oth)), (6, .int (nI hel)), (7, .int (nI root)), (8, .int (nI off)), (9, .int (nI size))] → W p l e rmX0_rootModulo s m args below meth c H [] 0 0 Q (F0 m 84 ls []) := by
                intro g
                induction g with
                | zero =>
                  intro hel root off size ls hm
                  exact absurd hm (Nat.not_lt_zero _)
                | succ g ihlr =>
                  intro hel root off size ls hm bh br bo bs hts hl
                  have hs1 := hts.1
                  refine lv_iload hx hb dX0_rootModulo_84 (lv_at hl 8 rfl) ?_
                  refine lv_iconst (v := nI 1) hx hb dX0_rootModulo_86 (by decide) ?_
                  refine pw_icmp_eq (tgt := 175) hx hb dX0_rootModulo_87 (by decide) (by omega) (by omega) (fun c87 => ?_) (fun c87 => ?_)
                  · refine lv_iload hx hb dX0_rootModulo_175 (lv_at hl 7 rfl) ?_
                    exact hret _ _ _ dX0_rootModulo_177 (⟨root, rfl, br, by rw [hts.2.1, c87, Nat.mul_one]⟩)
                  · obtain ⟨k2, hk, hks⟩ := pd_lp_ex hts.2.2.1
                    have hk1 := pd_lp_pos hk bo c87
                    refine lv_aload_n hx hb dX0_rootModulo_90 rfl (lv_at hl 0 rfl) ?_
                    refine lv_iload hx hb dX0_rootModulo_91 (lv_at hl 8 rfl) ?_
                    refine lv_iload_n hx hb dX0_rootModulo_93 rfl (lv_at hl 2 rfl) ?_
                    refine callX0_leastPower (k := k2) CF ⟨by decide, by decide⟩ hK hO (bo) (by omega) (hk) (by omega) hl.1 (Nat.le_of_ble_eq_true rfl) dX0_rootModulo_94 ⟨Nat.zero_le _, Nat.zero_le _⟩ ?_
                    refine lv_istore (lv' := [(10, .int (nI k2)), (0, .ref h0), (1, .int (nI a)), (2, .int (nI pp)), (3, .int (nI odd)), (4, .int (nI twos)), (5, .int (nI oth)), (6, .int (nI hel)), (7, .int (nI root)), (8, .int (nI off)), (9, .int (nI size))]) hx hb dX0_rootModulo_97 hl (by decide) rfl (fun ls hl => ?_)
                    refine lv_iload hx hb dX0_rootModulo_99 (lv_at hl 7 rfl) ?_
                    refine lv_istore (lv' := [(11, .int (nI hel)), (10, .int (nI k2)), (0, .ref h0), (1, .int (nI a)), (2, .int (nI pp)), (3, .int (nI odd)), (4, .int (nI twos)), (5, .int (nI oth)), (6, .int (nI hel)), (7, .int (nI root)), (8, .int (nI off)), (9, .int (nI size))]) hx hb dX0_rootModulo_101 hl (by decide) rfl (fun ls hl => ?_)
                    refine lv_iconst (v := nI 0) hx hb dX0_rootModulo_103 (by decide) ?_
                    refine lv_istore (lv' := [(12, .int (nI 0)), (11, .int (nI hel)), (10, .int (nI k2)), (0, .ref h0), (1, .int (nI a)), (2, .int (nI pp)), (3, .int (nI odd)), (4, .int (nI twos)), (5, .int (nI oth)), (6, .int (nI hel)), (7, .int (nI root)), (8, .int (nI off)), (9, .int (nI size))]) hx hb dX0_rootModulo_104 hl (by decide) rfl (fun ls hl => ?_)
                    have lv : ∀ (i : Nat) (j fac : Nat) (ls : Array Slot), (size - k2 - 1 - j < i) → (j ≤ size - k2 - 1) → (fac < pp) → (fac = hel ^ 2 ^ j % pp) → lv_has ls 13 [(0, .ref h0), (1, .int (nI a)), (2, .int (nI pp)), (3, .int (nI odd)), (4, .int (nI twos)), (5, .int (nI oth)), (6, .int (nI hel)), (7, .int (nI root)), (8, .int (nI off)), (9, .int (nI size)), (10, .int (nI k2)), (11, .int (nI fac)), (12, .int (nI j))] → W p l e rmX0_rootModulo s m args below meth c H [] 0 0 Q (F0 m 106 ls []) := by
                      intro i
                      induction i with
                      | zero =>
                        intro j fac ls hm
                        exact absurd hm (Nat.not_lt_zero _)
                      | succ i ihlv =>
                        intro j fac ls hm hj bf hfac hl
                        refine lv_iload hx hb dX0_rootModulo_106 (lv_at hl 12 rfl) ?_
                        refine lv_iload hx hb dX0_rootModulo_108 (lv_at hl 9 rfl) ?_
                        refine lv_iload hx hb dX0_rootModulo_110 (lv_at hl 10 rfl) ?_
                        refine pw_sub hx hb dX0_rootModulo_112 (by omega) (size - k2) rfl ?_
                        refine lv_iconst (v := nI 1) hx hb dX0_rootModulo_113 (by decide) ?_
                        refine pw_sub hx hb dX0_rootModulo_114 (by omega) ((size - k2) - 1) rfl ?_
                        refine pw_icmp_ge (tgt := 135) hx hb dX0_rootModulo_115 (by decide) (by omega) (by omega) (fun c115 => ?_) (fun c115 => ?_)
                        · refine lv_aload_n hx hb dX0_rootModulo_135 rfl (lv_at hl 0 rfl) ?_
                          refine lv_iload hx hb dX0_rootModulo_136 (lv_at hl 7 rfl) ?_
                          refine lv_iload hx hb dX0_rootModulo_138 (lv_at hl 11 rfl) ?_
                          refine lv_iload_n hx hb dX0_rootModulo_140 rfl (lv_at hl 2 rfl) ?_
                          refine callX0_timesRest CF ⟨by decide, by decide⟩ hK hO (by omega) (by omega) (by omega) (by omega) hl.1 (Nat.le_of_ble_eq_true rfl) dX0_rootModulo_141 ⟨Nat.zero_le _, Nat.zero_le _⟩ ?_
                          refine lv_istore (lv' := [(7, .int (nI (root * fac % pp))), (0, .ref h0), (1, .int (nI a)), (2, .int (nI pp)), (3, .int (nI odd)), (4, .int (nI twos)), (5, .int (nI oth)), (6, .int (nI hel)), (8, .int (nI off)), (9, .int (nI size)), (10, .int (nI k2)), (11, .int (nI fac)), (12, .int (nI j))]) hx hb dX0_rootModulo_144 hl (by decide) rfl (fun ls hl => ?_)
                          refine lv_aload_n hx hb dX0_rootModulo_146 rfl (lv_at hl 1 rfl) ?_
                          refine lv_iload hx hb dX0_rootModulo_147 (lv_at hl 11 rfl) ?_
                          refine lv_iload hx hb dX0_rootModulo_149 (lv_at hl 11 rfl) ?_
                          refine lv_iload_n hx hb dX0_rootModulo_151 rfl (lv_at hl 3 rfl) ?_
                          refine callX0_timesRest CF ⟨by decide, by decide⟩ hK hO (by omega) (by omega) (by omega) (by omega) hl.1 (Nat.le_of_ble_eq_true rfl) dX0_rootModulo_152 ⟨Nat.zero_le _, Nat.zero_le _⟩ ?_
                          refine lv_istore (lv' := [(6, .int (nI (fac * fac % pp))), (7, .int (nI (root * fac % pp))), (0, .ref h0), (1, .int (nI a)), (2, .int (nI pp)), (3, .int (nI odd)), (4, .int (nI twos)), (5, .int (nI oth)), (8, .int (nI off)), (9, .int (nI size)), (10, .int (nI k2)), (11, .int (nI fac)), (12, .int (nI j))]) hx hb dX0_rootModulo_155 hl (by decide) rfl (fun ls hl => ?_)
                          refine lv_aload_n hx hb dX0_rootModulo_157 rfl (lv_at hl 2 rfl) ?_
                          refine lv_iload hx hb dX0_rootModulo_158 (lv_at hl 8 rfl) ?_
                          refine lv_iload hx hb dX0_rootModulo_160 (lv_at hl 0 rfl) ?_
                          refine lv_iload_n hx hb dX0_rootModulo_162 rfl (lv_at hl 4 rfl) ?_
                          refine callX0_timesRest CF ⟨by decide, by decide⟩ hK hO (by omega) (by have := Nat.mod_lt (fac * fac) (show 0 < pp by omega); omega) (by omega) (by omega) hl.1 (Nat.le_of_ble_eq_true rfl) dX0_rootModulo_163 ⟨Nat.zero_le _, Nat.zero_le _⟩ ?_
                          refine lv_istore (lv' := [(8, .int (nI (off * (fac * fac % pp) % pp))), (6, .int (nI (fac * fac % pp))), (7, .int (nI (root * fac % pp))), (0, .ref h0), (1, .int (nI a)), (2, .int (nI pp)), (3, .int (nI odd)), (4, .int (nI twos)), (5, .int (nI oth)), (9, .int (nI size)), (10, .int (nI k2)), (11, .int (nI fac)), (12, .int (nI j))]) hx hb dX0_rootModulo_166 hl (by decide) rfl (fun ls hl => ?_)
                          refine lv_iload hx hb dX0_rootModulo_168 (lv_at hl 10 rfl) ?_
                          refine lv_istore (lv' := [(9, .int (nI k2)), (8, .int (nI (off * (fac * fac % pp) % pp))), (6, .int (nI (fac * fac % pp))), (7, .int (nI (root * fac % pp))), (0, .ref h0), (1, .int (nI a)), (2, .int (nI pp)), (3, .int (nI odd)), (4, .int (nI twos)), (5, .int (nI oth)), (10, .int (nI k2)), (11, .int (nI fac)), (12, .int (nI j))]) hx hb dX0_rootModulo_170 hl (by decide) rfl (fun ls hl => ?_)
                          refine lv_goto (tgt := 84) hx hb dX0_rootModulo_172 (by decide) ?_
                          exact ihlr (fac * fac % pp) (root * fac % pp) (off * (fac * fac % pp) % pp) k2 ls (by omega) (Nat.mod_lt _ (by omega)) (Nat.mod_lt _ (by omega)) (Nat.mod_lt _ (by omega)) (by omega) (pd_ts_step hp hts hk hk1 hks (by rw [hfac, show j = size - k2 - 1 by omega, Nat.mod_mod])) (lv_sub hl [4, 5, 6, 7, 8, 9, 2, 3, 1, 0] rfl)
                        · refine lv_aload_n hx hb dX0_rootModulo_118 rfl (lv_at hl 0 rfl) ?_
                          refine lv_iload hx hb dX0_rootModulo_119 (lv_at hl 11 rfl) ?_
                          refine lv_iload hx hb dX0_rootModulo_121 (lv_at hl 11 rfl) ?_
                          refine lv_iload_n hx hb dX0_rootModulo_123 rfl (lv_at hl 2 rfl) ?_
                          refine callX0_timesRest CF ⟨by decide, by decide⟩ hK hO (by omega) (by omega) (by omega) (by omega) hl.1 (Nat.le_of_ble_eq_true rfl) dX0_rootModulo_124 ⟨Nat.zero_le _, Nat.zero_le _⟩ ?_
                          refine lv_istore (lv' := [(11, .int (nI (fac * fac % pp))), (0, .ref h0), (1, .int (nI a)), (2, .int (nI pp)), (3, .int (nI odd)), (4, .int (nI twos)), (5, .int (nI oth)), (6, .int (nI hel)), (7, .int (nI root)), (8, .int (nI off)), (9, .int (nI size)), (10, .int (nI k2)), (12, .int (nI j))]) hx hb dX0_rootModulo_127 hl (by decide) rfl (fun ls hl => ?_)
                          refine lv_iinc (v := nI (j + 1)) (lv' := [(12, .int (nI (j + 1))), (11, .int (nI (fac * fac % pp))), (0, .ref h0), (1, .int (nI a)), (2, .int (nI pp)), (3, .int (nI odd)), (4, .int (nI twos)), (5, .int (nI oth)), (6, .int (nI hel)), (7, .int (nI root)), (8, .int (nI off)), (9, .int (nI size)), (10, .int (nI k2))]) hx hb dX0_rootModulo_129 hl (k := 12) rfl (pw_i1 _) (by decide) rfl (fun ls hl => ?_)
                          refine lv_goto (tgt := 106) hx hb dX0_rootModulo_132 (by decide) ?_
                          exact ihlv (j + 1) (fac * fac % pp) ls (by omega) (by omega) (Nat.mod_lt _ (by omega)) (by rw [hfac]; exact pw_lpst) (lv_sub hl [2, 3, 4, 5, 6, 7, 8, 9, 10, 11, 12, 1, 0] rfl)
                    exact lv (size + 1) 0 hel ls (by omega) (Nat.zero_le _) (bh) (by rw [Nat.pow_zero, Nat.pow_one, Nat.mod_eq_of_lt bh]) (lv_sub hl [3, 4, 5, 6, 7, 8, 9, 10, 11, 12, 2, 1, 0] rfl)
              exact lr (twos + 1) hel root off twos ls (Nat.lt_succ_self _) (bhel) (broot) (boff) (by omega) (by rw [eoff, ehel, eroot]; exact pd_ts_start hp h3 ht1 hinv (by omega) ha (by rw [Nat.mod_eq_of_lt (by omega)]; omega) c39) (lv_sub hl [4, 5, 6, 7, 8, 9, 3, 2, 1, 0] rfl)
            · have hlt : oth < qq := by
                rcases Nat.lt_or_ge oth qq with q | q
                · exact q
                · exact absurd (by rw [show qq = oth by omega]; exact c39) q3
              refine lv_iinc (v := nI (oth + 1)) (lv' := [(5, .int (nI (oth + 1))), (0, .ref h0), (1, .int (nI a)), (2, .int (nI pp)), (3, .int (nI odd)), (4, .int (nI twos))]) hx hb dX0_rootModulo_42 hl (k := 5) rfl (pw_i1 _) (by decide) rfl (fun ls hl => ?_)
              refine lv_goto (tgt := 26) hx hb dX0_rootModulo_45 (by decide) ?_
              exact ihlq (oth + 1) ls (by omega) (by omega) (by omega) (lv_sub hl [1, 2, 3, 4, 5, 0] rfl)
        exact lq (qq + 1) 2 ls (by omega) (by omega) (by omega) (lv_sub hl [1, 2, 3, 4, 5, 0] rfl)
      · refine lv_iload_n hx hb dX0_rootModulo_13 rfl (lv_at hl 3 rfl) ?_
        refine lv_iconst (v := nI 1) hx hb dX0_rootModulo_14 (by decide) ?_
        refine pw_shr1 hx hb dX0_rootModulo_15 (by omega) (odd / 2) rfl ?_
        refine lv_istore_n (lv' := [(3, .int (nI (odd / 2))), (0, .ref h0), (1, .int (nI a)), (2, .int (nI pp)), (4, .int (nI twos))]) hx hb dX0_rootModulo_16 rfl hl (by decide) rfl (fun ls hl => ?_)
        refine lv_iinc (v := nI (twos + 1)) (lv' := [(4, .int (nI (twos + 1))), (3, .int (nI (odd / 2))), (0, .ref h0), (1, .int (nI a)), (2, .int (nI pp))]) hx hb dX0_rootModulo_17 hl (k := 4) rfl (pw_i1 _) (by decide) rfl (fun ls hl => ?_)
        refine lv_goto (tgt := 7) hx hb dX0_rootModulo_20 (by decide) ?_
        exact ihlp (odd / 2) (twos + 1) ls (by rw [Nat.pow_succ] at hm; omega) (by omega) (by omega) (fun h => absurd h (by omega)) (by omega) (by rw [Nat.pow_succ', ← Nat.mul_assoc, show odd / 2 * 2 = odd by omega]; exact hinv) (lv_sub hl [2, 3, 4, 1, 0] rfl)
  exact lp 16 (pp - 1) 0 ls (by omega) (by omega) (Nat.le_refl _) (fun _ => rfl) (Nat.le_refl _) (by rw [Nat.pow_zero, Nat.mul_one]) (lv_sub hl [2, 3, 4, 1, 0] rfl)
set_option maxHeartbeats 4000000 in
set_option maxRecDepth 100000 in
theorem callX0_rootModulo {p : Program} {l : Launch} {e : Env} {R : Room} {s : State} {m : MethodId} {args : Array Value} {below : List Frame} {meth : Method} {c : Code} {H : Heap} {locs : List Loc} {cells slots : Nat} {Q : State → Prop} {cc : ByteArray} {pc nL : Nat} {ls : Array Slot} {rest : List Value} {D : va_G} {tys : List (ClassId × FieldType)} {h0 nn : Nat} {a pp : Nat} (CF : CallFix p m c cc nL s args lw_all RX0) (hR : 3 ≤ R.frames ∧ 81 ≤ R.locals) (hK : va_K D vwCl tys s) (hO : pd_ob D h0 nn H) (hp : pd_pr pp) (h3 : 3 ≤ pp) (hpb : pp < 30720) (hap : a < pp) (ha : a ^ ((pp - 1) / 2) % pp = 1) (hsz : ls.size = nL) (hroom : (rest.map fun v => v.category).sum ≤ 8) (hdg : decode cc pc = .ok (.invokevirtual 46, 3)) (hcs : cells ≤ R.cells ∧ slots ≤ R.slots)
    (kk : ∀ d : Nat, (d < pp ∧ d * d % pp = a % pp) → W p l e R s m args below meth c H locs cells slots Q (F0 m (pc + 3) ls (.int (nI d) :: rest))) : W p l e R s m args below meth c H locs cells slots Q (F0 m pc ls (.int (nI pp) :: .int (nI a) :: .ref h0 :: rest)) := pp_call (n := 2) CF (metX0_rootModulo l D tys H h0 nn hO a pp hp h3 hpb hap ha) (lw_V q132 q134 qs10 q17 q135) rfl rfl (by decide +kernel) rfl hR hK (hO.recv hK) rfl hsz hroom hdg hcs (fun r hr => by
  obtain ⟨d, h1, h2⟩ := hr
  rw [h1]; exact kk d h2)
/-- X0.generates -/
abbrev rmX0_generates : Room := { frames := 2, cells := 0, slots := 0, locals := 49 }
set_option maxHeartbeats 4000000 in
set_option maxRecDepth 100000 in
theorem metX0_generates (l : Launch) (D : va_G) (tys : List (ClassId × FieldType)) (H : Heap) (h0 nn : Nat) (hO : pd_ob D h0 nn H) (g : Nat) (hn3 : 3 ≤ nn) (hnn : nn ≤ 30000) (hg : g < nn) : pp_M l yX0_generates (ws_ yX0_generates cX0_generates 5 (some .boolean)) rmX0_generates D tys [.ref h0, .int (nI g)] H (fun r => (r = nI 1 ∧ (pd_gp nn g)) ∨ (r = nI 0 ∧ (¬ pd_gp nn g))) := by
  refine pp_start (by decide) (Or.inr ⟨rfl, fun r h => pw_01 h⟩) (Nat.le_of_ble_eq_true rfl) ?_
  intro p e s m args below meth c Q ls CF hK hl hret
  have hx := CF.1
  have hb := CF.2.1
  have hl : lv_has ls 5 [(0, .ref h0), (1, .int (nI g))] := hl
  refine lv_aload_n hx hb dX0_generates_0 rfl (lv_at hl 0 rfl) ?_
  refine pw_num CF hK hO dX0_generates_1 ?_
  refine lv_iconst (v := nI 1) hx hb dX0_generates_4 (by decide) ?_
  refine pw_sub hx hb dX0_generates_5 (by omega) (nn - 1) rfl ?_
  refine lv_istore_n (lv' := [(2, .int (nI (nn - 1))), (0, .ref h0), (1, .int (nI g))]) hx hb dX0_generates_6 rfl hl (by decide) rfl (fun ls hl => ?_)
  refine lv_iload_n hx hb dX0_generates_7 rfl (lv_at hl 0 rfl) ?_
  refine lv_istore_n (lv' := [(3, .int (nI (nn - 1))), (2, .int (nI (nn - 1))), (0, .ref h0), (1, .int (nI g))]) hx hb dX0_generates_8 rfl hl (by decide) rfl (fun ls hl => ?_)
  refine lv_iconst (v := nI 2) hx hb dX0_generates_9 (by decide) ?_
  refine lv_istore (lv' := [(4, .int (nI 2)), (3, .int (nI (nn - 1))), (2, .int (nI (nn - 1))), (0, .ref h0), (1, .int (nI g))]) hx hb dX0_generates_10 hl (by decide) rfl (fun ls hl => ?_)
  have lp : ∀ (k : Nat) (rest pp : Nat) (ls : Array Slot), (30002 - pp < k) → (0 < rest) → (rest ∣ nn - 1) → (2 ≤ pp) → (pp ≤ 30001) → (∀ d, 2 ≤ d → d < pp → ¬ rest % d = 0) → (∀ q, pd_pr q → (nn - 1) % q = 0 → ¬ q ∣ rest → ¬ g ^ ((nn - 1) / q) % nn = 1) → lv_has ls 5 [(0, .ref h0), (1, .int (nI g)), (2, .int (nI (nn - 1))), (3, .int (nI rest)), (4, .int (nI pp))] → W p l e rmX0_generates s m args below meth c H [] 0 0 Q (F0 m 12 ls []) := by
    intro k
    induction k with
    | zero =>
      intro rest pp ls hm
      exact absurd hm (Nat.not_lt_zero _)
    | succ k ihlp =>
      intro rest pp ls hm hr0 hrd hp2 hpb hl2 hq hl
      have hrb : rest ≤ nn - 1 := Nat.le_of_dvd (by omega) hrd
      refine lv_iload_n hx hb dX0_generates_12 rfl (lv_at hl 3 rfl) ?_
      refine lv_iconst (v := nI 1) hx hb dX0_generates_13 (by decide) ?_
      refine pw_icmp_le (tgt := 79) hx hb dX0_generates_14 (by decide) (by omega) (by omega) (fun c14 => ?_) (fun c14 => ?_)
      · refine lv_iconst (v := nI 1) hx hb dX0_generates_79 (by decide) ?_
        exact hret _ _ _ dX0_generates_80 (Or.inl ⟨rfl, fun q hq1 hq2 => hq q hq1 hq2 (fun hd => by have := Nat.le_of_dvd hr0 hd; have := hq1.1; omega)⟩)
      · have hge := pd_ge c14 hl2
        refine lv_iload hx hb dX0_generates_17 (lv_at hl 4 rfl) ?_
        refine lv_iload hx hb dX0_generates_19 (lv_at hl 4 rfl) ?_
        refine pw_mul hx hb dX0_generates_21 (pp * pp) rfl ?_
        refine lv_iload_n hx hb dX0_generates_22 rfl (lv_at hl 3 rfl) ?_
        refine pw_icmp_le (tgt := 29) hx hb dX0_generates_23 (by decide) (pw_sq (by omega)) (by omega) (fun c23 => ?_) (fun c23 => ?_)
        · have hl3 := hl2
          have hP2 : 2 ≤ pp := by omega
          have hPr : pp ≤ rest := by omega
          have hPp : pp ≤ pp := by omega
          refine lv_iload_n hx hb dX0_generates_29 rfl (lv_at hl 3 rfl) ?_
          refine lv_iload hx hb dX0_generates_30 (lv_at hl 4 rfl) ?_
          refine pw_rem hx hb dX0_generates_32 (by omega) (by omega) (by omega) (rest % pp) rfl ?_
          refine pw_if_eq (tgt := 39) hx hb dX0_generates_33 (by decide) (Nat.lt_of_le_of_lt (Nat.mod_le _ _) (by omega)) (fun c33 => ?_) (fun c33 => ?_)
          · have hPpr : pd_pr pp := pd_least_pr hP2 (Nat.dvd_of_mod_eq_zero c33) hl3
            have lq : ∀ (f : Nat) (r2 : Nat) (ls : Array Slot), (r2 < f) → (0 < r2) → (r2 ∣ rest) → (∀ q, pd_pr q → (nn - 1) % q = 0 → ¬ q ∣ r2 → q = pp ∨ ¬ g ^ ((nn - 1) / q) % nn = 1) → lv_has ls 5 [(0, .ref h0), (1, .int (nI g)), (2, .int (nI (nn - 1))), (3, .int (nI r2)), (4, .int (nI pp))] → W p l e rmX0_generates s m args below meth c H [] 0 0 Q (F0 m 39 ls []) := by
              intro f
              induction f with
              | zero =>
                intro r2 ls hm
                exact absurd hm (Nat.not_lt_zero _)
              | succ f ihlq =>
                intro r2 ls hm i0 id iq hl
                have ib : r2 ≤ rest := Nat.le_of_dvd hr0 id
                refine lv_iload_n hx hb dX0_generates_39 rfl (lv_at hl 3 rfl) ?_
                refine lv_iload hx hb dX0_generates_40 (lv_at hl 4 rfl) ?_
                refine pw_rem hx hb dX0_generates_42 (by omega) (by omega) (by omega) (r2 % pp) rfl ?_
                refine pw_if_ne (tgt := 54) hx hb dX0_generates_43 (by decide) (Nat.lt_of_le_of_lt (Nat.mod_le _ _) (by omega)) (fun c43 => ?_) (fun c43 => ?_)
                · refine lv_aload_n hx hb dX0_generates_54 rfl (lv_at hl 0 rfl) ?_
                  refine lv_iload_n hx hb dX0_generates_55 rfl (lv_at hl 1 rfl) ?_
                  refine lv_iload_n hx hb dX0_generates_56 rfl (lv_at hl 2 rfl) ?_
                  refine lv_iload hx hb dX0_generates_57 (lv_at hl 4 rfl) ?_
                  refine pw_div hx hb dX0_generates_59 (by omega) (by omega) (by omega) ((nn - 1) / pp) rfl ?_
                  refine lv_aload_n hx hb dX0_generates_60 rfl (lv_at hl 0 rfl) ?_
                  refine pw_num CF hK hO dX0_generates_61 ?_
                  refine callX0_powerRest CF ⟨by decide, by decide⟩ hK hO (by omega) (Nat.lt_of_le_of_lt (Nat.div_le_self _ _) (by omega)) (by omega) (by omega) hl.1 (Nat.le_of_ble_eq_true rfl) dX0_generates_64 ⟨Nat.zero_le _, Nat.zero_le _⟩ ?_
                  refine lv_iconst (v := nI 1) hx hb dX0_generates_67 (by decide) ?_
                  refine pw_icmp_ne (tgt := 73) hx hb dX0_generates_68 (by decide) (by have := Nat.mod_lt (g ^ ((nn - 1) / pp)) (show 0 < nn by omega); omega) (by omega) (fun c68 => ?_) (fun c68 => ?_)
                  · refine lv_iinc (v := nI (pp + 1)) (lv' := [(4, .int (nI (pp + 1))), (0, .ref h0), (1, .int (nI g)), (2, .int (nI (nn - 1))), (3, .int (nI r2))]) hx hb dX0_generates_73 hl (k := 4) rfl (pw_i1 _) (by decide) rfl (fun ls hl => ?_)
                    refine lv_goto (tgt := 12) hx hb dX0_generates_76 (by decide) ?_
                    exact ihlp r2 (pp + 1) ls (by omega) (i0) (Nat.dvd_trans id hrd) (by omega) (by omega) (pd_nodiv_s (pd_nodiv_d hl3 id) c43) (pd_gq_end iq c68) (lv_sub hl [1, 2, 3, 4, 0] rfl)
                  · refine lv_iconst (v := nI 0) hx hb dX0_generates_71 (by decide) ?_
                    exact hret _ _ _ dX0_generates_72 (Or.inr ⟨rfl, fun hP => hP pp hPpr (Nat.mod_eq_zero_of_dvd (Nat.dvd_trans (Nat.dvd_of_mod_eq_zero c33) hrd)) c68⟩)
                · refine lv_iload_n hx hb dX0_generates_46 rfl (lv_at hl 3 rfl) ?_
                  refine lv_iload hx hb dX0_generates_47 (lv_at hl 4 rfl) ?_
                  refine pw_div hx hb dX0_generates_49 (by omega) (by omega) (by omega) (r2 / pp) rfl ?_
                  refine lv_istore_n (lv' := [(3, .int (nI (r2 / pp))), (0, .ref h0), (1, .int (nI g)), (2, .int (nI (nn - 1))), (4, .int (nI pp))]) hx hb dX0_generates_50 rfl hl (by decide) rfl (fun ls hl => ?_)
                  refine lv_goto (tgt := 39) hx hb dX0_generates_51 (by decide) ?_
                  exact ihlq (r2 / pp) ls (by have := Nat.div_lt_self i0 hP2; omega) (Nat.div_pos (Nat.le_of_dvd i0 (Nat.dvd_of_mod_eq_zero c43)) (by omega)) (Nat.dvd_trans (Nat.div_dvd_of_dvd (Nat.dvd_of_mod_eq_zero c43)) id) (pd_gq_step hPpr c43 iq) (lv_sub hl [1, 2, 3, 0, 4] rfl)
            exact lq (rest + 1) rest ls (Nat.lt_succ_self _) (hr0) (Nat.dvd_refl _) (fun q a b c => Or.inr (hq q a b c)) (lv_sub hl [0, 1, 2, 3, 4] rfl)
          · refine lv_goto (tgt := 73) hx hb dX0_generates_36 (by decide) ?_
            refine lv_iinc (v := nI (pp + 1)) (lv' := [(4, .int (nI (pp + 1))), (0, .ref h0), (1, .int (nI g)), (2, .int (nI (nn - 1))), (3, .int (nI rest))]) hx hb dX0_generates_73 hl (k := 4) rfl (pw_i1 _) (by decide) rfl (fun ls hl => ?_)
            refine lv_goto (tgt := 12) hx hb dX0_generates_76 (by decide) ?_
            exact ihlp rest (pp + 1) ls (by omega) (hr0) (hrd) (by omega) (by omega) (pd_nodiv_s hl3 c33) (hq) (lv_sub hl [1, 2, 3, 4, 0] rfl)
        · refine lv_iload_n hx hb dX0_generates_26 rfl (lv_at hl 3 rfl) ?_
          refine lv_istore (lv' := [(4, .int (nI rest)), (0, .ref h0), (1, .int (nI g)), (2, .int (nI (nn - 1))), (3, .int (nI rest))]) hx hb dX0_generates_27 hl (by decide) rfl (fun ls hl => ?_)
          have hl3 : ∀ d, 2 ≤ d → d < rest → ¬ rest % d = 0 := (pd_sqrt_pr c14 c23 hl2).2
          have hP2 : 2 ≤ rest := by omega
          have hPr : rest ≤ rest := by omega
          have hPp : pp ≤ rest := by omega
          refine lv_iload_n hx hb dX0_generates_29 rfl (lv_at hl 4 rfl) ?_
          refine lv_iload hx hb dX0_generates_30 (lv_at hl 0 rfl) ?_
          refine pw_rem hx hb dX0_generates_32 (by omega) (by omega) (by omega) (rest % rest) rfl ?_
          refine pw_if_eq (tgt := 39) hx hb dX0_generates_33 (by decide) (Nat.lt_of_le_of_lt (Nat.mod_le _ _) (by omega)) (fun c33 => ?_) (fun c33 => ?_)
          · have hPpr : pd_pr rest := pd_least_pr hP2 (Nat.dvd_of_mod_eq_zero c33) hl3
            have lq : ∀ (f : Nat) (r2 : Nat) (ls : Array Slot), (r2 < f) → (0 < r2) → (r2 ∣ rest) → (∀ q, pd_pr q → (nn - 1) % q = 0 → ¬ q ∣ r2 → q = rest ∨ ¬ g ^ ((nn - 1) / q) % nn = 1) → lv_has ls 5 [(0, .ref h0), (1, .int (nI g)), (2, .int (nI (nn - 1))), (3, .int (nI r2)), (4, .int (nI rest))] → W p l e rmX0_generates s m args below meth c H [] 0 0 Q (F0 m 39 ls []) := by
              intro f
              induction f with
              | zero =>
                intro r2 ls hm
                exact absurd hm (Nat.not_lt_zero _)
              | succ f ihlq =>
                intro r2 ls hm i0 id iq hl
                have ib : r2 ≤ rest := Nat.le_of_dvd hr0 id
                refine lv_iload_n hx hb dX0_generates_39 rfl (lv_at hl 3 rfl) ?_
                refine lv_iload hx hb dX0_generates_40 (lv_at hl 4 rfl) ?_
                refine pw_rem hx hb dX0_generates_42 (by omega) (by omega) (by omega) (r2 % rest) rfl ?_
                refine pw_if_ne (tgt := 54) hx hb dX0_generates_43 (by decide) (Nat.lt_of_le_of_lt (Nat.mod_le _ _) (by omega)) (fun c43 => ?_) (fun c43 => ?_)
                · refine lv_aload_n hx hb dX0_generates_54 rfl (lv_at hl 0 rfl) ?_
                  refine lv_iload_n hx hb dX0_generates_55 rfl (lv_at hl 1 rfl) ?_
                  refine lv_iload_n hx hb dX0_generates_56 rfl (lv_at hl 2 rfl) ?_
                  refine lv_iload hx hb dX0_generates_57 (lv_at hl 4 rfl) ?_
                  refine pw_div hx hb dX0_generates_59 (by omega) (by omega) (by omega) ((nn - 1) / rest) rfl ?_
                  refine lv_aload_n hx hb dX0_generates_60 rfl (lv_at hl 0 rfl) ?_
                  refine pw_num CF hK hO dX0_generates_61 ?_
                  refine callX0_powerRest CF ⟨by decide, by decide⟩ hK hO (by omega) (Nat.lt_of_le_of_lt (Nat.div_le_self _ _) (by omega)) (by omega) (by omega) hl.1 (Nat.le_of_ble_eq_true rfl) dX0_generates_64 ⟨Nat.zero_le _, Nat.zero_le _⟩ ?_
                  refine lv_iconst (v := nI 1) hx hb dX0_generates_67 (by decide) ?_
                  refine pw_icmp_ne (tgt := 73) hx hb dX0_generates_68 (by decide) (by have := Nat.mod_lt (g ^ ((nn - 1) / rest)) (show 0 < nn by omega); omega) (by omega) (fun c68 => ?_) (fun c68 => ?_)
                  · refine lv_iinc (v := nI (rest + 1)) (lv' := [(4, .int (nI (rest + 1))), (0, .ref h0), (1, .int (nI g)), (2, .int (nI (nn - 1))), (3, .int (nI r2))]) hx hb dX0_generates_73 hl (k := 4) rfl (pw_i1 _) (by decide) rfl (fun ls hl => ?_)
                    refine lv_goto (tgt := 12) hx hb dX0_generates_76 (by decide) ?_
                    exact ihlp r2 (rest + 1) ls (by omega) (i0) (Nat.dvd_trans id hrd) (by omega) (by omega) (pd_nodiv_s (pd_nodiv_d hl3 id) c43) (pd_gq_end iq c68) (lv_sub hl [1, 2, 3, 4, 0] rfl)
                  · refine lv_iconst (v := nI 0) hx hb dX0_generates_71 (by decide) ?_
                    exact hret _ _ _ dX0_generates_72 (Or.inr ⟨rfl, fun hP => hP rest hPpr (Nat.mod_eq_zero_of_dvd (Nat.dvd_trans (Nat.dvd_of_mod_eq_zero c33) hrd)) c68⟩)
                · refine lv_iload_n hx hb dX0_generates_46 rfl (lv_at hl 3 rfl) ?_
                  refine lv_iload hx hb dX0_generates_47 (lv_at hl 4 rfl) ?_
                  refine pw_div hx hb dX0_generates_49 (by omega) (by omega) (by omega) (r2 / rest) rfl ?_
                  refine lv_istore_n (lv' := [(3, .int (nI (r2 / rest))), (0, .ref h0), (1, .int (nI g)), (2, .int (nI (nn - 1))), (4, .int (nI rest))]) hx hb dX0_generates_50 rfl hl (by decide) rfl (fun ls hl => ?_)
                  refine lv_goto (tgt := 39) hx hb dX0_generates_51 (by decide) ?_
                  exact ihlq (r2 / rest) ls (by have := Nat.div_lt_self i0 hP2; omega) (Nat.div_pos (Nat.le_of_dvd i0 (Nat.dvd_of_mod_eq_zero c43)) (by omega)) (Nat.dvd_trans (Nat.div_dvd_of_dvd (Nat.dvd_of_mod_eq_zero c43)) id) (pd_gq_step hPpr c43 iq) (lv_sub hl [1, 2, 3, 0, 4] rfl)
            exact lq (rest + 1) rest ls (Nat.lt_succ_self _) (hr0) (Nat.dvd_refl _) (fun q a b c => Or.inr (hq q a b c)) (lv_sub hl [1, 2, 3, 4, 0] rfl)
          · refine lv_goto (tgt := 73) hx hb dX0_generates_36 (by decide) ?_
            refine lv_iinc (v := nI (rest + 1)) (lv' := [(4, .int (nI (rest + 1))), (0, .ref h0), (1, .int (nI g)), (2, .int (nI (nn - 1))), (3, .int (nI rest))]) hx hb dX0_generates_73 hl (k := 0) rfl (pw_i1 _) (by decide) rfl (fun ls hl => ?_)
            refine lv_goto (tgt := 12) hx hb dX0_generates_76 (by decide) ?_
            exact ihlp rest (rest + 1) ls (by omega) (hr0) (hrd) (by omega) (by omega) (pd_nodiv_s hl3 c33) (hq) (lv_sub hl [1, 2, 3, 4, 0] rfl)
  exact lp 30002 (nn - 1) 2 ls (by omega) (by omega) (Nat.dvd_refl _) (by omega) (by omega) (fun d a b => by omega) (fun q a b c => absurd (Nat.dvd_of_mod_eq_zero b) c) (lv_sub hl [3, 4, 2, 1, 0] rfl)
set_option maxHeartbeats 4000000 in
set_option maxRecDepth 100000 in
theorem callX0_generates {p : Program} {l : Launch} {e : Env} {R : Room} {s : State} {m : MethodId} {args : Array Value} {below : List Frame} {meth : Method} {c : Code} {H : Heap} {locs : List Loc} {cells slots : Nat} {Q : State → Prop} {cc : ByteArray} {pc nL : Nat} {ls : Array Slot} {rest : List Value} {D : va_G} {tys : List (ClassId × FieldType)} {h0 nn : Nat} {g : Nat} (CF : CallFix p m c cc nL s args lw_all RX0) (hR : 3 ≤ R.frames ∧ 73 ≤ R.locals) (hK : va_K D vwCl tys s) (hO : pd_ob D h0 nn H) (hn3 : 3 ≤ nn) (hnn : nn ≤ 30000) (hg : g < nn) (hsz : ls.size = nL) (hroom : (rest.map fun v => v.category).sum ≤ 8) (hdg : decode cc pc = .ok (.invokevirtual 49, 3)) (hcs : cells ≤ R.cells ∧ slots ≤ R.slots)
    (kt : pd_gp nn g → W p l e R s m args below meth c H locs cells slots Q (F0 m (pc + 3) ls (.int (nI 1) :: rest))) (kf : ¬ pd_gp nn g → W p l e R s m args below meth c H locs cells slots Q (F0 m (pc + 3) ls (.int (nI 0) :: rest))) : W p l e R s m args below meth c H locs cells slots Q (F0 m pc ls (.int (nI g) :: .ref h0 :: rest)) := pp_call (n := 1) CF (metX0_generates l D tys H h0 nn hO g hn3 hnn hg) (lw_V q144 q146 qs12 q17 q147) rfl rfl (by decide +kernel) rfl hR hK (hO.recv hK) rfl hsz hroom hdg hcs (fun r hr => by
  rcases hr with ⟨h1, h2⟩ | ⟨h1, h2⟩
  · rw [h1]; exact kt h2
  · rw [h1]; exact kf h2)
end
section
/-! what the public methods answer: one word for both classes -/
def pd_vb (lo : Nat) (b v : Int32) : Int32 := if b < nI lo ∨ nI 30000 < b then -1 else v
theorem pd_vb_lo {lo : Nat} {b v : Int32} (h : b < nI lo) : pd_vb lo b v = -1 := if_pos (Or.inl h)
theorem pd_vb_hi {lo : Nat} {b v : Int32} (h : nI 30000 < b) : pd_vb lo b v = -1 := if_pos (Or.inr h)
theorem pd_vb_m1 {lo : Nat} {b : Int32} : pd_vb lo b (-1) = -1 := by
  unfold pd_vb
  split <;> rfl
theorem pd_vb_in {lo i : Nat} {v : Int32} (h : lo ≤ i) (h2 : i ≤ 30000) : pd_vb lo (nI i) v = v := by
  refine if_neg (fun hc => ?_)
  rcases hc with hc | hc
  · have := (nI_ltI (a := i) (b := lo) (by omega) (by omega)).mp hc; omega
  · have := (nI_ltI (a := 30000) (b := i) (by omega) (by omega)).mp hc; omega
theorem pd_nle {x y : Int32} (h : ¬ x ≤ y) : y < x := by
  rw [Int32.lt_iff_toInt_lt]
  rw [Int32.le_iff_toInt_le] at h
  omega
theorem pd_rg {lo : Nat} {b : Int32} (hlo : lo ≤ 1) (h1 : ¬ b < nI lo) (h2 : ¬ nI 30000 < b) : ∃ i, lo ≤ i ∧ i ≤ 30000 ∧ b = nI i := by
  have h3 : b ≤ nI 30000 := by
    rw [Int32.le_iff_toInt_le]
    rw [Int32.lt_iff_toInt_lt] at h2
    omega
  have h4 : ¬ b < 0 := by
    intro h
    apply h1
    rw [Int32.lt_iff_toInt_lt, nI_toInt (n := lo) (by omega)]
    rw [Int32.lt_iff_toInt_lt, Int32.toInt_zero] at h
    omega
  obtain ⟨j, hj, e⟩ := nI_of2 (M := nI 30000) (n := 30000) (nI_toInt (by decide)) h4 h3
  refine ⟨j, ?_, hj, e⟩
  rcases Nat.lt_or_ge j lo with q | q
  · exact absurd (by rw [e]; exact nI_lt q (by omega)) h1
  · exact q
theorem pd_le_nlt {b : Int32} (h : b ≤ nI 30000) : ¬ nI 30000 < b := by
  intro h2
  rw [Int32.lt_iff_toInt_lt] at h2
  rw [Int32.le_iff_toInt_le] at h
  omega
/-- factor(k) -/
def pd_vf (L : List Nat) (k : Int32) : Int32 := if k < 0 ∨ nI L.length ≤ k then -2 else nI (L.getD k.toNatClampNeg 0)
theorem pd_vf_at {L : List Nat} {i x : Nat} (h : L[i]? = some x) (hL : L.length < 2147483648) : pd_vf L (nI i) = nI x := by
  have hi : i < L.length := (List.getElem?_eq_some_iff.mp h).1
  unfold pd_vf
  rw [if_neg, nI_clamp (by omega), List.getD_eq_getElem?_getD, h]
  · rfl
  · rintro (q | q)
    · exact nI_pos (by omega) q
    · have := (nI_leI (a := L.length) (b := i) (by omega) (by omega)).mp q; omega
theorem pd_vf_no {L : List Nat} {k : Int32} (h : ∀ i, i < L.length → ¬ nI i = k) (hL : L.length < 2147483648) : pd_vf L k = -2 := by
  unfold pd_vf
  rcases pk_ix k (n := L.length) (by omega) with q | q | ⟨j, hj, e⟩
  · exact if_pos (Or.inl q)
  · exact if_pos (Or.inr q)
  · exact absurd e.symm (h j hj)
def pd_os (n i : Nat) (v : Int32) : Prop := ((n = 1 ∨ ¬ Nat.gcd i n = 1) ∧ v = -2) ∨ (¬ n = 1 ∧ Nat.gcd i n = 1 ∧ ∃ o, pd_ord n i o ∧ o ≤ 30000 ∧ v = nI o)
def pd_rs (n i : Nat) (v : Int32) : Prop := (pd_pr n ∧ ∃ x, pd_rt n i x ∧ v = nI x) ∨ (¬ pd_pr n ∧ v = -2) ∨ (pd_pr n ∧ (∀ y, ¬ y * y % n = i % n) ∧ v = -2)
def pd_gs (n : Nat) (v : Int32) : Prop := (¬ pd_pr n ∧ v = -2) ∨ (pd_pr n ∧ ∃ g, v = nI g ∧ 1 ≤ g ∧ g < n ∧ pd_ord n g (n - 1) ∧ ∀ j, 1 ≤ j → j < g → ¬ pd_ord n j (n - 1))
/-! lemmas for the model's loops -/
theorem pd_ord_le {n a o : Nat} (hn : 2 ≤ n) (ha : Nat.gcd a n = 1) (ho : pd_ord n a o) : o ≤ n := by
  have h := (pd_ord_dvd (e := pd_phi n) hn ho).mp (pd_euler hn ha)
  have h1 := Nat.le_of_dvd (pd_phi_pos (by omega)) h
  have := pd_phi_le n
  omega
theorem pd_cop_lt {n t : Nat} (hp : pd_pr n) (h1 : 1 ≤ t) (h2 : t < n) : Nat.gcd t n = 1 := by
  refine (pd_pr_cop hp (fun h => ?_)).symm
  have := Nat.le_of_dvd (by omega) h
  omega
theorem pw_rt {d n : Nat} (h : d * d ≤ n) (hn : n < 30800) : d < 180 := by
  rcases Nat.lt_or_ge d 180 with q | q
  · exact q
  · have := Nat.mul_le_mul q q; omega
theorem pw_dlt {d n : Nat} (h2 : 2 ≤ d) (h : d * d ≤ n) : d < n := by
  have := Nat.mul_le_mul (Nat.le_refl d) h2
  omega
theorem pd_sum_pred {f : Nat → Nat} {d : Nat} (h : 1 ≤ d) : pd_sum f d = pd_sum f (d - 1) + f d := by
  obtain ⟨k, rfl⟩ : ∃ k, d = k + 1 := ⟨d - 1, by omega⟩
  rfl
theorem pd_sum_ift {P : Nat → Prop} {f : Nat → Nat} {d : Nat} [DecidablePred P] (h : 1 ≤ d) (hp : P d) : pd_sum (fun x => if P x then f x else 0) (d + 1 - 1) = pd_sum (fun x => if P x then f x else 0) (d - 1) + f d := by
  rw [show d + 1 - 1 = d by omega, pd_sum_pred h, if_pos hp]
theorem pd_sum_iff {P : Nat → Prop} {f : Nat → Nat} {d : Nat} [DecidablePred P] (h : 1 ≤ d) (hp : ¬ P d) : pd_sum (fun x => if P x then f x else 0) (d + 1 - 1) = pd_sum (fun x => if P x then f x else 0) (d - 1) := by
  rw [show d + 1 - 1 = d by omega, pd_sum_pred h, if_neg hp, Nat.add_zero]
theorem pd_fact_len {n : Nat} {L : List Nat} (hL : pd_fact n L) (hn : n ≤ 30000) : L.length < 15 :=
  pd_len_lt (n := n) (fun x hx => (hL.2.1 x hx).1) (by rw [hL.1]; exact Nat.le_refl _) (by omega)
/-- the next prime of the list, found by trying -/
theorem pd_head {n : Nat} {L : List Nat} (hL : pd_fact n L) {c r d : Nat} (hr : pd_prod (L.drop c) = r) (h2 : 2 ≤ d) (hl : ∀ j, 2 ≤ j → j < d → ¬ r % j = 0) (hd : r % d = 0) :
    L[c]? = some d ∧ pd_prod (L.drop (c + 1)) = r / d := by
  have hprm : ∀ x ∈ L.drop c, pd_pr x := fun x hx => hL.2.1 x (List.mem_of_mem_drop hx)
  have hdp : pd_pr d := pd_least_pr h2 (Nat.dvd_of_mod_eq_zero hd) hl
  have hmem : d ∈ L.drop c := pd_mem_of_dvd hdp hprm (by rw [hr]; exact Nat.dvd_of_mod_eq_zero hd)
  have hsort : (L.drop c).Pairwise (· ≤ ·) := List.Pairwise.sublist (List.drop_sublist c L) hL.2.2
  cases hB : L.drop c with
  | nil => rw [hB] at hmem; cases hmem
  | cons b B =>
    rw [hB] at hprm hmem hsort hr
    have hb := hprm b List.mem_cons_self
    have hbr : r % b = 0 := Nat.mod_eq_zero_of_dvd (by rw [← hr]; exact pd_prod_dvd List.mem_cons_self)
    have h1 : d ≤ b := by
      rcases Nat.lt_or_ge b d with q | q
      · exact absurd hbr (hl b hb.1 q)
      · exact q
    have h3 : b ≤ d := by
      rcases List.mem_cons.mp hmem with e | e
      · omega
      · exact (List.pairwise_cons.mp hsort).1 d e
    have e : b = d := Nat.le_antisymm h3 h1
    subst e
    have hc : L[c]? = some b := by
      have h4 : (L.drop c)[0]? = some b := by rw [hB]; rfl
      rw [List.getElem?_drop, Nat.add_zero] at h4
      exact h4
    refine ⟨hc, ?_⟩
    have h5 : L.drop (c + 1) = B := by
      have h6 : (L.drop c).drop 1 = B := by rw [hB]; rfl
      rw [List.drop_drop] at h6
      exact h6
    rw [h5, ← hr]
    show pd_prod B = b * pd_prod B / b
    rw [Nat.mul_div_cancel_left _ (by have := hb.1; omega)]
theorem pd_tail_end {n : Nat} {L : List Nat} (hL : pd_fact n L) {c r d : Nat} (hc : c ≤ L.length) (hr : pd_prod (L.drop c) = r) (h2 : 2 ≤ d) (hl : ∀ j, 2 ≤ j → j < d → ¬ r % j = 0) (hd : r < d) : c = L.length := by
  have hr0 : 0 < r := by rw [← hr]; exact pd_prod_pos (fun x hx => by have := (hL.2.1 x (List.mem_of_mem_drop hx)).1; omega)
  have hr1 : r = 1 := by
    rcases Nat.lt_or_ge r 2 with q | q
    · omega
    · exact absurd (Nat.mod_self r) (hl r q hd)
  have h3 := pd_pow_le (L := L.drop c) (fun x hx => (hL.2.1 x (List.mem_of_mem_drop hx)).1)
  rw [hr, hr1, List.length_drop] at h3
  rcases Nat.eq_zero_or_pos (L.length - c) with q | q
  · omega
  · have := Nat.pow_le_pow_right (show 0 < 2 by decide) q
    omega
theorem pd_drop_lt {L : List Nat} {c d : Nat} (h : L[c]? = some d) : c < L.length := (List.getElem?_eq_some_iff.mp h).1
theorem pd_os_no {n i : Nat} {v : Int32} (h : pd_os n i v) (hc : n = 1 ∨ ¬ Nat.gcd i n = 1) : (-2 : Int32) = v := by
  rcases h with h | h
  · exact h.2.symm
  · rcases hc with hc | hc
    · exact absurd hc h.1
    · exact absurd h.2.1 hc
theorem pd_os_yes {n i : Nat} {v : Int32} (h : pd_os n i v) (h1 : ¬ n = 1) (h2 : Nat.gcd i n = 1) : ∃ o, pd_ord n i o ∧ o ≤ 30000 ∧ v = nI o := by
  rcases h with h | h
  · rcases h.1 with q | q
    · exact absurd q h1
    · exact absurd h2 q
  · exact h.2.2
theorem pd_rs_np {n i : Nat} {v : Int32} (h : pd_rs n i v) (hc : ¬ pd_pr n) : (-2 : Int32) = v := by
  rcases h with h | h | h
  · exact absurd h.1 hc
  · exact h.2.symm
  · exact absurd h.1 hc
theorem pd_rs_out {n i x : Nat} {v : Int32} (h : pd_rs n i v) (hx : n ≤ x) (hl : ∀ y, y < x → ¬ y * y % n = i % n) : (-2 : Int32) = v := by
  rcases h with h | h | h
  · obtain ⟨-, y, hy, -⟩ := h
    exact absurd hy.2.1 (hl y (Nat.lt_of_lt_of_le hy.1 hx))
  · exact h.2.symm
  · exact h.2.2.symm
theorem pd_rs_at {n i x : Nat} {v : Int32} (h : pd_rs n i v) (hp : pd_pr n) (hx : x < n) (he : x * x % n = i % n) (hl : ∀ y, y < x → ¬ y * y % n = i % n) : nI x = v := by
  rcases h with h | h | h
  · obtain ⟨-, y, hy, e⟩ := h
    rw [e, pd_rt_uniq (x := x) ⟨hx, he, hl⟩ hy]
  · exact absurd hp h.1
  · exact absurd he (h.2.1 x)
theorem pd_gs_np {n : Nat} {v : Int32} (h : pd_gs n v) (hc : ¬ pd_pr n) : (-2 : Int32) = v := by
  rcases h with h | h
  · exact h.2.symm
  · exact absurd h.1 hc
theorem pd_gs_yes {n : Nat} {v : Int32} (h : pd_gs n v) (hp : pd_pr n) : ∃ g, v = nI g ∧ 1 ≤ g ∧ g < n ∧ pd_ord n g (n - 1) ∧ ∀ j, 1 ≤ j → j < g → ¬ pd_ord n j (n - 1) := by
  rcases h with h | h
  · exact absurd hp h.1
  · exact h.2
/-- X1.prime -/
abbrev rmX1_prime : Room := { frames := 0, cells := 0, slots := 0, locals := 0 }
set_option maxHeartbeats 4000000 in
set_option maxRecDepth 100000 in
theorem metX1_prime (l : Launch) (D : va_G) (tys : List (ClassId × FieldType)) (H : Heap) (h0 nn : Nat) (hO : pd_md D h0 nn H) (n : Nat) (hn : n < 30800) : pp_M l yX1_prime (ws_ yX1_prime cX1_prime 3 (some .boolean)) rmX1_prime D tys [.ref h0, .int (nI n)] H (fun r => (r = nI 1 ∧ (pd_pr n)) ∨ (r = nI 0 ∧ (¬ pd_pr n))) := by
  refine pp_start (by decide) (Or.inr ⟨rfl, fun r h => pw_01 h⟩) (Nat.le_of_ble_eq_true rfl) ?_
  intro p e s m args below meth c Q ls CF hK hl hret
  have hx := CF.1
  have hb := CF.2.1
  have hl : lv_has ls 3 [(0, .ref h0), (1, .int (nI n))] := hl
  refine lv_iload_n hx hb dX1_prime_0 rfl (lv_at hl 1 rfl) ?_
  refine lv_iconst (v := nI 2) hx hb dX1_prime_1 (by decide) ?_
  refine pw_icmp_ge (tgt := 7) hx hb dX1_prime_2 (by decide) (by omega) (by omega) (fun c2 => ?_) (fun c2 => ?_)
  · refine lv_iconst (v := nI 2) hx hb dX1_prime_7 (by decide) ?_
    refine lv_istore_n (lv' := [(2, .int (nI 2)), (0, .ref h0), (1, .int (nI n))]) hx hb dX1_prime_8 rfl hl (by decide) rfl (fun ls hl => ?_)
    have lp : ∀ (k : Nat) (d : Nat) (ls : Array Slot), (200 - d < k) → (2 ≤ d) → (d ≤ 200) → (∀ j, 2 ≤ j → j < d → ¬ n % j = 0) → lv_has ls 3 [(0, .ref h0), (1, .int (nI n)), (2, .int (nI d))] → W p l e rmX1_prime s m args below meth c H [] 0 0 Q (F0 m 9 ls []) := by
      intro k
      induction k with
      | zero =>
        intro d ls hm
        exact absurd hm (Nat.not_lt_zero _)
      | succ k ihlp =>
        intro d ls hm hd2 hd hl2 hl
        refine lv_iload_n hx hb dX1_prime_9 rfl (lv_at hl 2 rfl) ?_
        refine lv_iload_n hx hb dX1_prime_10 rfl (lv_at hl 2 rfl) ?_
        refine pw_mul hx hb dX1_prime_11 (d * d) rfl ?_
        refine lv_iload_n hx hb dX1_prime_12 rfl (lv_at hl 1 rfl) ?_
        refine pw_icmp_gt (tgt := 30) hx hb dX1_prime_13 (by decide) (pw_sq (by omega)) (by omega) (fun c13 => ?_) (fun c13 => ?_)
        · refine lv_iconst (v := nI 1) hx hb dX1_prime_30 (by decide) ?_
          exact hret _ _ _ dX1_prime_31 (Or.inl ⟨rfl, pd_sqrt_pr c2 c13 hl2⟩)
        · have hd3 := pw_rt c13 hn
          have hdn := pw_dlt hd2 c13
          refine lv_iload_n hx hb dX1_prime_16 rfl (lv_at hl 1 rfl) ?_
          refine lv_iload_n hx hb dX1_prime_17 rfl (lv_at hl 2 rfl) ?_
          refine pw_rem hx hb dX1_prime_18 (by omega) (by omega) (by omega) (n % d) rfl ?_
          refine pw_if_ne (tgt := 24) hx hb dX1_prime_19 (by decide) (Nat.lt_of_le_of_lt (Nat.mod_le _ _) (by omega)) (fun c19 => ?_) (fun c19 => ?_)
          · refine lv_iinc (v := nI (d + 1)) (lv' := [(2, .int (nI (d + 1))), (0, .ref h0), (1, .int (nI n))]) hx hb dX1_prime_24 hl (k := 2) rfl (pw_i1 _) (by decide) rfl (fun ls hl => ?_)
            refine lv_goto (tgt := 9) hx hb dX1_prime_27 (by decide) ?_
            exact ihlp (d + 1) ls (by omega) (by omega) (by omega) (pd_nodiv_s hl2 c19) (lv_sub hl [1, 2, 0] rfl)
          · refine lv_iconst (v := nI 0) hx hb dX1_prime_22 (by decide) ?_
            exact hret _ _ _ dX1_prime_23 (Or.inr ⟨rfl, fun h => h.2 d hd2 hdn c19⟩)
    exact lp 200 2 ls (by omega) (by omega) (by omega) (fun j a b => by omega) (lv_sub hl [1, 2, 0] rfl)
  · refine lv_iconst (v := nI 0) hx hb dX1_prime_5 (by decide) ?_
    exact hret _ _ _ dX1_prime_6 (Or.inr ⟨rfl, fun h => by have := h.1; omega⟩)
set_option maxHeartbeats 4000000 in
set_option maxRecDepth 100000 in
theorem callX1_prime {p : Program} {l : Launch} {e : Env} {R : Room} {s : State} {m : MethodId} {args : Array Value} {below : List Frame} {meth : Method} {c : Code} {H : Heap} {locs : List Loc} {cells slots : Nat} {Q : State → Prop} {cc : ByteArray} {pc nL : Nat} {ls : Array Slot} {rest : List Value} {D : va_G} {tys : List (ClassId × FieldType)} {h0 nn : Nat} {n : Nat} (CF : CallFix p m c cc nL s args lw_all RX1) (hR : 1 ≤ R.frames ∧ 22 ≤ R.locals) (hK : va_K D vwCl tys s) (hO : pd_md D h0 nn H) (hn : n < 30800) (hsz : ls.size = nL) (hroom : (rest.map fun v => v.category).sum ≤ 8) (hdg : decode cc pc = .ok (.invokevirtual 13, 3)) (hcs : cells ≤ R.cells ∧ slots ≤ R.slots)
    (kt : pd_pr n → W p l e R s m args below meth c H locs cells slots Q (F0 m (pc + 3) ls (.int (nI 1) :: rest))) (kf : ¬ pd_pr n → W p l e R s m args below meth c H locs cells slots Q (F0 m (pc + 3) ls (.int (nI 0) :: rest))) : W p l e R s m args below meth c H locs cells slots Q (F0 m pc ls (.int (nI n) :: .ref h0 :: rest)) := pp_call (n := 1) CF (metX1_prime l D tys H h0 nn hO n hn) (lw_V q166 q168 qs13 q18 q169) rfl rfl (by decide +kernel) rfl hR hK (hO.recv hK) rfl hsz hroom hdg hcs (fun r hr => by
  rcases hr with ⟨h1, h2⟩ | ⟨h1, h2⟩
  · rw [h1]; exact kt h2
  · rw [h1]; exact kf h2)
/-- X1.common -/
abbrev rmX1_common : Room := { frames := 0, cells := 0, slots := 0, locals := 0 }
set_option maxHeartbeats 4000000 in
set_option maxRecDepth 100000 in
theorem metX1_common (l : Launch) (D : va_G) (tys : List (ClassId × FieldType)) (H : Heap) (h0 nn : Nat) (hO : pd_md D h0 nn H) (a b : Nat) (ha : a < 2147483648) (hb' : b < 2147483648) : pp_M l yX1_common (ws_ yX1_common cX1_common 6 (some .int)) rmX1_common D tys [.ref h0, .int (nI a), .int (nI b)] H (fun r => r = nI (Nat.gcd a b)) := by
  refine pp_start (by decide) (Or.inl rfl) (Nat.le_of_ble_eq_true rfl) ?_
  intro p e s m args below meth c Q ls CF hK hl hret
  have hx := CF.1
  have hb := CF.2.1
  have hl : lv_has ls 6 [(0, .ref h0), (1, .int (nI a)), (2, .int (nI b))] := hl
  refine lv_iload_n hx hb dX1_common_0 rfl (lv_at hl 1 rfl) ?_
  refine lv_istore_n (lv' := [(3, .int (nI a)), (0, .ref h0), (1, .int (nI a)), (2, .int (nI b))]) hx hb dX1_common_1 rfl hl (by decide) rfl (fun ls hl => ?_)
  refine lv_iload_n hx hb dX1_common_2 rfl (lv_at hl 3 rfl) ?_
  refine lv_istore (lv' := [(4, .int (nI b)), (3, .int (nI a)), (0, .ref h0), (1, .int (nI a)), (2, .int (nI b))]) hx hb dX1_common_3 hl (by decide) rfl (fun ls hl => ?_)
  have lp : ∀ (k : Nat) (x y : Nat) (ls : Array Slot), (x < k) → (x < 2147483648) → (y < 2147483648) → (Nat.gcd x y = Nat.gcd a b) → lv_has ls 6 [(0, .ref h0), (1, .int (nI a)), (2, .int (nI b)), (3, .int (nI x)), (4, .int (nI y))] → W p l e rmX1_common s m args below meth c H [] 0 0 Q (F0 m 5 ls []) := by
    intro k
    induction k with
    | zero =>
      intro x y ls hm
      exact absurd hm (Nat.not_lt_zero _)
    | succ k ihlp =>
      intro x y ls hm hx2 hy2 hinv hl
      refine lv_iload_n hx hb dX1_common_5 rfl (lv_at hl 3 rfl) ?_
      refine pw_if_eq (tgt := 24) hx hb dX1_common_6 (by decide) (by omega) (fun c6 => ?_) (fun c6 => ?_)
      · refine lv_iload hx hb dX1_common_24 (lv_at hl 4 rfl) ?_
        exact hret _ _ _ dX1_common_26 (by rw [← hinv, c6, Nat.gcd_zero_left])
      · refine lv_iload hx hb dX1_common_9 (lv_at hl 4 rfl) ?_
        refine lv_iload_n hx hb dX1_common_11 rfl (lv_at hl 3 rfl) ?_
        refine pw_rem hx hb dX1_common_12 (by omega) (by omega) (by omega) (y % x) rfl ?_
        refine lv_istore (lv' := [(5, .int (nI (y % x))), (0, .ref h0), (1, .int (nI a)), (2, .int (nI b)), (3, .int (nI x)), (4, .int (nI y))]) hx hb dX1_common_13 hl (by decide) rfl (fun ls hl => ?_)
        refine lv_iload_n hx hb dX1_common_15 rfl (lv_at hl 4 rfl) ?_
        refine lv_istore (lv' := [(4, .int (nI x)), (5, .int (nI (y % x))), (0, .ref h0), (1, .int (nI a)), (2, .int (nI b)), (3, .int (nI x))]) hx hb dX1_common_16 hl (by decide) rfl (fun ls hl => ?_)
        refine lv_iload hx hb dX1_common_18 (lv_at hl 1 rfl) ?_
        refine lv_istore_n (lv' := [(3, .int (nI (y % x))), (4, .int (nI x)), (5, .int (nI (y % x))), (0, .ref h0), (1, .int (nI a)), (2, .int (nI b))]) hx hb dX1_common_20 rfl hl (by decide) rfl (fun ls hl => ?_)
        refine lv_goto (tgt := 5) hx hb dX1_common_21 (by decide) ?_
        exact ihlp (y % x) x ls (by have := Nat.mod_lt y (show 0 < x by omega); omega) (by have := Nat.mod_lt y (show 0 < x by omega); omega) (by omega) ((Nat.gcd_rec x y).symm.trans hinv) (lv_sub hl [3, 4, 5, 0, 1] rfl)
  exact lp (a + 1) a b ls (Nat.lt_succ_self _) (by omega) (by omega) (rfl) (lv_sub hl [2, 3, 4, 1, 0] rfl)
set_option maxHeartbeats 4000000 in
set_option maxRecDepth 100000 in
theorem callX1_common {p : Program} {l : Launch} {e : Env} {R : Room} {s : State} {m : MethodId} {args : Array Value} {below : List Frame} {meth : Method} {c : Code} {H : Heap} {locs : List Loc} {cells slots : Nat} {Q : State → Prop} {cc : ByteArray} {pc nL : Nat} {ls : Array Slot} {rest : List Value} {D : va_G} {tys : List (ClassId × FieldType)} {h0 nn : Nat} {a b : Nat} (CF : CallFix p m c cc nL s args lw_all RX1) (hR : 1 ≤ R.frames ∧ 25 ≤ R.locals) (hK : va_K D vwCl tys s) (hO : pd_md D h0 nn H) (ha : a < 2147483648) (hb' : b < 2147483648) (hsz : ls.size = nL) (hroom : (rest.map fun v => v.category).sum ≤ 8) (hdg : decode cc pc = .ok (.invokevirtual 17, 3)) (hcs : cells ≤ R.cells ∧ slots ≤ R.slots)
    (kk : W p l e R s m args below meth c H locs cells slots Q (F0 m (pc + 3) ls (.int (nI (Nat.gcd a b)) :: rest))) : W p l e R s m args below meth c H locs cells slots Q (F0 m pc ls (.int (nI b) :: .int (nI a) :: .ref h0 :: rest)) := pp_call (n := 2) CF (metX1_common l D tys H h0 nn hO a b ha hb') (lw_V q190 q192 qs14 q18 q193) rfl rfl (by decide +kernel) rfl hR hK (hO.recv hK) rfl hsz hroom hdg hcs (fun r hr => by rw [hr]; exact kk)
/-- X1.orderOf -/
abbrev rmX1_orderOf : Room := { frames := 0, cells := 0, slots := 0, locals := 0 }
set_option maxHeartbeats 4000000 in
set_option maxRecDepth 100000 in
theorem metX1_orderOf (l : Launch) (D : va_G) (tys : List (ClassId × FieldType)) (H : Heap) (h0 nn : Nat) (hO : pd_md D h0 nn H) (b : Nat) (o : Nat) (hn2 : 2 ≤ nn) (hnn : nn ≤ 30000) (hbb : b ≤ 30000) (ho : pd_ord nn b o) (ho2 : o ≤ 30000) : pp_M l yX1_orderOf (ws_ yX1_orderOf cX1_orderOf 4 (some .int)) rmX1_orderOf D tys [.ref h0, .int (nI b)] H (fun r => r = nI o) := by
  refine pp_start (by decide) (Or.inl rfl) (Nat.le_of_ble_eq_true rfl) ?_
  intro p e s m args below meth c Q ls CF hK hl hret
  have hx := CF.1
  have hb := CF.2.1
  have hl : lv_has ls 4 [(0, .ref h0), (1, .int (nI b))] := hl
  refine lv_iload_n hx hb dX1_orderOf_0 rfl (lv_at hl 1 rfl) ?_
  refine lv_aload_n hx hb dX1_orderOf_1 rfl (lv_at hl 0 rfl) ?_
  refine pw_hand CF hK hO dX1_orderOf_2 ?_
  refine pw_rem hx hb dX1_orderOf_5 (by omega) (by omega) (by omega) (b % nn) rfl ?_
  refine lv_istore_n (lv' := [(2, .int (nI (b % nn))), (0, .ref h0), (1, .int (nI b))]) hx hb dX1_orderOf_6 rfl hl (by decide) rfl (fun ls hl => ?_)
  refine lv_iconst (v := nI 1) hx hb dX1_orderOf_7 (by decide) ?_
  refine lv_istore_n (lv' := [(3, .int (nI 1)), (2, .int (nI (b % nn))), (0, .ref h0), (1, .int (nI b))]) hx hb dX1_orderOf_8 rfl hl (by decide) rfl (fun ls hl => ?_)
  have lp : ∀ (k : Nat) (r t : Nat) (ls : Array Slot), (o - t < k) → (1 ≤ t) → (t ≤ o) → (r = b ^ t % nn) → (r < nn) → lv_has ls 4 [(0, .ref h0), (1, .int (nI b)), (2, .int (nI r)), (3, .int (nI t))] → W p l e rmX1_orderOf s m args below meth c H [] 0 0 Q (F0 m 9 ls []) := by
    intro k
    induction k with
    | zero =>
      intro r t ls hm
      exact absurd hm (Nat.not_lt_zero _)
    | succ k ihlp =>
      intro r t ls hm ht1 ht hr hrn hl
      refine lv_iload_n hx hb dX1_orderOf_9 rfl (lv_at hl 2 rfl) ?_
      refine lv_iconst (v := nI 1) hx hb dX1_orderOf_10 (by decide) ?_
      refine pw_icmp_eq (tgt := 34) hx hb dX1_orderOf_11 (by decide) (by omega) (by omega) (fun c11 => ?_) (fun c11 => ?_)
      · have hto : t = o := by
          rcases Nat.lt_or_ge t o with q | q
          · exact absurd (hr.symm.trans c11) (ho.2.2 t ht1 q)
          · omega
        refine lv_iload_n hx hb dX1_orderOf_34 rfl (lv_at hl 3 rfl) ?_
        exact hret _ _ _ dX1_orderOf_35 (by rw [hto])
      · have hlt : t < o := by
          rcases Nat.lt_or_ge t o with q | q
          · exact q
          · exact absurd (by rw [hr, show t = o by omega]; exact ho.2.1) c11
        refine lv_iload_n hx hb dX1_orderOf_14 rfl (lv_at hl 2 rfl) ?_
        refine lv_iload_n hx hb dX1_orderOf_15 rfl (lv_at hl 1 rfl) ?_
        refine lv_aload_n hx hb dX1_orderOf_16 rfl (lv_at hl 0 rfl) ?_
        refine pw_hand CF hK hO dX1_orderOf_17 ?_
        refine pw_rem hx hb dX1_orderOf_20 (by omega) (by omega) (by omega) (b % nn) rfl ?_
        refine pw_mul hx hb dX1_orderOf_21 (r * (b % nn)) rfl ?_
        refine lv_aload_n hx hb dX1_orderOf_22 rfl (lv_at hl 0 rfl) ?_
        refine pw_hand CF hK hO dX1_orderOf_23 ?_
        refine pw_rem hx hb dX1_orderOf_26 (pw_m2 (by omega) (by have := Nat.mod_lt b (show 0 < nn by omega); omega)) (by omega) (by omega) ((r * (b % nn)) % nn) rfl ?_
        refine lv_istore_n (lv' := [(2, .int (nI ((r * (b % nn)) % nn))), (0, .ref h0), (1, .int (nI b)), (3, .int (nI t))]) hx hb dX1_orderOf_27 rfl hl (by decide) rfl (fun ls hl => ?_)
        refine lv_iinc (v := nI (t + 1)) (lv' := [(3, .int (nI (t + 1))), (2, .int (nI ((r * (b % nn)) % nn))), (0, .ref h0), (1, .int (nI b))]) hx hb dX1_orderOf_28 hl (k := 3) rfl (pw_i1 _) (by decide) rfl (fun ls hl => ?_)
        refine lv_goto (tgt := 9) hx hb dX1_orderOf_31 (by decide) ?_
        exact ihlp ((r * (b % nn)) % nn) (t + 1) ls (by omega) (by omega) (by omega) (by rw [hr, Nat.pow_succ]; exact pd_mm nn _ _) (Nat.mod_lt _ (by omega)) (lv_sub hl [2, 3, 1, 0] rfl)
  exact lp (o + 1) (b % nn) 1 ls (by omega) (by omega) (ho.1) (by rw [Nat.pow_one]) (Nat.mod_lt _ (by omega)) (lv_sub hl [2, 3, 1, 0] rfl)
set_option maxHeartbeats 4000000 in
set_option maxRecDepth 100000 in
theorem callX1_orderOf {p : Program} {l : Launch} {e : Env} {R : Room} {s : State} {m : MethodId} {args : Array Value} {below : List Frame} {meth : Method} {c : Code} {H : Heap} {locs : List Loc} {cells slots : Nat} {Q : State → Prop} {cc : ByteArray} {pc nL : Nat} {ls : Array Slot} {rest : List Value} {D : va_G} {tys : List (ClassId × FieldType)} {h0 nn : Nat} {b : Nat} {o : Nat} (CF : CallFix p m c cc nL s args lw_all RX1) (hR : 1 ≤ R.frames ∧ 23 ≤ R.locals) (hK : va_K D vwCl tys s) (hO : pd_md D h0 nn H) (hn2 : 2 ≤ nn) (hnn : nn ≤ 30000) (hbb : b ≤ 30000) (ho : pd_ord nn b o) (ho2 : o ≤ 30000) (hsz : ls.size = nL) (hroom : (rest.map fun v => v.category).sum ≤ 8) (hdg : decode cc pc = .ok (.invokevirtual 21, 3)) (hcs : cells ≤ R.cells ∧ slots ≤ R.slots)
    (kk : W p l e R s m args below meth c H locs cells slots Q (F0 m (pc + 3) ls (.int (nI o) :: rest))) : W p l e R s m args below meth c H locs cells slots Q (F0 m pc ls (.int (nI b) :: .ref h0 :: rest)) := pp_call (n := 1) CF (metX1_orderOf l D tys H h0 nn hO b o hn2 hnn hbb ho ho2) (lw_V q206 q208 qs15 q18 q209) rfl rfl (by decide +kernel) rfl hR hK (hO.recv hK) rfl hsz hroom hdg hcs (fun r hr => by rw [hr]; exact kk)
/-- X1.isPrime -/
abbrev rmX1_isPrime : Room := { frames := 1, cells := 0, slots := 0, locals := 22 }
set_option maxHeartbeats 4000000 in
set_option maxRecDepth 100000 in
theorem metX1_isPrime (l : Launch) (D : va_G) (tys : List (ClassId × FieldType)) (H : Heap) (h0 nn : Nat) (hO : pd_md D h0 nn H) (hn1 : 1 ≤ nn) (hnn : nn ≤ 30000) : pp_M l yX1_isPrime (ws_ yX1_isPrime cX1_isPrime 1 (some .boolean)) rmX1_isPrime D tys [.ref h0] H (fun r => (r = nI 1 ∧ (pd_pr nn)) ∨ (r = nI 0 ∧ (¬ pd_pr nn))) := by
  refine pp_start (by decide) (Or.inr ⟨rfl, fun r h => pw_01 h⟩) (Nat.le_of_ble_eq_true rfl) ?_
  intro p e s m args below meth c Q ls CF hK hl hret
  have hx := CF.1
  have hb := CF.2.1
  have hl : lv_has ls 1 [(0, .ref h0)] := hl
  refine lv_aload_n hx hb dX1_isPrime_0 rfl (lv_at hl 0 rfl) ?_
  refine lv_aload_n hx hb dX1_isPrime_1 rfl (lv_at hl 0 rfl) ?_
  refine pw_hand CF hK hO dX1_isPrime_2 ?_
  refine callX1_prime CF ⟨by decide, by decide⟩ hK hO (by omega) hl.1 (Nat.le_of_ble_eq_true rfl) dX1_isPrime_5 ⟨Nat.zero_le _, Nat.zero_le _⟩ (fun b5 => ?_) (fun b5 => ?_)
  · exact hret _ _ _ dX1_isPrime_8 (Or.inl ⟨rfl, b5⟩)
  · exact hret _ _ _ dX1_isPrime_8 (Or.inr ⟨rfl, b5⟩)
/-- X1.factors -/
abbrev rmX1_factors : Room := { frames := 0, cells := 0, slots := 0, locals := 0 }
set_option maxHeartbeats 4000000 in
set_option maxRecDepth 100000 in
theorem metX1_factors (l : Launch) (D : va_G) (tys : List (ClassId × FieldType)) (H : Heap) (h0 nn : Nat) (hO : pd_md D h0 nn H) (L : List Nat) (hn1 : 1 ≤ nn) (hnn : nn ≤ 30000) (hL : pd_fact nn L) : pp_M l yX1_factors (ws_ yX1_factors cX1_factors 4 (some .int)) rmX1_factors D tys [.ref h0] H (fun r => r = nI L.length) := by
  refine pp_start (by decide) (Or.inl rfl) (Nat.le_of_ble_eq_true rfl) ?_
  intro p e s m args below meth c Q ls CF hK hl hret
  have hx := CF.1
  have hb := CF.2.1
  have hl : lv_has ls 4 [(0, .ref h0)] := hl
  have hlen := pd_fact_len hL hnn
  refine lv_iconst (v := nI 0) hx hb dX1_factors_0 (by decide) ?_
  refine lv_istore_n (lv' := [(1, .int (nI 0)), (0, .ref h0)]) hx hb dX1_factors_1 rfl hl (by decide) rfl (fun ls hl => ?_)
  refine lv_aload_n hx hb dX1_factors_2 rfl (lv_at hl 1 rfl) ?_
  refine pw_hand CF hK hO dX1_factors_3 ?_
  refine lv_istore_n (lv' := [(2, .int (nI nn)), (1, .int (nI 0)), (0, .ref h0)]) hx hb dX1_factors_6 rfl hl (by decide) rfl (fun ls hl => ?_)
  refine lv_iconst (v := nI 2) hx hb dX1_factors_7 (by decide) ?_
  refine lv_istore_n (lv' := [(3, .int (nI 2)), (2, .int (nI nn)), (1, .int (nI 0)), (0, .ref h0)]) hx hb dX1_factors_8 rfl hl (by decide) rfl (fun ls hl => ?_)
  have lp : ∀ (k : Nat) (cnt rest d : Nat) (ls : Array Slot), (30002 - d < k) → (cnt ≤ L.length) → (pd_prod (L.drop cnt) = rest) → (2 ≤ d) → (d ≤ 30001) → (rest ≤ 30000) → (∀ j, 2 ≤ j → j < d → ¬ rest % j = 0) → lv_has ls 4 [(0, .ref h0), (1, .int (nI cnt)), (2, .int (nI rest)), (3, .int (nI d))] → W p l e rmX1_factors s m args below meth c H [] 0 0 Q (F0 m 9 ls []) := by
    intro k
    induction k with
    | zero =>
      intro cnt rest d ls hm
      exact absurd hm (Nat.not_lt_zero _)
    | succ k ihlp =>
      intro cnt rest d ls hm hc hr hd2 hdb hrn hl2 hl
      refine lv_iload_n hx hb dX1_factors_9 rfl (lv_at hl 3 rfl) ?_
      refine lv_iload_n hx hb dX1_factors_10 rfl (lv_at hl 2 rfl) ?_
      refine pw_icmp_gt (tgt := 36) hx hb dX1_factors_11 (by decide) (by omega) (by omega) (fun c11 => ?_) (fun c11 => ?_)
      · refine lv_iload_n hx hb dX1_factors_36 rfl (lv_at hl 1 rfl) ?_
        exact hret _ _ _ dX1_factors_37 (by rw [pd_tail_end hL hc hr hd2 hl2 c11])
      · have lq : ∀ (f : Nat) (t r : Nat) (ls : Array Slot), (r < f) → (pd_prod (L.drop t) = r) → (t ≤ L.length) → (r ≤ 30000) → (∀ j, 2 ≤ j → j < d → ¬ r % j = 0) → lv_has ls 4 [(0, .ref h0), (1, .int (nI t)), (2, .int (nI r)), (3, .int (nI d))] → W p l e rmX1_factors s m args below meth c H [] 0 0 Q (F0 m 14 ls []) := by
          intro f
          induction f with
          | zero =>
            intro t r ls hm
            exact absurd hm (Nat.not_lt_zero _)
          | succ f ihlq =>
            intro t r ls hm gr gc grn gl hl
            have g0 : 0 < r := by rw [← gr]; exact pd_prod_pos (fun x hx => by have := (hL.2.1 x (List.mem_of_mem_drop hx)).1; omega)
            refine lv_iload_n hx hb dX1_factors_14 rfl (lv_at hl 2 rfl) ?_
            refine lv_iload_n hx hb dX1_factors_15 rfl (lv_at hl 3 rfl) ?_
            refine pw_rem hx hb dX1_factors_16 (by omega) (by omega) (by omega) (r % d) rfl ?_
            refine pw_if_ne (tgt := 30) hx hb dX1_factors_17 (by decide) (Nat.lt_of_le_of_lt (Nat.mod_le _ _) (by omega)) (fun c17 => ?_) (fun c17 => ?_)
            · refine lv_iinc (v := nI (d + 1)) (lv' := [(3, .int (nI (d + 1))), (0, .ref h0), (1, .int (nI t)), (2, .int (nI r))]) hx hb dX1_factors_30 hl (k := 3) rfl (pw_i1 _) (by decide) rfl (fun ls hl => ?_)
              refine lv_goto (tgt := 9) hx hb dX1_factors_33 (by decide) ?_
              exact ihlp t r (d + 1) ls (by omega) (gc) (gr) (by omega) (by omega) (by omega) (pd_nodiv_s gl c17) (lv_sub hl [1, 2, 3, 0] rfl)
            · have hg1 := pd_head hL gr hd2 gl c17
              have hc1 := pd_drop_lt hg1.1
              have hle := Nat.div_le_self r d
              refine lv_iload_n hx hb dX1_factors_20 rfl (lv_at hl 2 rfl) ?_
              refine lv_iload_n hx hb dX1_factors_21 rfl (lv_at hl 3 rfl) ?_
              refine pw_div hx hb dX1_factors_22 (by omega) (by omega) (by omega) (r / d) rfl ?_
              refine lv_istore_n (lv' := [(2, .int (nI (r / d))), (0, .ref h0), (1, .int (nI t)), (3, .int (nI d))]) hx hb dX1_factors_23 rfl hl (by decide) rfl (fun ls hl => ?_)
              refine lv_iinc (v := nI (t + 1)) (lv' := [(1, .int (nI (t + 1))), (2, .int (nI (r / d))), (0, .ref h0), (3, .int (nI d))]) hx hb dX1_factors_24 hl (k := 2) rfl (pw_i1 _) (by decide) rfl (fun ls hl => ?_)
              refine lv_goto (tgt := 14) hx hb dX1_factors_27 (by decide) ?_
              exact ihlq (t + 1) (r / d) ls (by have := Nat.div_lt_self g0 hd2; omega) (hg1.2) (hc1) (by omega) (pd_nodiv_d gl (Nat.div_dvd_of_dvd (Nat.dvd_of_mod_eq_zero c17))) (lv_sub hl [2, 0, 1, 3] rfl)
        exact lq (rest + 1) cnt rest ls (Nat.lt_succ_self _) (hr) (hc) (hrn) (hl2) (lv_sub hl [0, 1, 2, 3] rfl)
  exact lp 30002 0 nn 2 ls (by omega) (Nat.zero_le _) (hL.1) (by omega) (by omega) (by omega) (fun j a b => by omega) (lv_sub hl [3, 2, 1, 0] rfl)
/-- X1.factor -/
abbrev rmX1_factor : Room := { frames := 0, cells := 0, slots := 0, locals := 0 }
set_option maxHeartbeats 4000000 in
set_option maxRecDepth 100000 in
theorem metX1_factor (l : Launch) (D : va_G) (tys : List (ClassId × FieldType)) (H : Heap) (h0 nn : Nat) (hO : pd_md D h0 nn H) (kk : Int32) (L : List Nat) (hn1 : 1 ≤ nn) (hnn : nn ≤ 30000) (hL : pd_fact nn L) : pp_M l yX1_factor (ws_ yX1_factor cX1_factor 5 (some .int)) rmX1_factor D tys [.ref h0, .int kk] H (fun r => r = pd_vf L kk) := by
  refine pp_start (by decide) (Or.inl rfl) (Nat.le_of_ble_eq_true rfl) ?_
  intro p e s m args below meth c Q ls CF hK hl hret
  have hx := CF.1
  have hb := CF.2.1
  have hl : lv_has ls 5 [(0, .ref h0), (1, .int kk)] := hl
  have hlen := pd_fact_len hL hnn
  refine lv_iconst (v := nI 0) hx hb dX1_factor_0 (by decide) ?_
  refine lv_istore_n (lv' := [(2, .int (nI 0)), (0, .ref h0), (1, .int kk)]) hx hb dX1_factor_1 rfl hl (by decide) rfl (fun ls hl => ?_)
  refine lv_aload_n hx hb dX1_factor_2 rfl (lv_at hl 1 rfl) ?_
  refine pw_hand CF hK hO dX1_factor_3 ?_
  refine lv_istore_n (lv' := [(3, .int (nI nn)), (2, .int (nI 0)), (0, .ref h0), (1, .int kk)]) hx hb dX1_factor_6 rfl hl (by decide) rfl (fun ls hl => ?_)
  refine lv_iconst (v := nI 2) hx hb dX1_factor_7 (by decide) ?_
  refine lv_istore (lv' := [(4, .int (nI 2)), (3, .int (nI nn)), (2, .int (nI 0)), (0, .ref h0), (1, .int kk)]) hx hb dX1_factor_8 hl (by decide) rfl (fun ls hl => ?_)
  have lp : ∀ (k : Nat) (cnt rest d : Nat) (ls : Array Slot), (30002 - d < k) → (cnt ≤ L.length) → (pd_prod (L.drop cnt) = rest) → (2 ≤ d) → (d ≤ 30001) → (rest ≤ 30000) → (∀ j, 2 ≤ j → j < d → ¬ rest % j = 0) → (∀ i, i < cnt → ¬ nI i = kk) → lv_has ls 5 [(0, .ref h0), (1, .int kk), (2, .int (nI cnt)), (3, .int (nI rest)), (4, .int (nI d))] → W p l e rmX1_factor s m args below meth c H [] 0 0 Q (F0 m 10 ls []) := by
    intro k
    induction k with
    | zero =>
      intro cnt rest d ls hm
      exact absurd hm (Nat.not_lt_zero _)
    | succ k ihlp =>
      intro cnt rest d ls hm hc hr hd2 hdb hrn hl2 hk hl
      refine lv_iload hx hb dX1_factor_10 (lv_at hl 4 rfl) ?_
      refine lv_iload_n hx hb dX1_factor_12 rfl (lv_at hl 3 rfl) ?_
      refine pw_icmp_gt (tgt := 48) hx hb dX1_factor_13 (by decide) (by omega) (by omega) (fun c13 => ?_) (fun c13 => ?_)
      · refine lv_bipush (v := -2) hx hb dX1_factor_48 (by decide) ?_
        exact hret _ _ _ dX1_factor_50 (by rw [pd_vf_no (by rw [← pd_tail_end hL hc hr hd2 hl2 c13]; exact hk) (by omega)])
      · have lq : ∀ (f : Nat) (t r : Nat) (ls : Array Slot), (r < f) → (pd_prod (L.drop t) = r) → (t ≤ L.length) → (r ≤ 30000) → (∀ j, 2 ≤ j → j < d → ¬ r % j = 0) → (∀ i, i < t → ¬ nI i = kk) → lv_has ls 5 [(0, .ref h0), (1, .int kk), (2, .int (nI t)), (3, .int (nI r)), (4, .int (nI d))] → W p l e rmX1_factor s m args below meth c H [] 0 0 Q (F0 m 16 ls []) := by
          intro f
          induction f with
          | zero =>
            intro t r ls hm
            exact absurd hm (Nat.not_lt_zero _)
          | succ f ihlq =>
            intro t r ls hm gr gc grn gl gk hl
            have g0 : 0 < r := by rw [← gr]; exact pd_prod_pos (fun x hx => by have := (hL.2.1 x (List.mem_of_mem_drop hx)).1; omega)
            refine lv_iload_n hx hb dX1_factor_16 rfl (lv_at hl 3 rfl) ?_
            refine lv_iload hx hb dX1_factor_17 (lv_at hl 4 rfl) ?_
            refine pw_rem hx hb dX1_factor_19 (by omega) (by omega) (by omega) (r % d) rfl ?_
            refine pw_if_ne (tgt := 42) hx hb dX1_factor_20 (by decide) (Nat.lt_of_le_of_lt (Nat.mod_le _ _) (by omega)) (fun c20 => ?_) (fun c20 => ?_)
            · refine lv_iinc (v := nI (d + 1)) (lv' := [(4, .int (nI (d + 1))), (0, .ref h0), (1, .int kk), (2, .int (nI t)), (3, .int (nI r))]) hx hb dX1_factor_42 hl (k := 4) rfl (pw_i1 _) (by decide) rfl (fun ls hl => ?_)
              refine lv_goto (tgt := 10) hx hb dX1_factor_45 (by decide) ?_
              exact ihlp t r (d + 1) ls (by omega) (gc) (gr) (by omega) (by omega) (by omega) (pd_nodiv_s gl c20) (gk) (lv_sub hl [1, 2, 3, 4, 0] rfl)
            · have hg1 := pd_head hL gr hd2 gl c20
              have hc1 := pd_drop_lt hg1.1
              have hle := Nat.div_le_self r d
              refine lv_iload_n hx hb dX1_factor_23 rfl (lv_at hl 2 rfl) ?_
              refine lv_iload_n hx hb dX1_factor_24 rfl (lv_at hl 1 rfl) ?_
              refine lv_icmp_ne (tgt := 31) hx hb dX1_factor_25 (by decide) (fun c25 => ?_) (fun c25 => ?_)
              · have hk1 : ∀ i, i < t + 1 → ¬ nI i = kk := fun i hi => by
                  rcases Nat.lt_or_ge i t with q | q
                  · exact gk i q
                  · rw [show i = t by omega]; exact c25
                refine lv_iload_n hx hb dX1_factor_31 rfl (lv_at hl 3 rfl) ?_
                refine lv_iload hx hb dX1_factor_32 (lv_at hl 4 rfl) ?_
                refine pw_div hx hb dX1_factor_34 (by omega) (by omega) (by omega) (r / d) rfl ?_
                refine lv_istore_n (lv' := [(3, .int (nI (r / d))), (0, .ref h0), (1, .int kk), (2, .int (nI t)), (4, .int (nI d))]) hx hb dX1_factor_35 rfl hl (by decide) rfl (fun ls hl => ?_)
                refine lv_iinc (v := nI (t + 1)) (lv' := [(2, .int (nI (t + 1))), (3, .int (nI (r / d))), (0, .ref h0), (1, .int kk), (4, .int (nI d))]) hx hb dX1_factor_36 hl (k := 3) rfl (pw_i1 _) (by decide) rfl (fun ls hl => ?_)
                refine lv_goto (tgt := 16) hx hb dX1_factor_39 (by decide) ?_
                exact ihlq (t + 1) (r / d) ls (by have := Nat.div_lt_self g0 hd2; omega) (hg1.2) (hc1) (by omega) (pd_nodiv_d gl (Nat.div_dvd_of_dvd (Nat.dvd_of_mod_eq_zero c20))) (hk1) (lv_sub hl [2, 3, 0, 1, 4] rfl)
              · refine lv_iload hx hb dX1_factor_28 (lv_at hl 4 rfl) ?_
                exact hret _ _ _ dX1_factor_30 (by rw [← c25]; exact (pd_vf_at hg1.1 (by omega)).symm)
        exact lq (rest + 1) cnt rest ls (Nat.lt_succ_self _) (hr) (hc) (hrn) (hl2) (hk) (lv_sub hl [0, 1, 2, 3, 4] rfl)
  exact lp 30002 0 nn 2 ls (by omega) (Nat.zero_le _) (hL.1) (by omega) (by omega) (by omega) (fun j a b => by omega) (fun i hi => absurd hi (Nat.not_lt_zero _)) (lv_sub hl [3, 4, 2, 1, 0] rfl)
/-- X1.divisors -/
abbrev rmX1_divisors : Room := { frames := 0, cells := 0, slots := 0, locals := 0 }
set_option maxHeartbeats 4000000 in
set_option maxRecDepth 100000 in
theorem metX1_divisors (l : Launch) (D : va_G) (tys : List (ClassId × FieldType)) (H : Heap) (h0 nn : Nat) (hO : pd_md D h0 nn H) (hn1 : 1 ≤ nn) (hnn : nn ≤ 30000) : pp_M l yX1_divisors (ws_ yX1_divisors cX1_divisors 3 (some .int)) rmX1_divisors D tys [.ref h0] H (fun r => r = nI (pd_tau nn)) := by
  refine pp_start (by decide) (Or.inl rfl) (Nat.le_of_ble_eq_true rfl) ?_
  intro p e s m args below meth c Q ls CF hK hl hret
  have hx := CF.1
  have hb := CF.2.1
  have hl : lv_has ls 3 [(0, .ref h0)] := hl
  refine lv_iconst (v := nI 0) hx hb dX1_divisors_0 (by decide) ?_
  refine lv_istore_n (lv' := [(1, .int (nI 0)), (0, .ref h0)]) hx hb dX1_divisors_1 rfl hl (by decide) rfl (fun ls hl => ?_)
  refine lv_iconst (v := nI 1) hx hb dX1_divisors_2 (by decide) ?_
  refine lv_istore_n (lv' := [(2, .int (nI 1)), (1, .int (nI 0)), (0, .ref h0)]) hx hb dX1_divisors_3 rfl hl (by decide) rfl (fun ls hl => ?_)
  have lp : ∀ (k : Nat) (t d : Nat) (ls : Array Slot), (nn + 1 - d < k) → (1 ≤ d) → (d ≤ nn + 1) → (t = pd_sum (fun x => if nn % x = 0 then 1 else 0) (d - 1)) → lv_has ls 3 [(0, .ref h0), (1, .int (nI t)), (2, .int (nI d))] → W p l e rmX1_divisors s m args below meth c H [] 0 0 Q (F0 m 4 ls []) := by
    intro k
    induction k with
    | zero =>
      intro t d ls hm
      exact absurd hm (Nat.not_lt_zero _)
    | succ k ihlp =>
      intro t d ls hm hd1 hd hs hl
      refine lv_iload_n hx hb dX1_divisors_4 rfl (lv_at hl 2 rfl) ?_
      refine lv_aload_n hx hb dX1_divisors_5 rfl (lv_at hl 0 rfl) ?_
      refine pw_hand CF hK hO dX1_divisors_6 ?_
      refine pw_icmp_gt (tgt := 30) hx hb dX1_divisors_9 (by decide) (by omega) (by omega) (fun c9 => ?_) (fun c9 => ?_)
      · refine lv_iload_n hx hb dX1_divisors_30 rfl (lv_at hl 1 rfl) ?_
        exact hret _ _ _ dX1_divisors_31 (by rw [hs, show d - 1 = nn by omega]; rfl)
      · refine lv_aload_n hx hb dX1_divisors_12 rfl (lv_at hl 0 rfl) ?_
        refine pw_hand CF hK hO dX1_divisors_13 ?_
        refine lv_iload_n hx hb dX1_divisors_16 rfl (lv_at hl 2 rfl) ?_
        refine pw_rem hx hb dX1_divisors_17 (by omega) (by omega) (by omega) (nn % d) rfl ?_
        refine pw_if_ne (tgt := 24) hx hb dX1_divisors_18 (by decide) (Nat.lt_of_le_of_lt (Nat.mod_le _ _) (by omega)) (fun c18 => ?_) (fun c18 => ?_)
        · refine lv_iinc (v := nI (d + 1)) (lv' := [(2, .int (nI (d + 1))), (0, .ref h0), (1, .int (nI t))]) hx hb dX1_divisors_24 hl (k := 2) rfl (pw_i1 _) (by decide) rfl (fun ls hl => ?_)
          refine lv_goto (tgt := 4) hx hb dX1_divisors_27 (by decide) ?_
          exact ihlp t (d + 1) ls (by omega) (by omega) (by omega) (by rw [hs]; exact (pd_sum_iff (P := fun x => nn % x = 0) (f := fun x => 1) hd1 c18).symm) (lv_sub hl [1, 2, 0] rfl)
        · refine lv_iinc (v := nI (t + 1)) (lv' := [(1, .int (nI (t + 1))), (0, .ref h0), (2, .int (nI d))]) hx hb dX1_divisors_21 hl (k := 1) rfl (pw_i1 _) (by decide) rfl (fun ls hl => ?_)
          refine lv_iinc (v := nI (d + 1)) (lv' := [(2, .int (nI (d + 1))), (1, .int (nI (t + 1))), (0, .ref h0)]) hx hb dX1_divisors_24 hl (k := 2) rfl (pw_i1 _) (by decide) rfl (fun ls hl => ?_)
          refine lv_goto (tgt := 4) hx hb dX1_divisors_27 (by decide) ?_
          exact ihlp (t + 1) (d + 1) ls (by omega) (by omega) (by omega) (by rw [hs]; exact (pd_sum_ift (P := fun x => nn % x = 0) (f := fun x => 1) hd1 c18).symm) (lv_sub hl [2, 1, 0] rfl)
  exact lp (nn + 1) 0 1 ls (by omega) (by omega) (by omega) (rfl) (lv_sub hl [2, 1, 0] rfl)
/-- X1.sum -/
abbrev rmX1_sum : Room := { frames := 0, cells := 0, slots := 0, locals := 0 }
set_option maxHeartbeats 4000000 in
set_option maxRecDepth 100000 in
theorem metX1_sum (l : Launch) (D : va_G) (tys : List (ClassId × FieldType)) (H : Heap) (h0 nn : Nat) (hO : pd_md D h0 nn H) (hn1 : 1 ≤ nn) (hnn : nn ≤ 30000) : pp_M l yX1_sum (ws_ yX1_sum cX1_sum 3 (some .int)) rmX1_sum D tys [.ref h0] H (fun r => r = nI (pd_sig nn)) := by
  refine pp_start (by decide) (Or.inl rfl) (Nat.le_of_ble_eq_true rfl) ?_
  intro p e s m args below meth c Q ls CF hK hl hret
  have hx := CF.1
  have hb := CF.2.1
  have hl : lv_has ls 3 [(0, .ref h0)] := hl
  refine lv_iconst (v := nI 0) hx hb dX1_sum_0 (by decide) ?_
  refine lv_istore_n (lv' := [(1, .int (nI 0)), (0, .ref h0)]) hx hb dX1_sum_1 rfl hl (by decide) rfl (fun ls hl => ?_)
  refine lv_iconst (v := nI 1) hx hb dX1_sum_2 (by decide) ?_
  refine lv_istore_n (lv' := [(2, .int (nI 1)), (1, .int (nI 0)), (0, .ref h0)]) hx hb dX1_sum_3 rfl hl (by decide) rfl (fun ls hl => ?_)
  have lp : ∀ (k : Nat) (t d : Nat) (ls : Array Slot), (nn + 1 - d < k) → (1 ≤ d) → (d ≤ nn + 1) → (t = pd_sum (fun x => if nn % x = 0 then x else 0) (d - 1)) → lv_has ls 3 [(0, .ref h0), (1, .int (nI t)), (2, .int (nI d))] → W p l e rmX1_sum s m args below meth c H [] 0 0 Q (F0 m 4 ls []) := by
    intro k
    induction k with
    | zero =>
      intro t d ls hm
      exact absurd hm (Nat.not_lt_zero _)
    | succ k ihlp =>
      intro t d ls hm hd1 hd hs hl
      refine lv_iload_n hx hb dX1_sum_4 rfl (lv_at hl 2 rfl) ?_
      refine lv_aload_n hx hb dX1_sum_5 rfl (lv_at hl 0 rfl) ?_
      refine pw_hand CF hK hO dX1_sum_6 ?_
      refine pw_icmp_gt (tgt := 31) hx hb dX1_sum_9 (by decide) (by omega) (by omega) (fun c9 => ?_) (fun c9 => ?_)
      · refine lv_iload_n hx hb dX1_sum_31 rfl (lv_at hl 1 rfl) ?_
        exact hret _ _ _ dX1_sum_32 (by rw [hs, show d - 1 = nn by omega]; rfl)
      · refine lv_aload_n hx hb dX1_sum_12 rfl (lv_at hl 0 rfl) ?_
        refine pw_hand CF hK hO dX1_sum_13 ?_
        refine lv_iload_n hx hb dX1_sum_16 rfl (lv_at hl 2 rfl) ?_
        refine pw_rem hx hb dX1_sum_17 (by omega) (by omega) (by omega) (nn % d) rfl ?_
        refine pw_if_ne (tgt := 25) hx hb dX1_sum_18 (by decide) (Nat.lt_of_le_of_lt (Nat.mod_le _ _) (by omega)) (fun c18 => ?_) (fun c18 => ?_)
        · refine lv_iinc (v := nI (d + 1)) (lv' := [(2, .int (nI (d + 1))), (0, .ref h0), (1, .int (nI t))]) hx hb dX1_sum_25 hl (k := 2) rfl (pw_i1 _) (by decide) rfl (fun ls hl => ?_)
          refine lv_goto (tgt := 4) hx hb dX1_sum_28 (by decide) ?_
          exact ihlp t (d + 1) ls (by omega) (by omega) (by omega) (by rw [hs]; exact (pd_sum_iff (P := fun x => nn % x = 0) (f := fun x => x) hd1 c18).symm) (lv_sub hl [1, 2, 0] rfl)
        · refine lv_iload_n hx hb dX1_sum_21 rfl (lv_at hl 1 rfl) ?_
          refine lv_iload_n hx hb dX1_sum_22 rfl (lv_at hl 2 rfl) ?_
          refine pw_add hx hb dX1_sum_23 (t + d) rfl ?_
          refine lv_istore_n (lv' := [(1, .int (nI (t + d))), (0, .ref h0), (2, .int (nI d))]) hx hb dX1_sum_24 rfl hl (by decide) rfl (fun ls hl => ?_)
          refine lv_iinc (v := nI (d + 1)) (lv' := [(2, .int (nI (d + 1))), (1, .int (nI (t + d))), (0, .ref h0)]) hx hb dX1_sum_25 hl (k := 2) rfl (pw_i1 _) (by decide) rfl (fun ls hl => ?_)
          refine lv_goto (tgt := 4) hx hb dX1_sum_28 (by decide) ?_
          exact ihlp (t + d) (d + 1) ls (by omega) (by omega) (by omega) (by rw [hs]; exact (pd_sum_ift (P := fun x => nn % x = 0) (f := fun x => x) hd1 c18).symm) (lv_sub hl [2, 1, 0] rfl)
  exact lp (nn + 1) 0 1 ls (by omega) (by omega) (by omega) (rfl) (lv_sub hl [2, 1, 0] rfl)
/-- X1.coprimes -/
abbrev rmX1_coprimes : Room := { frames := 1, cells := 0, slots := 0, locals := 25 }
set_option maxHeartbeats 4000000 in
set_option maxRecDepth 100000 in
theorem metX1_coprimes (l : Launch) (D : va_G) (tys : List (ClassId × FieldType)) (H : Heap) (h0 nn : Nat) (hO : pd_md D h0 nn H) (hn1 : 1 ≤ nn) (hnn : nn ≤ 30000) : pp_M l yX1_coprimes (ws_ yX1_coprimes cX1_coprimes 3 (some .int)) rmX1_coprimes D tys [.ref h0] H (fun r => r = nI (pd_phi nn)) := by
  refine pp_start (by decide) (Or.inl rfl) (Nat.le_of_ble_eq_true rfl) ?_
  intro p e s m args below meth c Q ls CF hK hl hret
  have hx := CF.1
  have hb := CF.2.1
  have hl : lv_has ls 3 [(0, .ref h0)] := hl
  refine lv_iconst (v := nI 0) hx hb dX1_coprimes_0 (by decide) ?_
  refine lv_istore_n (lv' := [(1, .int (nI 0)), (0, .ref h0)]) hx hb dX1_coprimes_1 rfl hl (by decide) rfl (fun ls hl => ?_)
  refine lv_iconst (v := nI 1) hx hb dX1_coprimes_2 (by decide) ?_
  refine lv_istore_n (lv' := [(2, .int (nI 1)), (1, .int (nI 0)), (0, .ref h0)]) hx hb dX1_coprimes_3 rfl hl (by decide) rfl (fun ls hl => ?_)
  have lp : ∀ (k : Nat) (t d : Nat) (ls : Array Slot), (nn + 1 - d < k) → (1 ≤ d) → (d ≤ nn + 1) → (t = pd_sum (fun x => if Nat.gcd x nn = 1 then 1 else 0) (d - 1)) → lv_has ls 3 [(0, .ref h0), (1, .int (nI t)), (2, .int (nI d))] → W p l e rmX1_coprimes s m args below meth c H [] 0 0 Q (F0 m 4 ls []) := by
    intro k
    induction k with
    | zero =>
      intro t d ls hm
      exact absurd hm (Nat.not_lt_zero _)
    | succ k ihlp =>
      intro t d ls hm hd1 hd hs hl
      refine lv_iload_n hx hb dX1_coprimes_4 rfl (lv_at hl 2 rfl) ?_
      refine lv_aload_n hx hb dX1_coprimes_5 rfl (lv_at hl 0 rfl) ?_
      refine pw_hand CF hK hO dX1_coprimes_6 ?_
      refine pw_icmp_gt (tgt := 34) hx hb dX1_coprimes_9 (by decide) (by omega) (by omega) (fun c9 => ?_) (fun c9 => ?_)
      · refine lv_iload_n hx hb dX1_coprimes_34 rfl (lv_at hl 1 rfl) ?_
        exact hret _ _ _ dX1_coprimes_35 (by rw [hs, show d - 1 = nn by omega]; rfl)
      · refine lv_aload_n hx hb dX1_coprimes_12 rfl (lv_at hl 0 rfl) ?_
        refine lv_iload_n hx hb dX1_coprimes_13 rfl (lv_at hl 2 rfl) ?_
        refine lv_aload_n hx hb dX1_coprimes_14 rfl (lv_at hl 0 rfl) ?_
        refine pw_hand CF hK hO dX1_coprimes_15 ?_
        refine callX1_common CF ⟨by decide, by decide⟩ hK hO (by omega) (by omega) hl.1 (Nat.le_of_ble_eq_true rfl) dX1_coprimes_18 ⟨Nat.zero_le _, Nat.zero_le _⟩ ?_
        refine lv_iconst (v := nI 1) hx hb dX1_coprimes_21 (by decide) ?_
        refine pw_icmp_ne (tgt := 28) hx hb dX1_coprimes_22 (by decide) (by have := Nat.gcd_le_right d (show 0 < nn by omega); omega) (by omega) (fun c22 => ?_) (fun c22 => ?_)
        · refine lv_iinc (v := nI (d + 1)) (lv' := [(2, .int (nI (d + 1))), (0, .ref h0), (1, .int (nI t))]) hx hb dX1_coprimes_28 hl (k := 2) rfl (pw_i1 _) (by decide) rfl (fun ls hl => ?_)
          refine lv_goto (tgt := 4) hx hb dX1_coprimes_31 (by decide) ?_
          exact ihlp t (d + 1) ls (by omega) (by omega) (by omega) (by rw [hs]; exact (pd_sum_iff (P := fun x => Nat.gcd x nn = 1) (f := fun x => 1) hd1 c22).symm) (lv_sub hl [1, 2, 0] rfl)
        · refine lv_iinc (v := nI (t + 1)) (lv' := [(1, .int (nI (t + 1))), (0, .ref h0), (2, .int (nI d))]) hx hb dX1_coprimes_25 hl (k := 1) rfl (pw_i1 _) (by decide) rfl (fun ls hl => ?_)
          refine lv_iinc (v := nI (d + 1)) (lv' := [(2, .int (nI (d + 1))), (1, .int (nI (t + 1))), (0, .ref h0)]) hx hb dX1_coprimes_28 hl (k := 2) rfl (pw_i1 _) (by decide) rfl (fun ls hl => ?_)
          refine lv_goto (tgt := 4) hx hb dX1_coprimes_31 (by decide) ?_
          exact ihlp (t + 1) (d + 1) ls (by omega) (by omega) (by omega) (by rw [hs]; exact (pd_sum_ift (P := fun x => Nat.gcd x nn = 1) (f := fun x => 1) hd1 c22).symm) (lv_sub hl [2, 1, 0] rfl)
  exact lp (nn + 1) 0 1 ls (by omega) (by omega) (by omega) (rfl) (lv_sub hl [2, 1, 0] rfl)
/-- X1.nextPrime -/
abbrev rmX1_nextPrime : Room := { frames := 1, cells := 0, slots := 0, locals := 22 }
set_option maxHeartbeats 4000000 in
set_option maxRecDepth 100000 in
theorem metX1_nextPrime (l : Launch) (D : va_G) (tys : List (ClassId × FieldType)) (H : Heap) (h0 nn : Nat) (hO : pd_md D h0 nn H) (qq : Nat) (hn1 : 1 ≤ nn) (hnn : nn ≤ 30000) (hq1 : nn < qq) (hq2 : qq ≤ nn + 72) (hq3 : pd_pr qq) (hq4 : ∀ j, nn < j → j < qq → ¬ pd_pr j) : pp_M l yX1_nextPrime (ws_ yX1_nextPrime cX1_nextPrime 2 (some .int)) rmX1_nextPrime D tys [.ref h0] H (fun r => r = nI qq) := by
  refine pp_start (by decide) (Or.inl rfl) (Nat.le_of_ble_eq_true rfl) ?_
  intro p e s m args below meth c Q ls CF hK hl hret
  have hx := CF.1
  have hb := CF.2.1
  have hl : lv_has ls 2 [(0, .ref h0)] := hl
  refine lv_aload_n hx hb dX1_nextPrime_0 rfl (lv_at hl 0 rfl) ?_
  refine pw_hand CF hK hO dX1_nextPrime_1 ?_
  refine lv_iconst (v := nI 1) hx hb dX1_nextPrime_4 (by decide) ?_
  refine pw_add hx hb dX1_nextPrime_5 (nn + 1) rfl ?_
  refine lv_istore_n (lv' := [(1, .int (nI (nn + 1))), (0, .ref h0)]) hx hb dX1_nextPrime_6 rfl hl (by decide) rfl (fun ls hl => ?_)
  have lp : ∀ (k : Nat) (t : Nat) (ls : Array Slot), (qq - t < k) → (nn < t) → (t ≤ qq) → lv_has ls 2 [(0, .ref h0), (1, .int (nI t))] → W p l e rmX1_nextPrime s m args below meth c H [] 0 0 Q (F0 m 7 ls []) := by
    intro k
    induction k with
    | zero =>
      intro t ls hm
      exact absurd hm (Nat.not_lt_zero _)
    | succ k ihlp =>
      intro t ls hm ht1 ht hl
      refine lv_aload_n hx hb dX1_nextPrime_7 rfl (lv_at hl 0 rfl) ?_
      refine lv_iload_n hx hb dX1_nextPrime_8 rfl (lv_at hl 1 rfl) ?_
      refine callX1_prime CF ⟨by decide, by decide⟩ hK hO (by omega) hl.1 (Nat.le_of_ble_eq_true rfl) dX1_nextPrime_9 ⟨Nat.zero_le _, Nat.zero_le _⟩ (fun b9 => ?_) (fun b9 => ?_)
      · refine pw_if_ne (tgt := 21) hx hb dX1_nextPrime_12 (by decide) (by omega) (fun c12 => ?_) (fun c12 => absurd c12 (by decide))
        have htq : t = qq := by
          rcases Nat.lt_or_ge t qq with q | q
          · exact absurd b9 (hq4 t ht1 q)
          · omega
        refine lv_iload_n hx hb dX1_nextPrime_21 rfl (lv_at hl 1 rfl) ?_
        exact hret _ _ _ dX1_nextPrime_22 (by rw [htq])
      · refine pw_if_ne (tgt := 21) hx hb dX1_nextPrime_12 (by decide) (by omega) (fun c12 => absurd c12 (by decide)) (fun c12 => ?_)
        have hlt : t < qq := by
          rcases Nat.lt_or_ge t qq with q | q
          · exact q
          · exact absurd (by rw [show t = qq by omega]; exact hq3) b9
        refine lv_iinc (v := nI (t + 1)) (lv' := [(1, .int (nI (t + 1))), (0, .ref h0)]) hx hb dX1_nextPrime_15 hl (k := 1) rfl (pw_i1 _) (by decide) rfl (fun ls hl => ?_)
        refine lv_goto (tgt := 7) hx hb dX1_nextPrime_18 (by decide) ?_
        exact ihlp (t + 1) ls (by omega) (by omega) (by omega) (lv_sub hl [1, 0] rfl)
  exact lp (qq + 1) (nn + 1) ls (by omega) (by omega) (by omega) (lv_sub hl [1, 0] rfl)
/-- X1.power -/
abbrev rmX1_power : Room := { frames := 0, cells := 0, slots := 0, locals := 0 }
set_option maxHeartbeats 4000000 in
set_option maxRecDepth 100000 in
theorem metX1_power (l : Launch) (D : va_G) (tys : List (ClassId × FieldType)) (H : Heap) (h0 nn : Nat) (hO : pd_md D h0 nn H) (b x : Int32) (hn1 : 1 ≤ nn) (hnn : nn ≤ 30000) : pp_M l yX1_power (ws_ yX1_power cX1_power 5 (some .int)) rmX1_power D tys [.ref h0, .int b, .int x] H (fun r => r = pd_vb 0 b (pd_vb 0 x (nI (b.toNatClampNeg ^ x.toNatClampNeg % nn)))) := by
  refine pp_start (by decide) (Or.inl rfl) (Nat.le_of_ble_eq_true rfl) ?_
  intro p e s m args below meth c Q ls CF hK hl hret
  have hx := CF.1
  have hb := CF.2.1
  have hl : lv_has ls 5 [(0, .ref h0), (1, .int b), (2, .int x)] := hl
  refine lv_iload_n hx hb dX1_power_0 rfl (lv_at hl 1 rfl) ?_
  refine lv_if_lt (tgt := 22) hx hb dX1_power_1 (by decide) (fun c1 => ?_) (fun c1 => ?_)
  · refine lv_iconst (v := -1) hx hb dX1_power_22 (by decide) ?_
    exact hret _ _ _ dX1_power_23 ((pd_vb_lo c1).symm)
  · refine lv_iload_n hx hb dX1_power_4 rfl (lv_at hl 1 rfl) ?_
    refine lv_sipush (v := nI 30000) hx hb dX1_power_5 (by decide) ?_
    refine lv_icmp_gt (tgt := 22) hx hb dX1_power_8 (by decide) (fun c8 => ?_) (fun c8 => ?_)
    · refine lv_iconst (v := -1) hx hb dX1_power_22 (by decide) ?_
      exact hret _ _ _ dX1_power_23 ((pd_vb_hi c8).symm)
    · refine lv_iload_n hx hb dX1_power_11 rfl (lv_at hl 2 rfl) ?_
      refine lv_if_lt (tgt := 22) hx hb dX1_power_12 (by decide) (fun c12 => ?_) (fun c12 => ?_)
      · refine lv_iconst (v := -1) hx hb dX1_power_22 (by decide) ?_
        exact hret _ _ _ dX1_power_23 (by rw [pd_vb_lo (lo := 0) c12, pd_vb_m1])
      · refine lv_iload_n hx hb dX1_power_15 rfl (lv_at hl 2 rfl) ?_
        refine lv_sipush (v := nI 30000) hx hb dX1_power_16 (by decide) ?_
        refine lv_icmp_le (tgt := 24) hx hb dX1_power_19 (by decide) (fun c19 => ?_) (fun c19 => ?_)
        · obtain ⟨i, i1, i2, rfl⟩ := pd_rg (lo := 0) (by decide) c1 c8
          obtain ⟨j, j1, j2, rfl⟩ := pd_rg (lo := 0) (by decide) c12 (pd_le_nlt c19)
          rw [pd_vb_in i1 i2, pd_vb_in j1 j2, nI_clamp (n := i) (by omega), nI_clamp (n := j) (by omega)] at hret
          refine lv_iconst (v := nI 1) hx hb dX1_power_24 (by decide) ?_
          refine lv_aload_n hx hb dX1_power_25 rfl (lv_at hl 0 rfl) ?_
          refine pw_hand CF hK hO dX1_power_26 ?_
          refine pw_rem hx hb dX1_power_29 (by omega) (by omega) (by omega) (1 % nn) rfl ?_
          refine lv_istore_n (lv' := [(3, .int (nI (1 % nn))), (0, .ref h0), (1, .int (nI i)), (2, .int (nI j))]) hx hb dX1_power_30 rfl hl (by decide) rfl (fun ls hl => ?_)
          refine lv_iconst (v := nI 0) hx hb dX1_power_31 (by decide) ?_
          refine lv_istore (lv' := [(4, .int (nI 0)), (3, .int (nI (1 % nn))), (0, .ref h0), (1, .int (nI i)), (2, .int (nI j))]) hx hb dX1_power_32 hl (by decide) rfl (fun ls hl => ?_)
          have lp : ∀ (k : Nat) (r t : Nat) (ls : Array Slot), (j - t < k) → (t ≤ j) → (r = i ^ t % nn) → (r < nn) → lv_has ls 5 [(0, .ref h0), (1, .int (nI i)), (2, .int (nI j)), (3, .int (nI r)), (4, .int (nI t))] → W p l e rmX1_power s m args below meth c H [] 0 0 Q (F0 m 34 ls []) := by
            intro k
            induction k with
            | zero =>
              intro r t ls hm
              exact absurd hm (Nat.not_lt_zero _)
            | succ k ihlp =>
              intro r t ls hm ht hr hrn hl
              refine lv_iload hx hb dX1_power_34 (lv_at hl 4 rfl) ?_
              refine lv_iload_n hx hb dX1_power_36 rfl (lv_at hl 2 rfl) ?_
              refine pw_icmp_ge (tgt := 60) hx hb dX1_power_37 (by decide) (by omega) (by omega) (fun c37 => ?_) (fun c37 => ?_)
              · refine lv_iload_n hx hb dX1_power_60 rfl (lv_at hl 3 rfl) ?_
                exact hret _ _ _ dX1_power_61 (by rw [hr, show t = j by omega])
              · refine lv_iload_n hx hb dX1_power_40 rfl (lv_at hl 3 rfl) ?_
                refine lv_iload_n hx hb dX1_power_41 rfl (lv_at hl 1 rfl) ?_
                refine lv_aload_n hx hb dX1_power_42 rfl (lv_at hl 0 rfl) ?_
                refine pw_hand CF hK hO dX1_power_43 ?_
                refine pw_rem hx hb dX1_power_46 (by omega) (by omega) (by omega) (i % nn) rfl ?_
                refine pw_mul hx hb dX1_power_47 (r * (i % nn)) rfl ?_
                refine lv_aload_n hx hb dX1_power_48 rfl (lv_at hl 0 rfl) ?_
                refine pw_hand CF hK hO dX1_power_49 ?_
                refine pw_rem hx hb dX1_power_52 (pw_m2 (by omega) (by have := Nat.mod_lt i (show 0 < nn by omega); omega)) (by omega) (by omega) ((r * (i % nn)) % nn) rfl ?_
                refine lv_istore_n (lv' := [(3, .int (nI ((r * (i % nn)) % nn))), (0, .ref h0), (1, .int (nI i)), (2, .int (nI j)), (4, .int (nI t))]) hx hb dX1_power_53 rfl hl (by decide) rfl (fun ls hl => ?_)
                refine lv_iinc (v := nI (t + 1)) (lv' := [(4, .int (nI (t + 1))), (3, .int (nI ((r * (i % nn)) % nn))), (0, .ref h0), (1, .int (nI i)), (2, .int (nI j))]) hx hb dX1_power_54 hl (k := 4) rfl (pw_i1 _) (by decide) rfl (fun ls hl => ?_)
                refine lv_goto (tgt := 34) hx hb dX1_power_57 (by decide) ?_
                exact ihlp ((r * (i % nn)) % nn) (t + 1) ls (by omega) (by omega) (by rw [hr, Nat.pow_succ]; exact pd_mm nn _ _) (Nat.mod_lt _ (by omega)) (lv_sub hl [2, 3, 4, 1, 0] rfl)
          exact lp (j + 1) (1 % nn) 0 ls (by omega) (Nat.zero_le _) (by rw [Nat.pow_zero]) (Nat.mod_lt _ (by omega)) (lv_sub hl [2, 3, 4, 1, 0] rfl)
        · refine lv_iconst (v := -1) hx hb dX1_power_22 (by decide) ?_
          exact hret _ _ _ dX1_power_23 (by rw [pd_vb_hi (lo := 0) (pd_nle c19), pd_vb_m1])
/-- X1.order -/
abbrev rmX1_order : Room := { frames := 1, cells := 0, slots := 0, locals := 25 }
set_option maxHeartbeats 4000000 in
set_option maxRecDepth 100000 in
theorem metX1_order (l : Launch) (D : va_G) (tys : List (ClassId × FieldType)) (H : Heap) (h0 nn : Nat) (hO : pd_md D h0 nn H) (b : Int32) (v : Int32) (hn1 : 1 ≤ nn) (hnn : nn ≤ 30000) (hv : ∀ i, 1 ≤ i → i ≤ 30000 → b = nI i → pd_os nn i v) : pp_M l yX1_order (ws_ yX1_order cX1_order 2 (some .int)) rmX1_order D tys [.ref h0, .int b] H (fun r => r = pd_vb 1 b v) := by
  refine pp_start (by decide) (Or.inl rfl) (Nat.le_of_ble_eq_true rfl) ?_
  intro p e s m args below meth c Q ls CF hK hl hret
  have hx := CF.1
  have hb := CF.2.1
  have hl : lv_has ls 2 [(0, .ref h0), (1, .int b)] := hl
  refine lv_iload_n hx hb dX1_order_0 rfl (lv_at hl 1 rfl) ?_
  refine lv_iconst (v := nI 1) hx hb dX1_order_1 (by decide) ?_
  refine lv_icmp_lt (tgt := 12) hx hb dX1_order_2 (by decide) (fun c2 => ?_) (fun c2 => ?_)
  · refine lv_iconst (v := -1) hx hb dX1_order_12 (by decide) ?_
    exact hret _ _ _ dX1_order_13 ((pd_vb_lo c2).symm)
  · refine lv_iload_n hx hb dX1_order_5 rfl (lv_at hl 1 rfl) ?_
    refine lv_sipush (v := nI 30000) hx hb dX1_order_6 (by decide) ?_
    refine lv_icmp_le (tgt := 14) hx hb dX1_order_9 (by decide) (fun c9 => ?_) (fun c9 => ?_)
    · obtain ⟨i, i1, i2, rfl⟩ := pd_rg (lo := 1) (by decide) c2 (pd_le_nlt c9)
      rw [pd_vb_in i1 i2] at hret
      have hv := hv i i1 i2 rfl
      refine lv_aload_n hx hb dX1_order_14 rfl (lv_at hl 0 rfl) ?_
      refine pw_hand CF hK hO dX1_order_15 ?_
      refine lv_iconst (v := nI 1) hx hb dX1_order_18 (by decide) ?_
      refine pw_icmp_eq (tgt := 35) hx hb dX1_order_19 (by decide) (by omega) (by omega) (fun c19 => ?_) (fun c19 => ?_)
      · refine lv_bipush (v := -2) hx hb dX1_order_35 (by decide) ?_
        refine lv_goto (tgt := 45) hx hb dX1_order_37 (by decide) ?_
        exact hret _ _ _ dX1_order_45 (pd_os_no hv (Or.inl c19))
      · refine lv_aload_n hx hb dX1_order_22 rfl (lv_at hl 0 rfl) ?_
        refine lv_iload_n hx hb dX1_order_23 rfl (lv_at hl 1 rfl) ?_
        refine lv_aload_n hx hb dX1_order_24 rfl (lv_at hl 0 rfl) ?_
        refine pw_hand CF hK hO dX1_order_25 ?_
        refine callX1_common CF ⟨by decide, by decide⟩ hK hO (by omega) (by omega) hl.1 (Nat.le_of_ble_eq_true rfl) dX1_order_28 ⟨Nat.zero_le _, Nat.zero_le _⟩ ?_
        refine lv_iconst (v := nI 1) hx hb dX1_order_31 (by decide) ?_
        refine pw_icmp_eq (tgt := 40) hx hb dX1_order_32 (by decide) (by have := Nat.gcd_le_right i (show 0 < nn by omega); omega) (by omega) (fun c32 => ?_) (fun c32 => ?_)
        · obtain ⟨o, ho, ho2, ev⟩ := pd_os_yes hv c19 c32
          refine lv_aload_n hx hb dX1_order_40 rfl (lv_at hl 0 rfl) ?_
          refine lv_iload_n hx hb dX1_order_41 rfl (lv_at hl 1 rfl) ?_
          refine callX1_orderOf (o := o) CF ⟨by decide, by decide⟩ hK hO (by omega) (by omega) (by omega) (ho) (ho2) hl.1 (Nat.le_of_ble_eq_true rfl) dX1_order_42 ⟨Nat.zero_le _, Nat.zero_le _⟩ ?_
          exact hret _ _ _ dX1_order_45 (ev.symm)
        · refine lv_bipush (v := -2) hx hb dX1_order_35 (by decide) ?_
          refine lv_goto (tgt := 45) hx hb dX1_order_37 (by decide) ?_
          exact hret _ _ _ dX1_order_45 (pd_os_no hv (Or.inr c32))
    · refine lv_iconst (v := -1) hx hb dX1_order_12 (by decide) ?_
      exact hret _ _ _ dX1_order_13 ((pd_vb_hi (pd_nle c9)).symm)
/-- X1.root -/
abbrev rmX1_root : Room := { frames := 1, cells := 0, slots := 0, locals := 22 }
set_option maxHeartbeats 4000000 in
set_option maxRecDepth 100000 in
theorem metX1_root (l : Launch) (D : va_G) (tys : List (ClassId × FieldType)) (H : Heap) (h0 nn : Nat) (hO : pd_md D h0 nn H) (a : Int32) (v : Int32) (hn1 : 1 ≤ nn) (hnn : nn ≤ 30000) (hv : ∀ i, i ≤ 30000 → a = nI i → pd_rs nn i v) : pp_M l yX1_root (ws_ yX1_root cX1_root 3 (some .int)) rmX1_root D tys [.ref h0, .int a] H (fun r => r = pd_vb 0 a v) := by
  refine pp_start (by decide) (Or.inl rfl) (Nat.le_of_ble_eq_true rfl) ?_
  intro p e s m args below meth c Q ls CF hK hl hret
  have hx := CF.1
  have hb := CF.2.1
  have hl : lv_has ls 3 [(0, .ref h0), (1, .int a)] := hl
  refine lv_iload_n hx hb dX1_root_0 rfl (lv_at hl 1 rfl) ?_
  refine lv_if_lt (tgt := 11) hx hb dX1_root_1 (by decide) (fun c1 => ?_) (fun c1 => ?_)
  · refine lv_iconst (v := -1) hx hb dX1_root_11 (by decide) ?_
    exact hret _ _ _ dX1_root_12 ((pd_vb_lo (lo := 0) c1).symm)
  · refine lv_iload_n hx hb dX1_root_4 rfl (lv_at hl 1 rfl) ?_
    refine lv_sipush (v := nI 30000) hx hb dX1_root_5 (by decide) ?_
    refine lv_icmp_le (tgt := 13) hx hb dX1_root_8 (by decide) (fun c8 => ?_) (fun c8 => ?_)
    · obtain ⟨i, i1, i2, rfl⟩ := pd_rg (lo := 0) (by decide) c1 (pd_le_nlt c8)
      rw [pd_vb_in i1 i2] at hret
      have hv := hv i i2 rfl
      refine lv_iconst (v := nI 0) hx hb dX1_root_13 (by decide) ?_
      refine lv_istore_n (lv' := [(2, .int (nI 0)), (0, .ref h0), (1, .int (nI i))]) hx hb dX1_root_14 rfl hl (by decide) rfl (fun ls hl => ?_)
      have lp : ∀ (k : Nat) (x : Nat) (ls : Array Slot), (nn - x < k) → (x ≤ nn) → (∀ y, y < x → ¬ y * y % nn = i % nn) → lv_has ls 3 [(0, .ref h0), (1, .int (nI i)), (2, .int (nI x))] → W p l e rmX1_root s m args below meth c H [] 0 0 Q (F0 m 15 ls []) := by
        intro k
        induction k with
        | zero =>
          intro x ls hm
          exact absurd hm (Nat.not_lt_zero _)
        | succ k ihlp =>
          intro x ls hm hx2 hl2 hl
          refine lv_iload_n hx hb dX1_root_15 rfl (lv_at hl 2 rfl) ?_
          refine lv_aload_n hx hb dX1_root_16 rfl (lv_at hl 0 rfl) ?_
          refine pw_hand CF hK hO dX1_root_17 ?_
          refine pw_icmp_ge (tgt := 59) hx hb dX1_root_20 (by decide) (by omega) (by omega) (fun c20 => ?_) (fun c20 => ?_)
          · refine lv_bipush (v := -2) hx hb dX1_root_59 (by decide) ?_
            exact hret _ _ _ dX1_root_61 (pd_rs_out hv c20 hl2)
          · refine lv_aload_n hx hb dX1_root_23 rfl (lv_at hl 0 rfl) ?_
            refine lv_aload_n hx hb dX1_root_24 rfl (lv_at hl 0 rfl) ?_
            refine pw_hand CF hK hO dX1_root_25 ?_
            refine callX1_prime CF ⟨by decide, by decide⟩ hK hO (by omega) hl.1 (Nat.le_of_ble_eq_true rfl) dX1_root_28 ⟨Nat.zero_le _, Nat.zero_le _⟩ (fun b28 => ?_) (fun b28 => ?_)
            · refine pw_if_eq (tgt := 59) hx hb dX1_root_31 (by decide) (by omega) (fun c31 => absurd c31 (by decide)) (fun c31 => ?_)
              refine lv_iload_n hx hb dX1_root_34 rfl (lv_at hl 2 rfl) ?_
              refine lv_iload_n hx hb dX1_root_35 rfl (lv_at hl 2 rfl) ?_
              refine pw_mul hx hb dX1_root_36 (x * x) rfl ?_
              refine lv_aload_n hx hb dX1_root_37 rfl (lv_at hl 0 rfl) ?_
              refine pw_hand CF hK hO dX1_root_38 ?_
              refine pw_rem hx hb dX1_root_41 (pw_sq (by omega)) (by omega) (by omega) ((x * x) % nn) rfl ?_
              refine lv_iload_n hx hb dX1_root_42 rfl (lv_at hl 1 rfl) ?_
              refine lv_aload_n hx hb dX1_root_43 rfl (lv_at hl 0 rfl) ?_
              refine pw_hand CF hK hO dX1_root_44 ?_
              refine pw_rem hx hb dX1_root_47 (by omega) (by omega) (by omega) (i % nn) rfl ?_
              refine pw_icmp_ne (tgt := 53) hx hb dX1_root_48 (by decide) (by have := Nat.mod_lt (x * x) (show 0 < nn by omega); omega) (by have := Nat.mod_lt i (show 0 < nn by omega); omega) (fun c48 => ?_) (fun c48 => ?_)
              · refine lv_iinc (v := nI (x + 1)) (lv' := [(2, .int (nI (x + 1))), (0, .ref h0), (1, .int (nI i))]) hx hb dX1_root_53 hl (k := 2) rfl (pw_i1 _) (by decide) rfl (fun ls hl => ?_)
                refine lv_goto (tgt := 15) hx hb dX1_root_56 (by decide) ?_
                exact ihlp (x + 1) ls (by omega) (by omega) (fun y hy => by
                  rcases Nat.lt_or_ge y x with q | q
                  · exact hl2 y q
                  · rw [show y = x by omega]; exact c48) (lv_sub hl [1, 2, 0] rfl)
              · refine lv_iload_n hx hb dX1_root_51 rfl (lv_at hl 2 rfl) ?_
                exact hret _ _ _ dX1_root_52 (pd_rs_at hv b28 c20 c48 hl2)
            · refine pw_if_eq (tgt := 59) hx hb dX1_root_31 (by decide) (by omega) (fun c31 => ?_) (fun c31 => absurd c31 (by decide))
              refine lv_bipush (v := -2) hx hb dX1_root_59 (by decide) ?_
              exact hret _ _ _ dX1_root_61 (pd_rs_np hv b28)
      exact lp (nn + 1) 0 ls (by omega) (Nat.zero_le _) (fun y hy => absurd hy (Nat.not_lt_zero _)) (lv_sub hl [1, 2, 0] rfl)
    · refine lv_iconst (v := -1) hx hb dX1_root_11 (by decide) ?_
      exact hret _ _ _ dX1_root_12 ((pd_vb_hi (pd_nle c8)).symm)
/-- X1.generator -/
abbrev rmX1_generator : Room := { frames := 1, cells := 0, slots := 0, locals := 23 }
set_option maxHeartbeats 4000000 in
set_option maxRecDepth 100000 in
theorem metX1_generator (l : Launch) (D : va_G) (tys : List (ClassId × FieldType)) (H : Heap) (h0 nn : Nat) (hO : pd_md D h0 nn H) (v : Int32) (hn1 : 1 ≤ nn) (hnn : nn ≤ 30000) (hv : pd_gs nn v) : pp_M l yX1_generator (ws_ yX1_generator cX1_generator 2 (some .int)) rmX1_generator D tys [.ref h0] H (fun r => r = v) := by
  refine pp_start (by decide) (Or.inl rfl) (Nat.le_of_ble_eq_true rfl) ?_
  intro p e s m args below meth c Q ls CF hK hl hret
  have hx := CF.1
  have hb := CF.2.1
  have hl : lv_has ls 2 [(0, .ref h0)] := hl
  refine lv_aload_n hx hb dX1_generator_0 rfl (lv_at hl 0 rfl) ?_
  refine lv_aload_n hx hb dX1_generator_1 rfl (lv_at hl 0 rfl) ?_
  refine pw_hand CF hK hO dX1_generator_2 ?_
  refine callX1_prime CF ⟨by decide, by decide⟩ hK hO (by omega) hl.1 (Nat.le_of_ble_eq_true rfl) dX1_generator_5 ⟨Nat.zero_le _, Nat.zero_le _⟩ (fun b5 => ?_) (fun b5 => ?_)
  · refine pw_if_ne (tgt := 14) hx hb dX1_generator_8 (by decide) (by omega) (fun c8 => ?_) (fun c8 => absurd c8 (by decide))
    obtain ⟨g, eg, g1, g2, g3, g4⟩ := pd_gs_yes hv b5
    have hp2 := b5.1
    refine lv_iconst (v := nI 1) hx hb dX1_generator_14 (by decide) ?_
    refine lv_istore_n (lv' := [(1, .int (nI 1)), (0, .ref h0)]) hx hb dX1_generator_15 rfl hl (by decide) rfl (fun ls hl => ?_)
    have lp : ∀ (k : Nat) (t : Nat) (ls : Array Slot), (g - t < k) → (1 ≤ t) → (t ≤ g) → lv_has ls 2 [(0, .ref h0), (1, .int (nI t))] → W p l e rmX1_generator s m args below meth c H [] 0 0 Q (F0 m 16 ls []) := by
      intro k
      induction k with
      | zero =>
        intro t ls hm
        exact absurd hm (Nat.not_lt_zero _)
      | succ k ihlp =>
        intro t ls hm ht1 ht hl
        have hcop := pd_cop_lt b5 ht1 (by omega)
        obtain ⟨o, ho⟩ := pd_ord_ex hp2 hcop
        have ho2 := pd_ord_le hp2 hcop ho
        refine lv_aload_n hx hb dX1_generator_16 rfl (lv_at hl 0 rfl) ?_
        refine lv_iload_n hx hb dX1_generator_17 rfl (lv_at hl 1 rfl) ?_
        refine callX1_orderOf (o := o) CF ⟨by decide, by decide⟩ hK hO (by omega) (by omega) (by omega) (ho) (by omega) hl.1 (Nat.le_of_ble_eq_true rfl) dX1_generator_18 ⟨Nat.zero_le _, Nat.zero_le _⟩ ?_
        refine lv_aload_n hx hb dX1_generator_21 rfl (lv_at hl 0 rfl) ?_
        refine pw_hand CF hK hO dX1_generator_22 ?_
        refine lv_iconst (v := nI 1) hx hb dX1_generator_25 (by decide) ?_
        refine pw_sub hx hb dX1_generator_26 (by omega) (nn - 1) rfl ?_
        refine pw_icmp_eq (tgt := 36) hx hb dX1_generator_27 (by decide) (by omega) (by omega) (fun c27 => ?_) (fun c27 => ?_)
        · have htg : t = g := by
            rcases Nat.lt_or_ge t g with q | q
            · exact absurd (by rw [← c27]; exact ho) (g4 t ht1 q)
            · omega
          refine lv_iload_n hx hb dX1_generator_36 rfl (lv_at hl 1 rfl) ?_
          exact hret _ _ _ dX1_generator_37 (by rw [htg, eg])
        · have hlt : t < g := by
            rcases Nat.lt_or_ge t g with q | q
            · exact q
            · refine absurd ?_ c27
              have e1 : t = g := by omega
              rw [e1] at ho
              rcases Nat.lt_trichotomy o (nn - 1) with q2 | q2 | q2
              · exact absurd ho.2.1 (g3.2.2 o ho.1 q2)
              · exact q2
              · exact absurd g3.2.1 (ho.2.2 _ g3.1 q2)
          refine lv_iinc (v := nI (t + 1)) (lv' := [(1, .int (nI (t + 1))), (0, .ref h0)]) hx hb dX1_generator_30 hl (k := 1) rfl (pw_i1 _) (by decide) rfl (fun ls hl => ?_)
          refine lv_goto (tgt := 16) hx hb dX1_generator_33 (by decide) ?_
          exact ihlp (t + 1) ls (by omega) (by omega) (by omega) (lv_sub hl [1, 0] rfl)
    exact lp (g + 1) 1 ls (by omega) (by omega) (by omega) (lv_sub hl [1, 0] rfl)
  · refine pw_if_ne (tgt := 14) hx hb dX1_generator_8 (by decide) (by omega) (fun c8 => absurd c8 (by decide)) (fun c8 => ?_)
    refine lv_bipush (v := -2) hx hb dX1_generator_11 (by decide) ?_
    exact hret _ _ _ dX1_generator_13 (pd_gs_np hv b5)
end
section
/-! the desk as a whole: its object and its two arrays -/
abbrev dkW (h0 fl pa : Nat) (d1 d2 : ClassId) (n : Nat) (sp : Int32) (fc pt : Nat) (f g : Nat → Int32) : va_W := [(h0, .inr (0, [.int (nI n), .int sp, .int (nI fc), .ref fl, .int (nI pt), .ref pa])), (fl, .inl (d1, 20, .inl f)), (pa, .inl (d2, 20, .inl g))]
abbrev dkT (d1 d2 : ClassId) : List (ClassId × FieldType) := [(d1, .int), (d2, .int)]
def dkA (h0 fl pa : Nat) : Nat → Prop := fun q => q = h0 ∨ q = fl ∨ q = pa
def dkN (h0 fl pa : Nat) : Prop := ¬ h0 = fl ∧ ¬ h0 = pa ∧ ¬ fl = pa
theorem dkD {A : Nat → Prop} {h0 fl pa : Nat} {d1 d2 : ClassId} {n : Nat} {sp : Int32} {fc pt : Nat} {f g : Nat → Int32} (hN : dkN h0 fl pa) (hA : ∀ q, dkA h0 fl pa q → A q) : va_D A (dkW h0 fl pa d1 d2 n sp fc pt f g) := by
  obtain ⟨n1, n2, n3⟩ := hN
  refine ⟨fun i j x y hi hj e => ?_, fun k x hk => ?_⟩
  · match i, j, hi, hj with
    | 0, 0, _, _ => rfl
    | 0, 1, hi, hj => cases hi; cases hj; exact absurd e n1
    | 0, 2, hi, hj => cases hi; cases hj; exact absurd e n2
    | 1, 0, hi, hj => cases hi; cases hj; exact absurd e.symm n1
    | 1, 1, _, _ => rfl
    | 1, 2, hi, hj => cases hi; cases hj; exact absurd e n3
    | 2, 0, hi, hj => cases hi; cases hj; exact absurd e.symm n2
    | 2, 1, hi, hj => cases hi; cases hj; exact absurd e.symm n3
    | 2, 2, _, _ => rfl
    | i + 3, _, hi, _ => cases hi
    | 0, j + 3, _, hj => cases hj
    | 1, j + 3, _, hj => cases hj
    | 2, j + 3, _, hj => cases hj
  · match k, hk with
    | 0, hk => cases hk; exact hA _ (Or.inl rfl)
    | 1, hk => cases hk; exact hA _ (Or.inr (Or.inl rfl))
    | 2, hk => cases hk; exact hA _ (Or.inr (Or.inr rfl))
    | k + 3, hk => cases hk
theorem dkO {D : va_G} {H : Heap} {h0 fl pa : Nat} {d1 d2 : ClassId} {n : Nat} {sp : Int32} {fc pt : Nat} {f g : Nat → Int32} (hP : va_P D vwCl (dkW h0 fl pa d1 d2 n sp fc pt f g) H) : pd_ob D h0 n H := ⟨_, hP.sub [0] rfl⟩
section PDR
variable {p : Program} {l : Launch} {e : Env} {R : Room} {s : State} {m : MethodId} {args : Array Value} {below : List Frame} {meth : Method} {c : Code} {H : Heap} {locs : List Loc} {cells slots : Nat} {Q : State → Prop}
variable {cc : ByteArray} {pc nL : Nat} {ls : Array Slot} {rest : List Value} {D : va_G} {H0 : Heap} {A : Nat → Prop} {tys : List (ClassId × FieldType)}
variable {h0 fl pa : Nat} {d1 d2 : ClassId} {n : Nat} {sp : Int32} {fc pt : Nat} {f g : Nat → Int32}
theorem pg_16 (CF : CallFix p m c cc nL s args lw_all RX0) (hK : va_K D vwCl tys s) (hP : va_P D vwCl (dkW h0 fl pa d1 d2 n sp fc pt f g) H) (hdg : decode cc pc = .ok (.getfield 16, 3))
    (kk : W p l e R s m args below meth c H locs cells slots Q (F0 m (pc + 3) ls (.int (nI n) :: rest))) : W p l e R s m args below meth c H locs cells slots Q (F0 m pc ls (.ref h0 :: rest)) :=
  va_get (D := D) (ci := 0) (v := .int (nI n)) (C := RX0) (T := TX0) (N := 6) CF.1 CF.2.1 CF.2.2.2.2 in_X0 CF.2.2.2.1 hK hP 0 rfl rfl 0 (by decide) (CF.2.2.2.2 _ q27) (fun _ h9 => h9) rfl hdg kk
theorem pg_20 (CF : CallFix p m c cc nL s args lw_all RX0) (hK : va_K D vwCl tys s) (hP : va_P D vwCl (dkW h0 fl pa d1 d2 n sp fc pt f g) H) (hdg : decode cc pc = .ok (.getfield 20, 3))
    (kk : W p l e R s m args below meth c H locs cells slots Q (F0 m (pc + 3) ls (.int sp :: rest))) : W p l e R s m args below meth c H locs cells slots Q (F0 m pc ls (.ref h0 :: rest)) :=
  va_get (D := D) (ci := 0) (v := .int sp) (C := RX0) (T := TX0) (N := 6) CF.1 CF.2.1 CF.2.2.2.2 in_X0 CF.2.2.2.1 hK hP 0 rfl rfl 1 (by decide) (CF.2.2.2.2 _ q28) (fun _ h9 => h9) rfl hdg kk
theorem pg_31 (CF : CallFix p m c cc nL s args lw_all RX0) (hK : va_K D vwCl tys s) (hP : va_P D vwCl (dkW h0 fl pa d1 d2 n sp fc pt f g) H) (hdg : decode cc pc = .ok (.getfield 31, 3))
    (kk : W p l e R s m args below meth c H locs cells slots Q (F0 m (pc + 3) ls (.int (nI fc) :: rest))) : W p l e R s m args below meth c H locs cells slots Q (F0 m pc ls (.ref h0 :: rest)) :=
  va_get (D := D) (ci := 0) (v := .int (nI fc)) (C := RX0) (T := TX0) (N := 6) CF.1 CF.2.1 CF.2.2.2.2 in_X0 CF.2.2.2.1 hK hP 0 rfl rfl 2 (by decide) (CF.2.2.2.2 _ q29) (fun _ h9 => h9) rfl hdg kk
theorem pg_7 (CF : CallFix p m c cc nL s args lw_all RX0) (hK : va_K D vwCl tys s) (hP : va_P D vwCl (dkW h0 fl pa d1 d2 n sp fc pt f g) H) (hdg : decode cc pc = .ok (.getfield 7, 3))
    (kk : W p l e R s m args below meth c H locs cells slots Q (F0 m (pc + 3) ls (.ref fl :: rest))) : W p l e R s m args below meth c H locs cells slots Q (F0 m pc ls (.ref h0 :: rest)) :=
  va_get (D := D) (ci := 0) (v := .ref fl) (C := RX0) (T := TX0) (N := 6) CF.1 CF.2.1 CF.2.2.2.2 in_X0 CF.2.2.2.1 hK hP 0 rfl rfl 3 (by decide) (CF.2.2.2.2 _ q30) (fun _ h9 => h9) rfl hdg kk
theorem pg_59 (CF : CallFix p m c cc nL s args lw_all RX0) (hK : va_K D vwCl tys s) (hP : va_P D vwCl (dkW h0 fl pa d1 d2 n sp fc pt f g) H) (hdg : decode cc pc = .ok (.getfield 59, 3))
    (kk : W p l e R s m args below meth c H locs cells slots Q (F0 m (pc + 3) ls (.int (nI pt) :: rest))) : W p l e R s m args below meth c H locs cells slots Q (F0 m pc ls (.ref h0 :: rest)) :=
  va_get (D := D) (ci := 0) (v := .int (nI pt)) (C := RX0) (T := TX0) (N := 6) CF.1 CF.2.1 CF.2.2.2.2 in_X0 CF.2.2.2.1 hK hP 0 rfl rfl 4 (by decide) (CF.2.2.2.2 _ q31) (fun _ h9 => h9) rfl hdg kk
theorem pg_13 (CF : CallFix p m c cc nL s args lw_all RX0) (hK : va_K D vwCl tys s) (hP : va_P D vwCl (dkW h0 fl pa d1 d2 n sp fc pt f g) H) (hdg : decode cc pc = .ok (.getfield 13, 3))
    (kk : W p l e R s m args below meth c H locs cells slots Q (F0 m (pc + 3) ls (.ref pa :: rest))) : W p l e R s m args below meth c H locs cells slots Q (F0 m pc ls (.ref h0 :: rest)) :=
  va_get (D := D) (ci := 0) (v := .ref pa) (C := RX0) (T := TX0) (N := 6) CF.1 CF.2.1 CF.2.2.2.2 in_X0 CF.2.2.2.1 hK hP 0 rfl rfl 5 (by decide) (CF.2.2.2.2 _ q32) (fun _ h9 => h9) rfl hdg kk
theorem ps_16 (x : Nat) (CF : CallFix p m c cc nL s args lw_all RX0) (hK : va_K D vwCl tys s) (hP : va_P D vwCl (dkW h0 fl pa d1 d2 n sp fc pt f g) H) (hN : dkN h0 fl pa) (hA : ∀ q, dkA h0 fl pa q → A q) (hS : va_S A H0 H locs) (hdg : decode cc pc = .ok (.putfield 16, 3))
    (kk : ∀ (H1 : Heap) (locs1 : List Loc), va_P D vwCl (dkW h0 fl pa d1 d2 x sp fc pt f g) H1 → va_S A H0 H1 locs1 → W p l e R s m args below meth c H1 locs1 cells slots Q (F0 m (pc + 3) ls rest)) : W p l e R s m args below meth c H locs cells slots Q (F0 m pc ls (.int (nI x) :: .ref h0 :: rest)) :=
  va_put (D := D) (ci := 0) (v := .int (nI x)) (ty := .int) (C := RX0) (T := TX0) (N := 6) CF.1 CF.2.1 CF.2.2.2.2 in_X0 tyX0 tyX0_ok nmX0 CF.2.2.2.1 hK hP (dkD hN hA) hS 0 rfl rfl 0 (by decide) (CF.2.2.2.2 _ q27) (fun _ h9 => h9) rfl (by decide +kernel) rfl rfl (Nat.le_of_ble_eq_true rfl) hdg (fun H1 locs1 hP1 _ hS1 => kk H1 locs1 hP1 hS1)
theorem ps_31 (x : Nat) (CF : CallFix p m c cc nL s args lw_all RX0) (hK : va_K D vwCl tys s) (hP : va_P D vwCl (dkW h0 fl pa d1 d2 n sp fc pt f g) H) (hN : dkN h0 fl pa) (hA : ∀ q, dkA h0 fl pa q → A q) (hS : va_S A H0 H locs) (hdg : decode cc pc = .ok (.putfield 31, 3))
    (kk : ∀ (H1 : Heap) (locs1 : List Loc), va_P D vwCl (dkW h0 fl pa d1 d2 n sp x pt f g) H1 → va_S A H0 H1 locs1 → W p l e R s m args below meth c H1 locs1 cells slots Q (F0 m (pc + 3) ls rest)) : W p l e R s m args below meth c H locs cells slots Q (F0 m pc ls (.int (nI x) :: .ref h0 :: rest)) :=
  va_put (D := D) (ci := 0) (v := .int (nI x)) (ty := .int) (C := RX0) (T := TX0) (N := 6) CF.1 CF.2.1 CF.2.2.2.2 in_X0 tyX0 tyX0_ok nmX0 CF.2.2.2.1 hK hP (dkD hN hA) hS 0 rfl rfl 2 (by decide) (CF.2.2.2.2 _ q29) (fun _ h9 => h9) rfl (by decide +kernel) rfl rfl (Nat.le_of_ble_eq_true rfl) hdg (fun H1 locs1 hP1 _ hS1 => kk H1 locs1 hP1 hS1)
theorem ps_59 (x : Nat) (CF : CallFix p m c cc nL s args lw_all RX0) (hK : va_K D vwCl tys s) (hP : va_P D vwCl (dkW h0 fl pa d1 d2 n sp fc pt f g) H) (hN : dkN h0 fl pa) (hA : ∀ q, dkA h0 fl pa q → A q) (hS : va_S A H0 H locs) (hdg : decode cc pc = .ok (.putfield 59, 3))
    (kk : ∀ (H1 : Heap) (locs1 : List Loc), va_P D vwCl (dkW h0 fl pa d1 d2 n sp fc x f g) H1 → va_S A H0 H1 locs1 → W p l e R s m args below meth c H1 locs1 cells slots Q (F0 m (pc + 3) ls rest)) : W p l e R s m args below meth c H locs cells slots Q (F0 m pc ls (.int (nI x) :: .ref h0 :: rest)) :=
  va_put (D := D) (ci := 0) (v := .int (nI x)) (ty := .int) (C := RX0) (T := TX0) (N := 6) CF.1 CF.2.1 CF.2.2.2.2 in_X0 tyX0 tyX0_ok nmX0 CF.2.2.2.1 hK hP (dkD hN hA) hS 0 rfl rfl 4 (by decide) (CF.2.2.2.2 _ q31) (fun _ h9 => h9) rfl (by decide +kernel) rfl rfl (Nat.le_of_ble_eq_true rfl) hdg (fun H1 locs1 hP1 _ hS1 => kk H1 locs1 hP1 hS1)
theorem ps_20 (x : Nat) (hx01 : x = 0 ∨ x = 1) (CF : CallFix p m c cc nL s args lw_all RX0) (hK : va_K D vwCl tys s) (hP : va_P D vwCl (dkW h0 fl pa d1 d2 n sp fc pt f g) H) (hN : dkN h0 fl pa) (hA : ∀ q, dkA h0 fl pa q → A q) (hS : va_S A H0 H locs) (hdg : decode cc pc = .ok (.putfield 20, 3))
    (kk : ∀ (H1 : Heap) (locs1 : List Loc), va_P D vwCl (dkW h0 fl pa d1 d2 n (nI x) fc pt f g) H1 → va_S A H0 H1 locs1 → W p l e R s m args below meth c H1 locs1 cells slots Q (F0 m (pc + 3) ls rest)) : W p l e R s m args below meth c H locs cells slots Q (F0 m pc ls (.int (nI x) :: .ref h0 :: rest)) :=
  va_put (D := D) (ci := 0) (v := .int (nI x)) (ty := .boolean) (C := RX0) (T := TX0) (N := 6) CF.1 CF.2.1 CF.2.2.2.2 in_X0 tyX0 tyX0_ok nmX0 CF.2.2.2.1 hK hP (dkD hN hA) hS 0 rfl rfl 1 (by decide) (CF.2.2.2.2 _ q28) (fun _ h9 => h9) rfl (by decide +kernel) (by rcases hx01 with h | h <;> rw [h] <;> decide) (by rcases hx01 with h | h <;> rw [h] <;> decide) (Nat.le_of_ble_eq_true rfl) hdg (fun H1 locs1 hP1 _ hS1 => kk H1 locs1 hP1 hS1)
theorem pl_f {i x : Nat} (CF : CallFix p m c cc nL s args lw_all RX0) (hK : va_K D vwCl (dkT d1 d2) s) (hP : va_P D vwCl (dkW h0 fl pa d1 d2 n sp fc pt f g) H) (hi : i < 20) (hv : f i = nI x) (hdg : decode cc pc = .ok (.iaload, 1))
    (kk : W p l e R s m args below meth c H locs cells slots Q (F0 m (pc + 1) ls (.int (nI x) :: rest))) : W p l e R s m args below meth c H locs cells slots Q (F0 m pc ls (.int (nI i) :: .ref fl :: rest)) := by
  refine va_iald CF.1 CF.2.1 hK hP 1 0 rfl rfl (vp_in_nI hi (by decide)) hdg ?_
  rw [nI_clamp (n := i) (by omega), hv]
  exact kk
theorem pt_f {i : Nat} {x : Int32} (CF : CallFix p m c cc nL s args lw_all RX0) (hK : va_K D vwCl (dkT d1 d2) s) (hP : va_P D vwCl (dkW h0 fl pa d1 d2 n sp fc pt f g) H) (hN : dkN h0 fl pa) (hA : ∀ q, dkA h0 fl pa q → A q) (hS : va_S A H0 H locs) (hi : i < 20) (hdg : decode cc pc = .ok (.iastore, 1))
    (kk : ∀ (H1 : Heap) (locs1 : List Loc), va_P D vwCl (dkW h0 fl pa d1 d2 n sp fc pt (upd f i x) g) H1 → va_S A H0 H1 locs1 → W p l e R s m args below meth c H1 locs1 cells slots Q (F0 m (pc + 1) ls rest)) : W p l e R s m args below meth c H locs cells slots Q (F0 m pc ls (.int x :: .int (nI i) :: .ref fl :: rest)) := by
  refine va_iast CF.1 CF.2.1 hK hP (dkD hN hA) hS 1 0 rfl rfl (vp_in_nI hi (by decide)) hdg (fun H1 locs1 hP1 _ hS1 => ?_)
  rw [nI_clamp (n := i) (by omega)] at hP1
  exact kk H1 locs1 hP1 hS1
theorem pl_g {i x : Nat} (CF : CallFix p m c cc nL s args lw_all RX0) (hK : va_K D vwCl (dkT d1 d2) s) (hP : va_P D vwCl (dkW h0 fl pa d1 d2 n sp fc pt f g) H) (hi : i < 20) (hv : g i = nI x) (hdg : decode cc pc = .ok (.iaload, 1))
    (kk : W p l e R s m args below meth c H locs cells slots Q (F0 m (pc + 1) ls (.int (nI x) :: rest))) : W p l e R s m args below meth c H locs cells slots Q (F0 m pc ls (.int (nI i) :: .ref pa :: rest)) := by
  refine va_iald CF.1 CF.2.1 hK hP 2 1 rfl rfl (vp_in_nI hi (by decide)) hdg ?_
  rw [nI_clamp (n := i) (by omega), hv]
  exact kk
theorem pt_g {i : Nat} {x : Int32} (CF : CallFix p m c cc nL s args lw_all RX0) (hK : va_K D vwCl (dkT d1 d2) s) (hP : va_P D vwCl (dkW h0 fl pa d1 d2 n sp fc pt f g) H) (hN : dkN h0 fl pa) (hA : ∀ q, dkA h0 fl pa q → A q) (hS : va_S A H0 H locs) (hi : i < 20) (hdg : decode cc pc = .ok (.iastore, 1))
    (kk : ∀ (H1 : Heap) (locs1 : List Loc), va_P D vwCl (dkW h0 fl pa d1 d2 n sp fc pt f (upd g i x)) H1 → va_S A H0 H1 locs1 → W p l e R s m args below meth c H1 locs1 cells slots Q (F0 m (pc + 1) ls rest)) : W p l e R s m args below meth c H locs cells slots Q (F0 m pc ls (.int x :: .int (nI i) :: .ref pa :: rest)) := by
  refine va_iast CF.1 CF.2.1 hK hP (dkD hN hA) hS 2 1 rfl rfl (vp_in_nI hi (by decide)) hdg (fun H1 locs1 hP1 _ hS1 => ?_)
  rw [nI_clamp (n := i) (by omega)] at hP1
  exact kk H1 locs1 hP1 hS1
end PDR
/-! what the arrays hold -/
def pd_arr (f : Nat → Int32) (L : List Nat) : Prop := ∀ i x, L[i]? = some x → f i = nI x
def pd_stk (g : Nat → Int32) : List Nat → Prop
  | [] => True
  | x :: r => g r.length = nI x ∧ pd_stk g r
theorem pd_stk_upd {g : Nat → Int32} {k : Nat} {v : Int32} : ∀ {ps : List Nat}, ps.length ≤ k → pd_stk g ps → pd_stk (upd g k v) ps := by
  intro ps
  induction ps with
  | nil => intro _ _; trivial
  | cons x r ih =>
    intro hk h
    have hk2 : r.length + 1 ≤ k := hk
    exact ⟨by rw [pk_un (by omega)]; exact h.1, ih (by omega) h.2⟩
theorem pd_stk_push {g : Nat → Int32} {ps : List Nat} {y : Nat} (h : pd_stk g ps) : pd_stk (upd g ps.length (nI y)) (y :: ps) := ⟨pk_us, pd_stk_upd (Nat.le_refl _) h⟩
/-- what is still to be done -/
def pd_mu : List Nat → Nat
  | [] => 0
  | x :: r => (2 * x - 1) + pd_mu r
def pd_dk (D : va_G) (h0 fl pa : Nat) (d1 d2 : ClassId) (n : Nat) (H : Heap) : Prop := ∃ (sp : Int32) (fc pt : Nat) (f g : Nat → Int32), va_P D vwCl (dkW h0 fl pa d1 d2 n sp fc pt f g) H ∧ (sp = 0 ∨ (sp = 1 ∧ ∃ L, pd_fact n L ∧ fc = L.length ∧ pd_arr f L))
def pd_dL (D : va_G) (h0 fl pa : Nat) (d1 d2 : ClassId) (n : Nat) (L : List Nat) (H : Heap) : Prop := ∃ (pt : Nat) (f g : Nat → Int32), va_P D vwCl (dkW h0 fl pa d1 d2 n 1 L.length pt f g) H ∧ pd_arr f L
theorem pd_dL.dk {D : va_G} {h0 fl pa : Nat} {d1 d2 : ClassId} {n : Nat} {L : List Nat} {H : Heap} (h : pd_dL D h0 fl pa d1 d2 n L H) (hL : pd_fact n L) : pd_dk D h0 fl pa d1 d2 n H := by
  obtain ⟨pt, f, g, hP, ha⟩ := h
  exact ⟨1, L.length, pt, f, g, hP, Or.inr ⟨rfl, L, hL, rfl, ha⟩⟩
theorem pd_dk.ob {D : va_G} {h0 fl pa : Nat} {d1 d2 : ClassId} {n : Nat} {H : Heap} (h : pd_dk D h0 fl pa d1 d2 n H) : pd_ob D h0 n H := by
  obtain ⟨sp, fc, pt, f, g, hP, -⟩ := h
  exact dkO hP
theorem pd_np4 {x : Nat} (h2 : 2 ≤ x) (h : ¬ pd_pr x) : 4 ≤ x := by
  rcases Nat.lt_or_ge x 4 with q | q
  · exact absurd ⟨h2, fun d a b e => by
      have h3 : x = 3 ∧ d = 2 := by omega
      rw [h3.1, h3.2] at e
      exact absurd e (by decide)⟩ h
  · exact q
/-- p put into a sorted list behind the first k -/
theorem pd_ins {f : Nat → Int32} {F : List Nat} {k p : Nat} (hk : k ≤ F.length) (h1 : ∀ i x, i < k → F[i]? = some x → f i = nI x) (h2 : ∀ i x, k ≤ i → F[i]? = some x → f (i + 1) = nI x)
    (hs : F.Pairwise (· ≤ ·)) (hlo : ∀ x, 0 < k → F[k - 1]? = some x → x ≤ p) (hhi : ∀ i x, k ≤ i → F[i]? = some x → p < x) :
    pd_arr (upd f k (nI p)) (F.take k ++ p :: F.drop k) ∧ (F.take k ++ p :: F.drop k).Pairwise (· ≤ ·) ∧ pd_prod (F.take k ++ p :: F.drop k) = p * pd_prod F ∧ (F.take k ++ p :: F.drop k).length = F.length + 1 ∧ ∀ x ∈ F.take k ++ p :: F.drop k, x = p ∨ x ∈ F := by
  have hlen : (F.take k).length = k := by rw [List.length_take]; omega
  refine ⟨?_, ?_, ?_, ?_, ?_⟩
  · intro i x hx
    rcases Nat.lt_trichotomy i k with q | q | q
    · rw [pk_un (by omega)]
      rw [List.getElem?_append_left (by omega), List.getElem?_take_of_lt q] at hx
      exact h1 i x q hx
    · subst q
      rw [List.getElem?_append_right (by omega), hlen, Nat.sub_self] at hx
      cases hx
      exact pk_us
    · rw [pk_un (by omega)]
      rw [List.getElem?_append_right (by omega), hlen] at hx
      obtain ⟨j, rfl⟩ : ∃ j, i = k + j + 1 := ⟨i - k - 1, by omega⟩
      rw [show k + j + 1 - k = j + 1 by omega, List.getElem?_cons_succ, List.getElem?_drop] at hx
      exact h2 (k + j) x (by omega) hx
  · have hle : ∀ x ∈ F.take k, x ≤ p := by
      intro x hx
      obtain ⟨i, hi⟩ := List.getElem?_of_mem hx
      have hik : i < k := by
        have := (List.getElem?_eq_some_iff.mp hi).1
        omega
      rw [List.getElem?_take_of_lt hik] at hi
      obtain ⟨y, hy⟩ : ∃ y, F[k - 1]? = some y := ⟨_, List.getElem?_eq_getElem (show k - 1 < F.length by omega)⟩
      have hy2 := hlo y (by omega) hy
      rcases Nat.lt_or_ge i (k - 1) with q | q
      · have h5 := List.pairwise_iff_getElem.mp hs i (k - 1) (by omega) (by omega) q
        obtain ⟨w1, w2⟩ := List.getElem?_eq_some_iff.mp hi
        obtain ⟨w3, w4⟩ := List.getElem?_eq_some_iff.mp hy
        rw [w2, w4] at h5
        omega
      · rw [show i = k - 1 by omega] at hi
        rw [hi] at hy
        cases hy
        exact hy2
    have hge : ∀ x ∈ F.drop k, p ≤ x := by
      intro x hx
      obtain ⟨i, hi⟩ := List.getElem?_of_mem hx
      rw [List.getElem?_drop] at hi
      exact Nat.le_of_lt (hhi (k + i) x (by omega) hi)
    refine List.pairwise_append.mpr ⟨List.Pairwise.sublist (List.take_sublist k F) hs, List.pairwise_cons.mpr ⟨hge, List.Pairwise.sublist (List.drop_sublist k F) hs⟩, ?_⟩
    intro x hx y hy
    rcases List.mem_cons.mp hy with e | e
    · rw [e]; exact hle x hx
    · exact Nat.le_trans (hle x hx) (hge y e)
  · rw [pd_prod_app]
    show pd_prod (F.take k) * (p * pd_prod (F.drop k)) = p * pd_prod F
    rw [Nat.mul_left_comm, ← pd_prod_app, List.take_append_drop]
  · rw [List.length_append, List.length_cons, hlen, List.length_drop]; omega
  · intro x hx
    rcases List.mem_append.mp hx with h | h
    · exact Or.inr (List.mem_of_mem_take h)
    · rcases List.mem_cons.mp h with h | h
      · exact Or.inl h
      · exact Or.inr (List.mem_of_mem_drop h)
end
section
/-! the desk's methods that write: pushPart, insertFactor, findFactors -/
theorem pd_fp_len {F ps : List Nat} {n : Nat} (hF : ∀ x ∈ F, pd_pr x) (hp : ∀ x ∈ ps, 2 ≤ x) (h : pd_prod F * pd_prod ps = n) (hn : n ≤ 30000) : F.length + ps.length < 15 := by
  have h1 := pd_len_lt (L := F ++ ps) (n := n) (k := 15) (fun x hx => by
    rcases List.mem_append.mp hx with q | q
    · exact (hF x q).1
    · exact hp x q) (by rw [pd_prod_app, h]; exact Nat.le_refl _) (by omega)
  rw [List.length_append] at h1
  exact h1
theorem pd_ins_step {a : Nat → Int32} {F : List Nat} {j y pr : Nat} (hj : 0 < j) (hy : F[j - 1]? = some y) (hpy : pr < y) (ha1 : ∀ i x, i < j → F[i]? = some x → a i = nI x) (ha2 : ∀ i x, j ≤ i → F[i]? = some x → a (i + 1) = nI x) (hhi : ∀ i x, j ≤ i → F[i]? = some x → pr < x) :
    (∀ i x, i < j - 1 → F[i]? = some x → upd a j (nI y) i = nI x) ∧ (∀ i x, j - 1 ≤ i → F[i]? = some x → upd a j (nI y) (i + 1) = nI x) ∧ (∀ i x, j - 1 ≤ i → F[i]? = some x → pr < x) := by
  refine ⟨fun i x h1 h2 => ?_, fun i x h1 h2 => ?_, fun i x h1 h2 => ?_⟩
  · rw [pk_un (by omega)]; exact ha1 i x (by omega) h2
  · rcases Nat.lt_or_ge i j with q | q
    · have e : i = j - 1 := by omega
      rw [e, hy] at h2
      cases h2
      rw [e, show j - 1 + 1 = j by omega]
      exact pk_us
    · rw [pk_un (by omega)]; exact ha2 i x q h2
  · rcases Nat.lt_or_ge i j with q | q
    · have e : i = j - 1 := by omega
      rw [e, hy] at h2
      cases h2
      exact hpy
    · exact hhi i x q h2
theorem pd_two_parts {x d : Nat} (h1 : 1 < d) (h2 : d < x) (h3 : x % d = 0) : d * (x / d) = x ∧ 2 ≤ x / d ∧ d + x / d ≤ x := by
  have e : d * (x / d) = x := Nat.mul_div_cancel' (Nat.dvd_of_mod_eq_zero h3)
  generalize x / d = z at e ⊢
  have hq : 2 ≤ z := by
    rcases Nat.lt_or_ge z 2 with q | q
    · have h01 : z = 0 ∨ z = 1 := by omega
      rcases h01 with h | h
      · rw [h, Nat.mul_zero] at e; omega
      · rw [h, Nat.mul_one] at e; omega
    · exact q
  refine ⟨e, hq, ?_⟩
  obtain ⟨u, rfl⟩ : ∃ u, d = u + 2 := ⟨d - 2, by omega⟩
  obtain ⟨v, rfl⟩ : ∃ v, z = v + 2 := ⟨z - 2, by omega⟩
  have e2 : (u + 2) * (v + 2) = u * v + 2 * u + 2 * v + 4 := by
    rw [Nat.add_mul, Nat.mul_add, Nat.mul_add]; omega
  omega
/-- X0.pushPart  -/
abbrev rmX0_pushPart : Room := { frames := 0, cells := 0, slots := 0, locals := 0 }
set_option maxHeartbeats 4000000 in
set_option maxRecDepth 100000 in
theorem metX0_pushPart (l : Launch) (D : va_G) (d1 d2 : ClassId) (h0 fl pa : Nat) (hN : dkN h0 fl pa) (n : Nat) (sp : Int32) (fc pt : Nat) (f g : Nat → Int32) (y : Nat) (hpt : pt < 20) : pc_Mv l yX0_pushPart (ws_ yX0_pushPart cX0_pushPart 2 none) rmX0_pushPart D (dkT d1 d2) [.ref h0, .int (nI y)] (fun h => va_P D vwCl (dkW h0 fl pa d1 d2 n sp fc pt f g) h) (fun h => va_P D vwCl (dkW h0 fl pa d1 d2 n sp fc (pt + 1) f (upd g pt (nI y))) h) (dkA h0 fl pa) := by
  refine pc_startv (by decide) (Nat.le_of_ble_eq_true rfl) ?_
  intro p e s m args below meth c Q ls CF hK hG hl hret
  have hx := CF.1
  have hb := CF.2.1
  have hS : va_S (dkA h0 fl pa) s.heap s.heap [] := va_S.rf
  have hl : lv_has ls 2 [(0, .ref h0), (1, .int (nI y))] := hl
  have hP : va_P D vwCl (dkW h0 fl pa d1 d2 n sp fc pt f g) s.heap := hG
  refine lv_aload_n hx hb dX0_pushPart_0 rfl (lv_at hl 0 rfl) ?_
  refine pg_13 CF hK hP dX0_pushPart_1 ?_
  refine lv_aload_n hx hb dX0_pushPart_4 rfl (lv_at hl 0 rfl) ?_
  refine pg_59 CF hK hP dX0_pushPart_5 ?_
  refine lv_iload_n hx hb dX0_pushPart_8 rfl (lv_at hl 1 rfl) ?_
  refine pt_g CF hK hP hN (fun q h => h) hS (by omega) dX0_pushPart_9 (fun H locs hP hS => ?_)
  refine lv_aload_n hx hb dX0_pushPart_10 rfl (lv_at hl 0 rfl) ?_
  refine lv_dup hx hb dX0_pushPart_11 rfl ?_
  refine pg_59 CF hK hP dX0_pushPart_12 ?_
  refine lv_iconst (v := nI 1) hx hb dX0_pushPart_15 (by decide) ?_
  refine pw_add hx hb dX0_pushPart_16 (pt + 1) rfl ?_
  refine ps_59 (pt + 1) CF hK hP hN (fun q h => h) hS dX0_pushPart_17 (fun H locs hP hS => ?_)
  exact hret _ _ _ _ dX0_pushPart_20 (hP) hS
/-- X0.insertFactor  -/
abbrev rmX0_insertFactor : Room := { frames := 0, cells := 0, slots := 0, locals := 0 }
set_option maxHeartbeats 4000000 in
set_option maxRecDepth 100000 in
theorem metX0_insertFactor (l : Launch) (D : va_G) (d1 d2 : ClassId) (h0 fl pa : Nat) (hN : dkN h0 fl pa) (n : Nat) (sp : Int32) (pt : Nat) (f g : Nat → Int32) (F : List Nat) (pr : Nat) (hF : pd_arr f F) (hF2 : F.Pairwise (· ≤ ·)) (hF3 : F.length < 19) (hF4 : ∀ x ∈ F, x ≤ 30000) (hpr : pr ≤ 30000) : pc_Mv l yX0_insertFactor (ws_ yX0_insertFactor cX0_insertFactor 3 none) rmX0_insertFactor D (dkT d1 d2) [.ref h0, .int (nI pr)] (fun h => va_P D vwCl (dkW h0 fl pa d1 d2 n sp (F.length) pt f g) h) (fun h => ∃ (E : List Nat) (u : Nat → Int32), va_P D vwCl (dkW h0 fl pa d1 d2 n sp (E.length) pt u g) h ∧ pd_arr u E ∧ E.Pairwise (· ≤ ·) ∧ pd_prod E = pr * pd_prod F ∧ E.length = F.length + 1 ∧ ∀ x ∈ E, x = pr ∨ x ∈ F) (dkA h0 fl pa) := by
  refine pc_startv (by decide) (Nat.le_of_ble_eq_true rfl) ?_
  intro p e s m args below meth c Q ls CF hK hG hl hret
  have hx := CF.1
  have hb := CF.2.1
  have hS : va_S (dkA h0 fl pa) s.heap s.heap [] := va_S.rf
  have hl : lv_has ls 3 [(0, .ref h0), (1, .int (nI pr))] := hl
  have hP : va_P D vwCl (dkW h0 fl pa d1 d2 n sp (F.length) pt f g) s.heap := hG
  refine lv_aload_n hx hb dX0_insertFactor_0 rfl (lv_at hl 0 rfl) ?_
  refine pg_31 CF hK hP dX0_insertFactor_1 ?_
  refine lv_istore_n (lv' := [(2, .int (nI (F.length))), (0, .ref h0), (1, .int (nI pr))]) hx hb dX0_insertFactor_4 rfl hl (by decide) rfl (fun ls hl => ?_)
  have lp : ∀ (k : Nat) (j : Nat) (a : Nat → Int32) (H : Heap) (locs : List Loc) (ls : Array Slot), (j < k) → (j ≤ F.length) → (∀ i x, i < j → F[i]? = some x → a i = nI x) → (∀ i x, j ≤ i → F[i]? = some x → a (i + 1) = nI x) → (∀ i x, j ≤ i → F[i]? = some x → pr < x) → va_P D vwCl (dkW h0 fl pa d1 d2 n sp (F.length) pt a g) H → va_S (dkA h0 fl pa) s.heap H locs → lv_has ls 3 [(0, .ref h0), (1, .int (nI pr)), (2, .int (nI j))] → W p l e rmX0_insertFactor s m args below meth c H locs 0 0 Q (F0 m 5 ls []) := by
    intro k
    induction k with
    | zero =>
      intro j a H locs ls hm
      exact absurd hm (Nat.not_lt_zero _)
    | succ k ihlp =>
      intro j a H locs ls hm hj ha1 ha2 hhi hP hS hl
      refine lv_iload_n hx hb dX0_insertFactor_5 rfl (lv_at hl 2 rfl) ?_
      refine pw_if_le (tgt := 41) hx hb dX0_insertFactor_6 (by decide) (by omega) (fun c6 => ?_) (fun c6 => ?_)
      · have hlo : ∀ x, 0 < j → F[j - 1]? = some x → x ≤ pr := fun x h => absurd h (by omega)
        have hin := pd_ins (f := a) hj ha1 ha2 hF2 hlo hhi
        refine lv_aload_n hx hb dX0_insertFactor_41 rfl (lv_at hl 0 rfl) ?_
        refine pg_7 CF hK hP dX0_insertFactor_42 ?_
        refine lv_iload_n hx hb dX0_insertFactor_45 rfl (lv_at hl 2 rfl) ?_
        refine lv_iload_n hx hb dX0_insertFactor_46 rfl (lv_at hl 1 rfl) ?_
        refine pt_f CF hK hP hN (fun q h => h) hS (by omega) dX0_insertFactor_47 (fun H locs hP hS => ?_)
        refine lv_aload_n hx hb dX0_insertFactor_48 rfl (lv_at hl 0 rfl) ?_
        refine lv_dup hx hb dX0_insertFactor_49 rfl ?_
        refine pg_31 CF hK hP dX0_insertFactor_50 ?_
        refine lv_iconst (v := nI 1) hx hb dX0_insertFactor_53 (by decide) ?_
        refine pw_add hx hb dX0_insertFactor_54 ((F.length) + 1) rfl ?_
        refine ps_31 ((F.length) + 1) CF hK hP hN (fun q h => h) hS dX0_insertFactor_55 (fun H locs hP hS => ?_)
        exact hret _ _ _ _ dX0_insertFactor_58 (⟨_, _, by rw [hin.2.2.2.1]; exact hP, hin.1, hin.2.1, hin.2.2.1, hin.2.2.2.1, hin.2.2.2.2⟩) hS
      · obtain ⟨y, hy⟩ : ∃ y, F[j - 1]? = some y := ⟨_, List.getElem?_eq_getElem (show j - 1 < F.length by omega)⟩
        have hyv := ha1 (j - 1) y (by omega) hy
        have hyb := hF4 y (List.mem_of_getElem? hy)
        refine lv_aload_n hx hb dX0_insertFactor_9 rfl (lv_at hl 0 rfl) ?_
        refine pg_7 CF hK hP dX0_insertFactor_10 ?_
        refine lv_iload_n hx hb dX0_insertFactor_13 rfl (lv_at hl 2 rfl) ?_
        refine lv_iconst (v := nI 1) hx hb dX0_insertFactor_14 (by decide) ?_
        refine pw_sub hx hb dX0_insertFactor_15 (by omega) (j - 1) rfl ?_
        refine pl_f (x := y) CF hK hP (by omega) (hyv) dX0_insertFactor_16 ?_
        refine lv_iload_n hx hb dX0_insertFactor_17 rfl (lv_at hl 1 rfl) ?_
        refine pw_icmp_le (tgt := 41) hx hb dX0_insertFactor_18 (by decide) (by omega) (by omega) (fun c18 => ?_) (fun c18 => ?_)
        · have hlo : ∀ x, 0 < j → F[j - 1]? = some x → x ≤ pr := fun x _ h => by rw [hy] at h; cases h; exact c18
          have hin := pd_ins (f := a) hj ha1 ha2 hF2 hlo hhi
          refine lv_aload_n hx hb dX0_insertFactor_41 rfl (lv_at hl 0 rfl) ?_
          refine pg_7 CF hK hP dX0_insertFactor_42 ?_
          refine lv_iload_n hx hb dX0_insertFactor_45 rfl (lv_at hl 2 rfl) ?_
          refine lv_iload_n hx hb dX0_insertFactor_46 rfl (lv_at hl 1 rfl) ?_
          refine pt_f CF hK hP hN (fun q h => h) hS (by omega) dX0_insertFactor_47 (fun H locs hP hS => ?_)
          refine lv_aload_n hx hb dX0_insertFactor_48 rfl (lv_at hl 0 rfl) ?_
          refine lv_dup hx hb dX0_insertFactor_49 rfl ?_
          refine pg_31 CF hK hP dX0_insertFactor_50 ?_
          refine lv_iconst (v := nI 1) hx hb dX0_insertFactor_53 (by decide) ?_
          refine pw_add hx hb dX0_insertFactor_54 ((F.length) + 1) rfl ?_
          refine ps_31 ((F.length) + 1) CF hK hP hN (fun q h => h) hS dX0_insertFactor_55 (fun H locs hP hS => ?_)
          exact hret _ _ _ _ dX0_insertFactor_58 (⟨_, _, by rw [hin.2.2.2.1]; exact hP, hin.1, hin.2.1, hin.2.2.1, hin.2.2.2.1, hin.2.2.2.2⟩) hS
        · have hst := pd_ins_step c6 hy c18 ha1 ha2 hhi
          refine lv_aload_n hx hb dX0_insertFactor_21 rfl (lv_at hl 0 rfl) ?_
          refine pg_7 CF hK hP dX0_insertFactor_22 ?_
          refine lv_iload_n hx hb dX0_insertFactor_25 rfl (lv_at hl 2 rfl) ?_
          refine lv_aload_n hx hb dX0_insertFactor_26 rfl (lv_at hl 0 rfl) ?_
          refine pg_7 CF hK hP dX0_insertFactor_27 ?_
          refine lv_iload_n hx hb dX0_insertFactor_30 rfl (lv_at hl 2 rfl) ?_
          refine lv_iconst (v := nI 1) hx hb dX0_insertFactor_31 (by decide) ?_
          refine pw_sub hx hb dX0_insertFactor_32 (by omega) (j - 1) rfl ?_
          refine pl_f (x := y) CF hK hP (by omega) (hyv) dX0_insertFactor_33 ?_
          refine pt_f CF hK hP hN (fun q h => h) hS (by omega) dX0_insertFactor_34 (fun H locs hP hS => ?_)
          refine lv_iinc (v := nI (j - 1)) (lv' := [(2, .int (nI (j - 1))), (0, .ref h0), (1, .int (nI pr))]) hx hb dX0_insertFactor_35 hl (k := 2) rfl (pw_im1 (by omega)) (by decide) rfl (fun ls hl => ?_)
          refine lv_goto (tgt := 5) hx hb dX0_insertFactor_38 (by decide) ?_
          exact ihlp (j - 1) (upd a j (nI y)) _ _ ls (by omega) (by omega) (hst.1) (hst.2.1) (hst.2.2) hP hS (lv_sub hl [1, 2, 0] rfl)
  exact lp (F.length + 1) (F.length) f _ _ ls (Nat.lt_succ_self _) (Nat.le_refl _) (fun i x _ h => hF i x h) (fun i x h1 h2 => absurd (List.getElem?_eq_some_iff.mp h2).1 (by omega)) (fun i x h1 h2 => absurd (List.getElem?_eq_some_iff.mp h2).1 (by omega)) hP hS (lv_sub hl [1, 2, 0] rfl)
/-- X0.findFactors  -/
abbrev rmX0_findFactors : Room := { frames := 4, cells := 0, slots := 0, locals := 96 }
set_option maxHeartbeats 4000000 in
set_option maxRecDepth 100000 in
theorem metX0_findFactors (l : Launch) (D : va_G) (d1 d2 : ClassId) (h0 fl pa : Nat) (hN : dkN h0 fl pa) (n : Nat) (L : List Nat) (hn1 : 1 ≤ n) (hnn : n ≤ 30000) (hL : pd_fact n L) : pc_Mv l yX0_findFactors (ws_ yX0_findFactors cX0_findFactors 3 none) rmX0_findFactors D (dkT d1 d2) [.ref h0] (pd_dk D h0 fl pa d1 d2 n) (pd_dL D h0 fl pa d1 d2 n L) (dkA h0 fl pa) := by
  refine pc_startv (by decide) (Nat.le_of_ble_eq_true rfl) ?_
  intro p e s m args below meth c Q ls CF hK hG hl hret
  have hx := CF.1
  have hb := CF.2.1
  have hS : va_S (dkA h0 fl pa) s.heap s.heap [] := va_S.rf
  have hl : lv_has ls 3 [(0, .ref h0)] := hl
  obtain ⟨sp, fc, pt, f0, g0, hP, hsp⟩ := hG
  have lp : ∀ (k : Nat) (F : List Nat) (ps : List Nat) (f : Nat → Int32) (g : Nat → Int32) (H : Heap) (locs : List Loc) (ls : Array Slot), (pd_mu ps < k) → (pd_arr f F) → (∀ x ∈ F, pd_pr x) → (F.Pairwise (· ≤ ·)) → (pd_stk g ps) → (∀ x ∈ ps, 2 ≤ x) → (pd_prod F * pd_prod ps = n) → va_P D vwCl (dkW h0 fl pa d1 d2 n (nI 1) (F.length) (ps.length) f g) H → va_S (dkA h0 fl pa) s.heap H locs → lv_has ls 3 [(0, .ref h0)] → W p l e rmX0_findFactors s m args below meth c H locs 0 0 Q (F0 m 39 ls []) := by
    intro k
    induction k with
    | zero =>
      intro F ps f g H locs ls hm
      exact absurd hm (Nat.not_lt_zero _)
    | succ k ihlp =>
      intro F ps f g H locs ls hm hF1 hF2 hF3 hp1 hp2 hpr hP hS hl
      refine lv_aload_n hx hb dX0_findFactors_39 rfl (lv_at hl 0 rfl) ?_
      refine pg_59 CF hK hP dX0_findFactors_40 ?_
      refine pw_if_le (tgt := 103) hx hb dX0_findFactors_43 (by decide) (by have := pd_fp_len hF2 hp2 hpr hnn; omega) (fun c43 => ?_) (fun c43 => ?_)
      · exact hret _ _ _ _ dX0_findFactors_103 (by
          have hps : ps = [] := List.eq_nil_of_length_eq_zero c43
          subst hps
          have hFn : pd_fact n F := ⟨by rw [← hpr]; exact (Nat.mul_one _).symm, hF2, hF3⟩
          rw [pd_fact_uniq hL hFn]
          exact ⟨_, f, g, hP, hF1⟩) hS
      · obtain ⟨x, r, rfl⟩ : ∃ x r, ps = x :: r := by
          cases ps with
          | nil => exact absurd c43 (Nat.lt_irrefl 0)
          | cons x r => exact ⟨x, r, rfl⟩
        have hlen := pd_fp_len hF2 hp2 hpr hnn
        rw [List.length_cons] at hlen
        have hx2 := hp2 x List.mem_cons_self
        have hxn : x ≤ n := Nat.le_of_dvd (by omega) (by rw [← hpr]; exact Nat.dvd_trans (pd_prod_dvd List.mem_cons_self) (Nat.dvd_mul_left _ _))
        have hFb : ∀ y ∈ F, y ≤ 30000 := fun y hy => Nat.le_trans (Nat.le_of_dvd (by omega) (by rw [← hpr]; exact Nat.dvd_trans (pd_prod_dvd hy) (Nat.dvd_mul_right _ _))) hnn
        refine lv_aload_n hx hb dX0_findFactors_46 rfl (lv_at hl 0 rfl) ?_
        refine lv_dup hx hb dX0_findFactors_47 rfl ?_
        refine pg_59 CF hK hP dX0_findFactors_48 ?_
        refine lv_iconst (v := nI 1) hx hb dX0_findFactors_51 (by decide) ?_
        refine pw_sub hx hb dX0_findFactors_52 (Nat.succ_le_of_lt (Nat.succ_pos _)) (r.length) rfl ?_
        refine ps_59 (r.length) CF hK hP hN (fun q h => h) hS dX0_findFactors_53 (fun H locs hP hS => ?_)
        refine lv_aload_n hx hb dX0_findFactors_56 rfl (lv_at hl 0 rfl) ?_
        refine pg_13 CF hK hP dX0_findFactors_57 ?_
        refine lv_aload_n hx hb dX0_findFactors_60 rfl (lv_at hl 0 rfl) ?_
        refine pg_59 CF hK hP dX0_findFactors_61 ?_
        refine pl_g (x := x) CF hK hP (by omega) (hp1.1) dX0_findFactors_64 ?_
        refine lv_istore_n (lv' := [(1, .int (nI x)), (0, .ref h0)]) hx hb dX0_findFactors_65 rfl hl (by decide) rfl (fun ls hl => ?_)
        have hO := dkO hP
        refine lv_aload_n hx hb dX0_findFactors_66 rfl (lv_at hl 1 rfl) ?_
        refine lv_iload_n hx hb dX0_findFactors_67 rfl (lv_at hl 0 rfl) ?_
        refine callX0_primeTest CF ⟨by decide, by decide⟩ hK hO (by omega) hl.1 (Nat.le_of_ble_eq_true rfl) dX0_findFactors_68 ⟨Nat.zero_le _, Nat.zero_le _⟩ (fun b68 => ?_) (fun b68 => ?_)
        · refine pw_if_eq (tgt := 82) hx hb dX0_findFactors_71 (by decide) (by omega) (fun c71 => absurd c71 (by decide)) (fun c71 => ?_)
          refine lv_aload_n hx hb dX0_findFactors_74 rfl (lv_at hl 1 rfl) ?_
          refine lv_iload_n hx hb dX0_findFactors_75 rfl (lv_at hl 0 rfl) ?_
          refine pc_callv (n := 1) CF (metX0_insertFactor l D d1 d2 h0 fl pa hN n (nI 1) r.length f g F x hF1 hF3 (by omega) hFb (by omega)) (lw_V q83 q85 qs6 q17 q86) rfl rfl (by decide +kernel) rfl ⟨by decide, by decide⟩ hK ((dkO hP).recv hK) hP rfl hl.1 (Nat.le_of_ble_eq_true rfl) dX0_findFactors_76 ⟨Nat.zero_le _, Nat.zero_le _⟩ hS (fun q h => h) (fun H locs hP hz hk hS => ?_)
          obtain ⟨E, u, hP, e1, e2, e3, e4, e5⟩ := hP
          refine lv_goto (tgt := 39) hx hb dX0_findFactors_79 (by decide) ?_
          have hm2 : (2 * x - 1) + pd_mu r < k + 1 := hm
          exact ihlp E r u g _ _ ls (by omega) (e1) (fun y hy => by
            rcases e5 y hy with h | h
            · rw [h]; exact b68
            · exact hF2 y h) (e2) (hp1.2) (fun y hy => hp2 y (List.mem_cons_of_mem _ hy)) (by rw [e3, ← hpr]; show x * pd_prod F * pd_prod r = pd_prod F * (x * pd_prod r); rw [Nat.mul_comm x, Nat.mul_assoc]) hP hS (lv_sub hl [1] rfl)
        · refine pw_if_eq (tgt := 82) hx hb dX0_findFactors_71 (by decide) (by omega) (fun c71 => ?_) (fun c71 => absurd c71 (by decide))
          refine lv_aload_n hx hb dX0_findFactors_82 rfl (lv_at hl 1 rfl) ?_
          refine lv_iload_n hx hb dX0_findFactors_83 rfl (lv_at hl 0 rfl) ?_
          refine callX0_splitter CF ⟨by decide, by decide⟩ hK hO (pd_np4 hx2 b68) (by omega) (b68) hl.1 (Nat.le_of_ble_eq_true rfl) dX0_findFactors_84 ⟨Nat.zero_le _, Nat.zero_le _⟩ (fun d hd => ?_)
          have htp := pd_two_parts hd.1 hd.2.1 hd.2.2
          have hdx := hd.2.1
          have hd1 := hd.1
          refine lv_istore_n (lv' := [(2, .int (nI d)), (1, .int (nI x)), (0, .ref h0)]) hx hb dX0_findFactors_87 rfl hl (by decide) rfl (fun ls hl => ?_)
          refine lv_aload_n hx hb dX0_findFactors_88 rfl (lv_at hl 2 rfl) ?_
          refine lv_iload_n hx hb dX0_findFactors_89 rfl (lv_at hl 0 rfl) ?_
          refine pc_callv (n := 1) CF (metX0_pushPart l D d1 d2 h0 fl pa hN n (nI 1) (F.length) (r.length) f g d (by first | omega | decide)) (lw_V q79 q81 qs5 q17 q82) rfl rfl (by decide +kernel) rfl ⟨by decide, by decide⟩ hK ((dkO hP).recv hK) hP rfl hl.1 (Nat.le_of_ble_eq_true rfl) dX0_findFactors_90 ⟨Nat.zero_le _, Nat.zero_le _⟩ hS (fun q h => h) (fun H locs hP hz hk hS => ?_)
          have hP : va_P D vwCl (dkW h0 fl pa d1 d2 n (nI 1) (F.length) (r.length + 1) f (upd g (r.length) (nI d))) H := hP
          refine lv_aload_n hx hb dX0_findFactors_93 rfl (lv_at hl 2 rfl) ?_
          refine lv_iload_n hx hb dX0_findFactors_94 rfl (lv_at hl 1 rfl) ?_
          refine lv_iload_n hx hb dX0_findFactors_95 rfl (lv_at hl 0 rfl) ?_
          refine pw_div hx hb dX0_findFactors_96 (by omega) (by omega) (by omega) (x / d) rfl ?_
          refine pc_callv (n := 1) CF (metX0_pushPart l D d1 d2 h0 fl pa hN n (nI 1) (F.length) (r.length + 1) f (upd g (r.length) (nI d)) (x / d) (by first | omega | decide)) (lw_V q79 q81 qs5 q17 q82) rfl rfl (by decide +kernel) rfl ⟨by decide, by decide⟩ hK ((dkO hP).recv hK) hP rfl hl.1 (Nat.le_of_ble_eq_true rfl) dX0_findFactors_97 ⟨Nat.zero_le _, Nat.zero_le _⟩ hS (fun q h => h) (fun H locs hP hz hk hS => ?_)
          have hP : va_P D vwCl (dkW h0 fl pa d1 d2 n (nI 1) (F.length) (r.length + 1 + 1) f (upd (upd g (r.length) (nI d)) (r.length + 1) (nI (x / d)))) H := hP
          refine lv_goto (tgt := 39) hx hb dX0_findFactors_100 (by decide) ?_
          have hm2 : (2 * x - 1) + pd_mu r < k + 1 := hm
          exact ihlp F (x / d :: d :: r) f (upd (upd g (r.length) (nI d)) (r.length + 1) (nI (x / d))) _ _ ls (by show (2 * (x / d) - 1) + ((2 * d - 1) + pd_mu r) < k; omega) (hF1) (hF2) (hF3) (pd_stk_push (ps := d :: r) (pd_stk_push hp1.2)) (fun y hy => by
            rcases List.mem_cons.mp hy with h | h
            · omega
            · rcases List.mem_cons.mp h with h | h
              · omega
              · exact hp2 y (List.mem_cons_of_mem _ h)) (by rw [← hpr]; show pd_prod F * (x / d * (d * pd_prod r)) = pd_prod F * (x * pd_prod r); rw [← Nat.mul_assoc (x / d), Nat.mul_comm (x / d), htp.1]) hP hS (lv_sub hl [2] rfl)
  refine lv_aload_n hx hb dX0_findFactors_0 rfl (lv_at hl 0 rfl) ?_
  refine pg_20 CF hK hP dX0_findFactors_1 ?_
  refine lv_if_eq (tgt := 8) hx hb dX0_findFactors_4 (by decide) (fun c4 => ?_) (fun c4 => ?_)
  · refine lv_aload_n hx hb dX0_findFactors_8 rfl (lv_at hl 0 rfl) ?_
    refine lv_iconst (v := nI 1) hx hb dX0_findFactors_9 (by decide) ?_
    refine ps_20 1 (Or.inr rfl) CF hK hP hN (fun q h => h) hS dX0_findFactors_10 (fun H locs hP hS => ?_)
    refine lv_aload_n hx hb dX0_findFactors_13 rfl (lv_at hl 0 rfl) ?_
    refine lv_iconst (v := nI 0) hx hb dX0_findFactors_14 (by decide) ?_
    refine ps_31 0 CF hK hP hN (fun q h => h) hS dX0_findFactors_15 (fun H locs hP hS => ?_)
    refine lv_aload_n hx hb dX0_findFactors_18 rfl (lv_at hl 0 rfl) ?_
    refine lv_iconst (v := nI 0) hx hb dX0_findFactors_19 (by decide) ?_
    refine ps_59 0 CF hK hP hN (fun q h => h) hS dX0_findFactors_20 (fun H locs hP hS => ?_)
    refine lv_aload_n hx hb dX0_findFactors_23 rfl (lv_at hl 0 rfl) ?_
    refine pg_16 CF hK hP dX0_findFactors_24 ?_
    refine lv_iconst (v := nI 1) hx hb dX0_findFactors_27 (by decide) ?_
    refine pw_icmp_le (tgt := 39) hx hb dX0_findFactors_28 (by decide) (by omega) (by omega) (fun c28 => ?_) (fun c28 => ?_)
    · exact lp (0 + 1) ([]) ([]) f0 g0 _ _ ls (Nat.lt_succ_self _) (fun i x h => absurd h (by simp)) (fun x h => absurd h List.not_mem_nil) (List.Pairwise.nil) (trivial) (fun x h => absurd h List.not_mem_nil) (by show 1 * 1 = n; omega) hP hS (lv_sub hl [0] rfl)
    · refine lv_aload_n hx hb dX0_findFactors_31 rfl (lv_at hl 0 rfl) ?_
      refine lv_aload_n hx hb dX0_findFactors_32 rfl (lv_at hl 0 rfl) ?_
      refine pg_16 CF hK hP dX0_findFactors_33 ?_
      refine pc_callv (n := 1) CF (metX0_pushPart l D d1 d2 h0 fl pa hN n (nI 1) 0 0 f0 g0 n (by first | omega | decide)) (lw_V q79 q81 qs5 q17 q82) rfl rfl (by decide +kernel) rfl ⟨by decide, by decide⟩ hK ((dkO hP).recv hK) hP rfl hl.1 (Nat.le_of_ble_eq_true rfl) dX0_findFactors_36 ⟨Nat.zero_le _, Nat.zero_le _⟩ hS (fun q h => h) (fun H locs hP hz hk hS => ?_)
      have hP : va_P D vwCl (dkW h0 fl pa d1 d2 n (nI 1) 0 (0 + 1) f0 (upd g0 0 (nI n))) H := hP
      exact lp (pd_mu [n] + 1) ([]) ([n]) f0 (upd g0 0 (nI n)) _ _ ls (Nat.lt_succ_self _) (fun i x h => absurd h (by simp)) (fun x h => absurd h List.not_mem_nil) (List.Pairwise.nil) (⟨pk_us, trivial⟩) (fun x h => by rw [List.mem_singleton.mp h]; omega) (by show 1 * (n * 1) = n; omega) hP hS (lv_sub hl [0] rfl)
  · exact hret _ _ _ _ dX0_findFactors_7 (by
    rcases hsp with h | ⟨h, M, hM, hfc, hf⟩
    · exact absurd h c4
    · subst h; subst hfc; rw [pd_fact_uniq hL hM]; exact ⟨pt, f0, g0, hP, hf⟩) hS
end
section
/-! the desk's public methods that write nothing -/
theorem pd_rt_mod {n i x : Nat} (h : pd_rt n (i % n) x) : pd_rt n i x := by
  refine ⟨h.1, ?_, fun y hy e => ?_⟩
  · have := h.2.1; rw [Nat.mod_mod] at this; exact this
  · exact h.2.2 y hy (by rw [Nat.mod_mod]; exact e)
theorem pd_rs_no {n i : Nat} {v : Int32} (h : pd_rs n i v) (hn : ∀ y, ¬ y * y % n = i % n) : (-2 : Int32) = v := by
  rcases h with h | h | h
  · obtain ⟨-, x, hx, -⟩ := h
    exact absurd hx.2.1 (hn x)
  · exact h.2.symm
  · exact h.2.2.symm
theorem pd_rs_rt {n i x : Nat} {v : Int32} (h : pd_rs n i v) (hp : pd_pr n) (hx : pd_rt n i x) : nI x = v := pd_rs_at h hp hx.1 hx.2.1 hx.2.2
theorem pd_rt_two {i : Nat} : pd_rt 2 i (i % 2) := by
  have h01 : i % 2 = 0 ∨ i % 2 = 1 := by omega
  rcases h01 with e | e
  · refine ⟨by omega, by rw [e], fun y hy => by omega⟩
  · refine ⟨by omega, by rw [e], fun y hy => ?_⟩
    have : y = 0 := by omega
    rw [this, e]; decide
theorem pd_rt_zero {n i : Nat} (hn : 0 < n) (h : i % n = 0) : pd_rt n i 0 := ⟨hn, by rw [h, Nat.zero_mul, Nat.zero_mod], fun y hy => absurd hy (Nat.not_lt_zero _)⟩
theorem pd_gp_iff {p g : Nat} (hp : pd_pr p) (h1 : 1 ≤ g) (h2 : g < p) : pd_gp p g ↔ pd_ord p g (p - 1) := by
  have hg : ¬ g % p = 0 := by rw [Nat.mod_eq_of_lt h2]; omega
  constructor
  · intro h
    obtain ⟨o, ho⟩ := pd_ord_ex hp.1 (pd_cop_lt hp h1 h2)
    have e := (pd_gen_iff hp hg ho).mpr h
    rw [e] at ho
    exact ho
  · intro h
    exact (pd_gen_iff hp hg h).mp rfl
/-- X0.isPrime -/
abbrev rmX0_isPrime : Room := { frames := 4, cells := 0, slots := 0, locals := 96 }
set_option maxHeartbeats 4000000 in
set_option maxRecDepth 100000 in
theorem metX0_isPrime (l : Launch) (D : va_G) (tys : List (ClassId × FieldType)) (H : Heap) (h0 nn : Nat) (hO : pd_ob D h0 nn H) (hn1 : 1 ≤ nn) (hnn : nn ≤ 30000) : pp_M l yX0_isPrime (ws_ yX0_isPrime cX0_isPrime 1 (some .boolean)) rmX0_isPrime D tys [.ref h0] H (fun r => (r = nI 1 ∧ (pd_pr nn)) ∨ (r = nI 0 ∧ (¬ pd_pr nn))) := by
  refine pp_start (by decide) (Or.inr ⟨rfl, fun r h => pw_01 h⟩) (Nat.le_of_ble_eq_true rfl) ?_
  intro p e s m args below meth c Q ls CF hK hl hret
  have hx := CF.1
  have hb := CF.2.1
  have hl : lv_has ls 1 [(0, .ref h0)] := hl
  refine lv_aload_n hx hb dX0_isPrime_0 rfl (lv_at hl 0 rfl) ?_
  refine lv_aload_n hx hb dX0_isPrime_1 rfl (lv_at hl 0 rfl) ?_
  refine pw_num CF hK hO dX0_isPrime_2 ?_
  refine callX0_primeTest CF ⟨by decide, by decide⟩ hK hO (by omega) hl.1 (Nat.le_of_ble_eq_true rfl) dX0_isPrime_5 ⟨Nat.zero_le _, Nat.zero_le _⟩ (fun b5 => ?_) (fun b5 => ?_)
  · exact hret _ _ _ dX0_isPrime_8 (Or.inl ⟨rfl, b5⟩)
  · exact hret _ _ _ dX0_isPrime_8 (Or.inr ⟨rfl, b5⟩)
/-- X0.nextPrime -/
abbrev rmX0_nextPrime : Room := { frames := 4, cells := 0, slots := 0, locals := 96 }
set_option maxHeartbeats 4000000 in
set_option maxRecDepth 100000 in
theorem metX0_nextPrime (l : Launch) (D : va_G) (tys : List (ClassId × FieldType)) (H : Heap) (h0 nn : Nat) (hO : pd_ob D h0 nn H) (qq : Nat) (hn1 : 1 ≤ nn) (hnn : nn ≤ 30000) (hq1 : nn < qq) (hq2 : qq ≤ nn + 72) (hq3 : pd_pr qq) (hq4 : ∀ j, nn < j → j < qq → ¬ pd_pr j) : pp_M l yX0_nextPrime (ws_ yX0_nextPrime cX0_nextPrime 3 (some .int)) rmX0_nextPrime D tys [.ref h0] H (fun r => r = nI qq) := by
  refine pp_start (by decide) (Or.inl rfl) (Nat.le_of_ble_eq_true rfl) ?_
  intro p e s m args below meth c Q ls CF hK hl hret
  have hx := CF.1
  have hb := CF.2.1
  have hl : lv_has ls 3 [(0, .ref h0)] := hl
  refine lv_aload_n hx hb dX0_nextPrime_0 rfl (lv_at hl 0 rfl) ?_
  refine pw_num CF hK hO dX0_nextPrime_1 ?_
  refine lv_iconst (v := nI 1) hx hb dX0_nextPrime_4 (by decide) ?_
  refine pw_add hx hb dX0_nextPrime_5 (nn + 1) rfl ?_
  refine lv_istore_n (lv' := [(1, .int (nI (nn + 1))), (0, .ref h0)]) hx hb dX0_nextPrime_6 rfl hl (by decide) rfl (fun ls hl => ?_)
  refine lv_iconst (v := nI 0) hx hb dX0_nextPrime_7 (by decide) ?_
  refine lv_istore_n (lv' := [(2, .int (nI 0)), (1, .int (nI (nn + 1))), (0, .ref h0)]) hx hb dX0_nextPrime_8 rfl hl (by decide) rfl (fun ls hl => ?_)
  have lp : ∀ (k : Nat) (t j : Nat) (ls : Array Slot), (qq - t < k) → (nn < t) → (t ≤ qq) → (t = nn + 1 + j) → lv_has ls 3 [(0, .ref h0), (1, .int (nI t)), (2, .int (nI j))] → W p l e rmX0_nextPrime s m args below meth c H [] 0 0 Q (F0 m 9 ls []) := by
    intro k
    induction k with
    | zero =>
      intro t j ls hm
      exact absurd hm (Nat.not_lt_zero _)
    | succ k ihlp =>
      intro t j ls hm ht1 ht htj hl
      refine lv_iload_n hx hb dX0_nextPrime_9 rfl (lv_at hl 2 rfl) ?_
      refine lv_bipush (v := nI 80) hx hb dX0_nextPrime_10 (by decide) ?_
      refine pw_icmp_ge (tgt := 32) hx hb dX0_nextPrime_12 (by decide) (by omega) (by omega) (fun c12 => absurd c12 (by omega)) (fun c12 => ?_)
      refine lv_aload_n hx hb dX0_nextPrime_15 rfl (lv_at hl 0 rfl) ?_
      refine lv_iload_n hx hb dX0_nextPrime_16 rfl (lv_at hl 1 rfl) ?_
      refine callX0_primeTest CF ⟨by decide, by decide⟩ hK hO (by omega) hl.1 (Nat.le_of_ble_eq_true rfl) dX0_nextPrime_17 ⟨Nat.zero_le _, Nat.zero_le _⟩ (fun b17 => ?_) (fun b17 => ?_)
      · refine pw_if_ne (tgt := 32) hx hb dX0_nextPrime_20 (by decide) (by omega) (fun c20 => ?_) (fun c20 => absurd c20 (by decide))
        have htq : t = qq := by
          rcases Nat.lt_or_ge t qq with q | q
          · exact absurd b17 (hq4 t ht1 q)
          · omega
        refine lv_iload_n hx hb dX0_nextPrime_32 rfl (lv_at hl 1 rfl) ?_
        exact hret _ _ _ dX0_nextPrime_33 (by rw [htq])
      · refine pw_if_ne (tgt := 32) hx hb dX0_nextPrime_20 (by decide) (by omega) (fun c20 => absurd c20 (by decide)) (fun c20 => ?_)
        have hlt : t < qq := by
          rcases Nat.lt_or_ge t qq with q | q
          · exact q
          · exact absurd (by rw [show t = qq by omega]; exact hq3) b17
        refine lv_iinc (v := nI (t + 1)) (lv' := [(1, .int (nI (t + 1))), (0, .ref h0), (2, .int (nI j))]) hx hb dX0_nextPrime_23 hl (k := 1) rfl (pw_i1 _) (by decide) rfl (fun ls hl => ?_)
        refine lv_iinc (v := nI (j + 1)) (lv' := [(2, .int (nI (j + 1))), (1, .int (nI (t + 1))), (0, .ref h0)]) hx hb dX0_nextPrime_26 hl (k := 2) rfl (pw_i1 _) (by decide) rfl (fun ls hl => ?_)
        refine lv_goto (tgt := 9) hx hb dX0_nextPrime_29 (by decide) ?_
        exact ihlp (t + 1) (j + 1) ls (by omega) (by omega) (by omega) (by omega) (lv_sub hl [2, 1, 0] rfl)
  exact lp (qq + 1) (nn + 1) 0 ls (by omega) (by omega) (by omega) (by omega) (lv_sub hl [2, 1, 0] rfl)
/-- X0.power -/
abbrev rmX0_power : Room := { frames := 2, cells := 0, slots := 0, locals := 49 }
set_option maxHeartbeats 4000000 in
set_option maxRecDepth 100000 in
theorem metX0_power (l : Launch) (D : va_G) (tys : List (ClassId × FieldType)) (H : Heap) (h0 nn : Nat) (hO : pd_ob D h0 nn H) (b x : Int32) (hn1 : 1 ≤ nn) (hnn : nn ≤ 30000) : pp_M l yX0_power (ws_ yX0_power cX0_power 3 (some .int)) rmX0_power D tys [.ref h0, .int b, .int x] H (fun r => r = pd_vb 0 b (pd_vb 0 x (nI (b.toNatClampNeg ^ x.toNatClampNeg % nn)))) := by
  refine pp_start (by decide) (Or.inl rfl) (Nat.le_of_ble_eq_true rfl) ?_
  intro p e s m args below meth c Q ls CF hK hl hret
  have hx := CF.1
  have hb := CF.2.1
  have hl : lv_has ls 3 [(0, .ref h0), (1, .int b), (2, .int x)] := hl
  refine lv_iload_n hx hb dX0_power_0 rfl (lv_at hl 1 rfl) ?_
  refine lv_if_lt (tgt := 22) hx hb dX0_power_1 (by decide) (fun c1 => ?_) (fun c1 => ?_)
  · refine lv_iconst (v := -1) hx hb dX0_power_22 (by decide) ?_
    exact hret _ _ _ dX0_power_23 ((pd_vb_lo c1).symm)
  · refine lv_iload_n hx hb dX0_power_4 rfl (lv_at hl 1 rfl) ?_
    refine lv_sipush (v := nI 30000) hx hb dX0_power_5 (by decide) ?_
    refine lv_icmp_gt (tgt := 22) hx hb dX0_power_8 (by decide) (fun c8 => ?_) (fun c8 => ?_)
    · refine lv_iconst (v := -1) hx hb dX0_power_22 (by decide) ?_
      exact hret _ _ _ dX0_power_23 ((pd_vb_hi c8).symm)
    · refine lv_iload_n hx hb dX0_power_11 rfl (lv_at hl 2 rfl) ?_
      refine lv_if_lt (tgt := 22) hx hb dX0_power_12 (by decide) (fun c12 => ?_) (fun c12 => ?_)
      · refine lv_iconst (v := -1) hx hb dX0_power_22 (by decide) ?_
        exact hret _ _ _ dX0_power_23 (by rw [pd_vb_lo (lo := 0) c12, pd_vb_m1])
      · refine lv_iload_n hx hb dX0_power_15 rfl (lv_at hl 2 rfl) ?_
        refine lv_sipush (v := nI 30000) hx hb dX0_power_16 (by decide) ?_
        refine lv_icmp_le (tgt := 24) hx hb dX0_power_19 (by decide) (fun c19 => ?_) (fun c19 => ?_)
        · obtain ⟨i, i1, i2, rfl⟩ := pd_rg (lo := 0) (by decide) c1 c8
          obtain ⟨j, j1, j2, rfl⟩ := pd_rg (lo := 0) (by decide) c12 (pd_le_nlt c19)
          rw [pd_vb_in i1 i2, pd_vb_in j1 j2, nI_clamp (n := i) (by omega), nI_clamp (n := j) (by omega)] at hret
          refine lv_aload_n hx hb dX0_power_24 rfl (lv_at hl 0 rfl) ?_
          refine lv_iload_n hx hb dX0_power_25 rfl (lv_at hl 1 rfl) ?_
          refine lv_iload_n hx hb dX0_power_26 rfl (lv_at hl 2 rfl) ?_
          refine lv_aload_n hx hb dX0_power_27 rfl (lv_at hl 0 rfl) ?_
          refine pw_num CF hK hO dX0_power_28 ?_
          refine callX0_powerRest CF ⟨by decide, by decide⟩ hK hO (by omega) (by omega) (by omega) (by omega) hl.1 (Nat.le_of_ble_eq_true rfl) dX0_power_31 ⟨Nat.zero_le _, Nat.zero_le _⟩ ?_
          exact hret _ _ _ dX0_power_34 rfl
        · refine lv_iconst (v := -1) hx hb dX0_power_22 (by decide) ?_
          exact hret _ _ _ dX0_power_23 (by rw [pd_vb_hi (lo := 0) (pd_nle c19), pd_vb_m1])
/-- X0.root -/
abbrev rmX0_root : Room := { frames := 4, cells := 0, slots := 0, locals := 96 }
set_option maxHeartbeats 4000000 in
set_option maxRecDepth 100000 in
theorem metX0_root (l : Launch) (D : va_G) (tys : List (ClassId × FieldType)) (H : Heap) (h0 nn : Nat) (hO : pd_ob D h0 nn H) (a : Int32) (v : Int32) (hn1 : 1 ≤ nn) (hnn : nn ≤ 30000) (hv : ∀ i, i ≤ 30000 → a = nI i → pd_rs nn i v) : pp_M l yX0_root (ws_ yX0_root cX0_root 4 (some .int)) rmX0_root D tys [.ref h0, .int a] H (fun r => r = pd_vb 0 a v) := by
  refine pp_start (by decide) (Or.inl rfl) (Nat.le_of_ble_eq_true rfl) ?_
  intro p e s m args below meth c Q ls CF hK hl hret
  have hx := CF.1
  have hb := CF.2.1
  have hl : lv_has ls 4 [(0, .ref h0), (1, .int a)] := hl
  refine lv_iload_n hx hb dX0_root_0 rfl (lv_at hl 1 rfl) ?_
  refine lv_if_lt (tgt := 11) hx hb dX0_root_1 (by decide) (fun c1 => ?_) (fun c1 => ?_)
  · refine lv_iconst (v := -1) hx hb dX0_root_11 (by decide) ?_
    exact hret _ _ _ dX0_root_12 ((pd_vb_lo (lo := 0) c1).symm)
  · refine lv_iload_n hx hb dX0_root_4 rfl (lv_at hl 1 rfl) ?_
    refine lv_sipush (v := nI 30000) hx hb dX0_root_5 (by decide) ?_
    refine lv_icmp_le (tgt := 13) hx hb dX0_root_8 (by decide) (fun c8 => ?_) (fun c8 => ?_)
    · obtain ⟨i, i1, i2, rfl⟩ := pd_rg (lo := 0) (by decide) c1 (pd_le_nlt c8)
      rw [pd_vb_in i1 i2] at hret
      have hv := hv i i2 rfl
      refine lv_aload_n hx hb dX0_root_13 rfl (lv_at hl 0 rfl) ?_
      refine lv_aload_n hx hb dX0_root_14 rfl (lv_at hl 0 rfl) ?_
      refine pw_num CF hK hO dX0_root_15 ?_
      refine callX0_primeTest CF ⟨by decide, by decide⟩ hK hO (by omega) hl.1 (Nat.le_of_ble_eq_true rfl) dX0_root_18 ⟨Nat.zero_le _, Nat.zero_le _⟩ (fun b18 => ?_) (fun b18 => ?_)
      · refine pw_if_ne (tgt := 27) hx hb dX0_root_21 (by decide) (by omega) (fun c21 => ?_) (fun c21 => absurd c21 (by decide))
        refine lv_iload_n hx hb dX0_root_27 rfl (lv_at hl 1 rfl) ?_
        refine lv_aload_n hx hb dX0_root_28 rfl (lv_at hl 0 rfl) ?_
        refine pw_num CF hK hO dX0_root_29 ?_
        obtain ⟨rr, err⟩ : ∃ v, v = i % nn := ⟨_, rfl⟩
        have brr : rr < nn := by rw [err]; exact Nat.mod_lt _ (by omega)
        refine pw_rem hx hb dX0_root_32 (by omega) (by omega) (by omega) rr (err.symm) ?_
        refine lv_istore_n (lv' := [(2, .int (nI rr)), (0, .ref h0), (1, .int (nI i))]) hx hb dX0_root_33 rfl hl (by decide) rfl (fun ls hl => ?_)
        refine lv_aload_n hx hb dX0_root_34 rfl (lv_at hl 1 rfl) ?_
        refine pw_num CF hK hO dX0_root_35 ?_
        refine lv_iconst (v := nI 2) hx hb dX0_root_38 (by decide) ?_
        refine pw_icmp_eq (tgt := 46) hx hb dX0_root_39 (by decide) (by omega) (by omega) (fun c39 => ?_) (fun c39 => ?_)
        · refine lv_iload_n hx hb dX0_root_46 rfl (lv_at hl 0 rfl) ?_
          exact hret _ _ _ dX0_root_47 (pd_rs_rt hv b18 (by rw [err, c39]; exact pd_rt_two))
        · refine lv_iload_n hx hb dX0_root_42 rfl (lv_at hl 0 rfl) ?_
          refine pw_if_ne (tgt := 48) hx hb dX0_root_43 (by decide) (by omega) (fun c43 => ?_) (fun c43 => ?_)
          · have h3 : 3 ≤ nn := by have := b18.1; omega
            have hrr : rr % nn = rr := Nat.mod_eq_of_lt brr
            have hrr0 : ¬ rr % nn = 0 := by rw [hrr]; exact c43
            refine lv_aload_n hx hb dX0_root_48 rfl (lv_at hl 1 rfl) ?_
            refine lv_iload_n hx hb dX0_root_49 rfl (lv_at hl 0 rfl) ?_
            refine lv_aload_n hx hb dX0_root_50 rfl (lv_at hl 1 rfl) ?_
            refine pw_num CF hK hO dX0_root_51 ?_
            refine lv_iconst (v := nI 1) hx hb dX0_root_54 (by decide) ?_
            refine pw_sub hx hb dX0_root_55 (by omega) (nn - 1) rfl ?_
            refine lv_iconst (v := nI 2) hx hb dX0_root_56 (by decide) ?_
            refine pw_div hx hb dX0_root_57 (by omega) (by omega) (by omega) ((nn - 1) / 2) rfl ?_
            refine lv_aload_n hx hb dX0_root_58 rfl (lv_at hl 1 rfl) ?_
            refine pw_num CF hK hO dX0_root_59 ?_
            refine callX0_powerRest CF ⟨by decide, by decide⟩ hK hO (by omega) (by omega) (by omega) (by omega) hl.1 (Nat.le_of_ble_eq_true rfl) dX0_root_62 ⟨Nat.zero_le _, Nat.zero_le _⟩ ?_
            refine lv_iconst (v := nI 1) hx hb dX0_root_65 (by decide) ?_
            refine pw_icmp_eq (tgt := 72) hx hb dX0_root_66 (by decide) (by have := Nat.mod_lt (rr ^ ((nn - 1) / 2)) (show 0 < nn by omega); omega) (by omega) (fun c66 => ?_) (fun c66 => ?_)
            · refine lv_aload_n hx hb dX0_root_72 rfl (lv_at hl 1 rfl) ?_
              refine lv_iload_n hx hb dX0_root_73 rfl (lv_at hl 0 rfl) ?_
              refine lv_aload_n hx hb dX0_root_74 rfl (lv_at hl 1 rfl) ?_
              refine pw_num CF hK hO dX0_root_75 ?_
              refine callX0_rootModulo CF ⟨by decide, by decide⟩ hK hO (b18) (h3) (by omega) (brr) (c66) hl.1 (Nat.le_of_ble_eq_true rfl) dX0_root_78 ⟨Nat.zero_le _, Nat.zero_le _⟩ (fun d hd => ?_)
              have hdn := hd.1
              have hrt : pd_rt nn i (if d ≤ nn - d then d else nn - d) := by
                refine pd_rt_mod ?_
                rw [← err]
                exact pd_rt_of b18 hrr0 hd.1 hd.2
              refine lv_istore_n (lv' := [(3, .int (nI d)), (2, .int (nI rr)), (0, .ref h0), (1, .int (nI i))]) hx hb dX0_root_81 rfl hl (by decide) rfl (fun ls hl => ?_)
              refine lv_iload_n hx hb dX0_root_82 rfl (lv_at hl 0 rfl) ?_
              refine lv_aload_n hx hb dX0_root_83 rfl (lv_at hl 2 rfl) ?_
              refine pw_num CF hK hO dX0_root_84 ?_
              refine lv_iload_n hx hb dX0_root_87 rfl (lv_at hl 0 rfl) ?_
              refine pw_sub hx hb dX0_root_88 (by omega) (nn - d) rfl ?_
              refine pw_icmp_gt (tgt := 96) hx hb dX0_root_89 (by decide) (by omega) (by omega) (fun c89 => ?_) (fun c89 => ?_)
              · refine lv_aload_n hx hb dX0_root_96 rfl (lv_at hl 2 rfl) ?_
                refine pw_num CF hK hO dX0_root_97 ?_
                refine lv_iload_n hx hb dX0_root_100 rfl (lv_at hl 0 rfl) ?_
                refine pw_sub hx hb dX0_root_101 (by omega) (nn - d) rfl ?_
                exact hret _ _ _ dX0_root_102 (by rw [if_neg (by omega)] at hrt; exact pd_rs_rt hv b18 hrt)
              · refine lv_iload_n hx hb dX0_root_92 rfl (lv_at hl 0 rfl) ?_
                refine lv_goto (tgt := 102) hx hb dX0_root_93 (by decide) ?_
                exact hret _ _ _ dX0_root_102 (by rw [if_pos (by omega)] at hrt; exact pd_rs_rt hv b18 hrt)
            · refine lv_bipush (v := -2) hx hb dX0_root_69 (by decide) ?_
              exact hret _ _ _ dX0_root_71 (pd_rs_no hv (fun y => by have h9 := pd_rt_no (y := y) b18 h3 hrr0 c66; rw [hrr, err] at h9; exact h9))
          · refine lv_iload_n hx hb dX0_root_46 rfl (lv_at hl 0 rfl) ?_
            exact hret _ _ _ dX0_root_47 (pd_rs_rt hv b18 (by rw [c43]; exact pd_rt_zero (by omega) (by rw [← err]; exact c43)))
      · refine pw_if_ne (tgt := 27) hx hb dX0_root_21 (by decide) (by omega) (fun c21 => absurd c21 (by decide)) (fun c21 => ?_)
        refine lv_bipush (v := -2) hx hb dX0_root_24 (by decide) ?_
        exact hret _ _ _ dX0_root_26 (pd_rs_np hv b18)
    · refine lv_iconst (v := -1) hx hb dX0_root_11 (by decide) ?_
      exact hret _ _ _ dX0_root_12 ((pd_vb_hi (pd_nle c8)).symm)
/-- X0.generator -/
abbrev rmX0_generator : Room := { frames := 4, cells := 0, slots := 0, locals := 96 }
set_option maxHeartbeats 4000000 in
set_option maxRecDepth 100000 in
theorem metX0_generator (l : Launch) (D : va_G) (tys : List (ClassId × FieldType)) (H : Heap) (h0 nn : Nat) (hO : pd_ob D h0 nn H) (v : Int32) (hn1 : 1 ≤ nn) (hnn : nn ≤ 30000) (hv : pd_gs nn v) : pp_M l yX0_generator (ws_ yX0_generator cX0_generator 3 (some .int)) rmX0_generator D tys [.ref h0] H (fun r => r = v) := by
  refine pp_start (by decide) (Or.inl rfl) (Nat.le_of_ble_eq_true rfl) ?_
  intro p e s m args below meth c Q ls CF hK hl hret
  have hx := CF.1
  have hb := CF.2.1
  have hl : lv_has ls 3 [(0, .ref h0)] := hl
  refine lv_aload_n hx hb dX0_generator_0 rfl (lv_at hl 0 rfl) ?_
  refine lv_aload_n hx hb dX0_generator_1 rfl (lv_at hl 0 rfl) ?_
  refine pw_num CF hK hO dX0_generator_2 ?_
  refine callX0_primeTest CF ⟨by decide, by decide⟩ hK hO (by omega) hl.1 (Nat.le_of_ble_eq_true rfl) dX0_generator_5 ⟨Nat.zero_le _, Nat.zero_le _⟩ (fun b5 => ?_) (fun b5 => ?_)
  · refine pw_if_ne (tgt := 14) hx hb dX0_generator_8 (by decide) (by omega) (fun c8 => ?_) (fun c8 => absurd c8 (by decide))
    obtain ⟨g, eg, g1, g2, g3, g4⟩ := pd_gs_yes hv b5
    have hp2 := b5.1
    refine lv_aload_n hx hb dX0_generator_14 rfl (lv_at hl 0 rfl) ?_
    refine pw_num CF hK hO dX0_generator_15 ?_
    refine lv_iconst (v := nI 2) hx hb dX0_generator_18 (by decide) ?_
    refine pw_icmp_ne (tgt := 24) hx hb dX0_generator_19 (by decide) (by omega) (by omega) (fun c19 => ?_) (fun c19 => ?_)
    · have h3 : 3 ≤ nn := by omega
      have hg1 : 1 < g := by
        rcases Nat.lt_or_ge 1 g with q | q
        · exact q
        · have e1 : g = 1 := by omega
          rw [e1] at g3
          exact absurd (by rw [Nat.pow_one]; exact Nat.mod_eq_of_lt (by omega)) (g3.2.2 1 (Nat.le_refl 1) (by omega))
      refine lv_iconst (v := nI 1) hx hb dX0_generator_24 (by decide) ?_
      refine lv_istore_n (lv' := [(1, .int (nI 1)), (0, .ref h0)]) hx hb dX0_generator_25 rfl hl (by decide) rfl (fun ls hl => ?_)
      refine lv_iconst (v := nI 0) hx hb dX0_generator_26 (by decide) ?_
      refine lv_istore_n (lv' := [(2, .int (nI 0)), (1, .int (nI 1)), (0, .ref h0)]) hx hb dX0_generator_27 rfl hl (by decide) rfl (fun ls hl => ?_)
      have lp : ∀ (k : Nat) (t fnd : Nat) (ls : Array Slot), (g - t < k) → ((fnd = 0 ∧ 1 ≤ t ∧ t < g) ∨ (fnd = 1 ∧ t = g)) → lv_has ls 3 [(0, .ref h0), (1, .int (nI t)), (2, .int (nI fnd))] → W p l e rmX0_generator s m args below meth c H [] 0 0 Q (F0 m 28 ls []) := by
        intro k
        induction k with
        | zero =>
          intro t fnd ls hm
          exact absurd hm (Nat.not_lt_zero _)
        | succ k ihlp =>
          intro t fnd ls hm hf hl
          refine lv_iload_n hx hb dX0_generator_28 rfl (lv_at hl 2 rfl) ?_
          refine pw_if_ne (tgt := 44) hx hb dX0_generator_29 (by decide) (by rcases hf with h | h <;> omega) (fun c29 => ?_) (fun c29 => ?_)
          · have htg : t = g := by rcases hf with h | h <;> omega
            refine lv_iload_n hx hb dX0_generator_44 rfl (lv_at hl 1 rfl) ?_
            exact hret _ _ _ dX0_generator_45 (by rw [htg, eg])
          · have hf2 : 1 ≤ t ∧ t < g := by rcases hf with h | h <;> omega
            refine lv_iinc (v := nI (t + 1)) (lv' := [(1, .int (nI (t + 1))), (0, .ref h0), (2, .int (nI fnd))]) hx hb dX0_generator_32 hl (k := 1) rfl (pw_i1 _) (by decide) rfl (fun ls hl => ?_)
            refine lv_aload_n hx hb dX0_generator_35 rfl (lv_at hl 1 rfl) ?_
            refine lv_iload_n hx hb dX0_generator_36 rfl (lv_at hl 0 rfl) ?_
            refine callX0_generates CF ⟨by decide, by decide⟩ hK hO (by omega) (by omega) (by omega) hl.1 (Nat.le_of_ble_eq_true rfl) dX0_generator_37 ⟨Nat.zero_le _, Nat.zero_le _⟩ (fun b37 => ?_) (fun b37 => ?_)
            · refine lv_istore_n (lv' := [(2, .int (nI 1)), (1, .int (nI (t + 1))), (0, .ref h0)]) hx hb dX0_generator_40 rfl hl (by decide) rfl (fun ls hl => ?_)
              refine lv_goto (tgt := 28) hx hb dX0_generator_41 (by decide) ?_
              have htg : t + 1 = g := by
                rcases Nat.lt_or_ge (t + 1) g with q | q
                · exact absurd ((pd_gp_iff b5 (by omega) (by omega)).mp b37) (g4 (t + 1) (by omega) q)
                · omega
              exact ihlp (t + 1) 1 ls (by omega) (Or.inr ⟨rfl, htg⟩) (lv_sub hl [2, 1, 0] rfl)
            · refine lv_istore_n (lv' := [(2, .int (nI 0)), (1, .int (nI (t + 1))), (0, .ref h0)]) hx hb dX0_generator_40 rfl hl (by decide) rfl (fun ls hl => ?_)
              refine lv_goto (tgt := 28) hx hb dX0_generator_41 (by decide) ?_
              have htg : t + 1 < g := by
                rcases Nat.lt_or_ge (t + 1) g with q | q
                · exact q
                · exact absurd ((pd_gp_iff b5 (by omega) (by omega)).mpr (by rw [show t + 1 = g by omega]; exact g3)) b37
              exact ihlp (t + 1) 0 ls (by omega) (Or.inl ⟨rfl, by omega, htg⟩) (lv_sub hl [2, 1, 0] rfl)
      exact lp (g + 1) 1 0 ls (by omega) (Or.inl ⟨rfl, Nat.le_refl 1, hg1⟩) (lv_sub hl [2, 1, 0] rfl)
    · refine lv_iconst (v := nI 1) hx hb dX0_generator_22 (by decide) ?_
      exact hret _ _ _ dX0_generator_23 (by rw [eg, show g = 1 by omega])
  · refine pw_if_ne (tgt := 14) hx hb dX0_generator_8 (by decide) (by omega) (fun c8 => absurd c8 (by decide)) (fun c8 => ?_)
    refine lv_bipush (v := -2) hx hb dX0_generator_11 (by decide) ?_
    exact hret _ _ _ dX0_generator_13 (pd_gs_np hv b5)
end
section
/-! the desk's public methods that ask for the factors -/
theorem pd_nlt {x y : Int32} (h : ¬ x < y) : y ≤ x := by
  rw [Int32.le_iff_toInt_le]
  rw [Int32.lt_iff_toInt_lt] at h
  omega
theorem pd_ixin {k : Int32} {n : Nat} (h1 : ¬ k < 0) (h2 : k < nI n) (hn : n < 2147483648) : ∃ i, i < n ∧ k = nI i := by
  rcases pk_ix k (n := n) (by omega) with q | q | q
  · exact absurd q h1
  · rw [Int32.le_iff_toInt_le] at q
    rw [Int32.lt_iff_toInt_lt] at h2
    omega
  · exact q
theorem pd_el_le {n : Nat} {L : List Nat} (hL : pd_fact n L) (hn : 1 ≤ n) {i x : Nat} (h : L[i]? = some x) : 2 ≤ x ∧ x ≤ n :=
  ⟨(hL.2.1 x (List.mem_of_getElem? h)).1, Nat.le_of_dvd (by omega) (by rw [← hL.1]; exact pd_prod_dvd (List.mem_of_getElem? h))⟩
theorem pd_take_s {L : List Nat} {k x : Nat} (h : L[k]? = some x) : pd_prod (L.take (k + 1)) = pd_prod (L.take k) * x := by
  rw [List.take_add_one, h, pd_prod_app]
  show pd_prod (L.take k) * (x * 1) = _
  rw [Nat.mul_one]
theorem pd_drop_s {L : List Nat} {k x : Nat} (h : L[k]? = some x) : pd_prod (L.drop k) = x * pd_prod (L.drop (k + 1)) := by
  obtain ⟨h1, h2⟩ := List.getElem?_eq_some_iff.mp h
  rw [List.drop_eq_getElem_cons h1, h2]
  rfl
theorem pd_sorted_le {L : List Nat} (hs : L.Pairwise (· ≤ ·)) {i k x y : Nat} (hi : L[i]? = some x) (hk : L[k]? = some y) (hik : i ≤ k) : x ≤ y := by
  rcases Nat.lt_or_ge i k with q | q
  · obtain ⟨w1, w2⟩ := List.getElem?_eq_some_iff.mp hi
    obtain ⟨w3, w4⟩ := List.getElem?_eq_some_iff.mp hk
    have h5 := List.pairwise_iff_getElem.mp hs i k w1 w3 q
    rw [w2, w4] at h5
    exact h5
  · have e : i = k := by omega
    rw [e, hk] at hi
    cases hi
    exact Nat.le_refl _
/-- a prime of the list that is not the one before it doesn't divide what stands before it -/
theorem pd_new {n : Nat} {L : List Nat} (hL : pd_fact n L) {k x y : Nat} (hx : L[k]? = some x) (hy : L[k + 1]? = some y) (hne : ¬ y = x) : ¬ pd_prod (L.take (k + 1)) % y = 0 := by
  intro h
  have hyp := hL.2.1 y (List.mem_of_getElem? hy)
  have hm := pd_mem_of_dvd hyp (fun z hz => hL.2.1 z (List.mem_of_mem_take hz)) (Nat.dvd_of_mod_eq_zero h)
  obtain ⟨i, hi⟩ := List.getElem?_of_mem hm
  have hlt : i < k + 1 := by
    have := (List.getElem?_eq_some_iff.mp hi).1
    rw [List.length_take] at this
    omega
  rw [List.getElem?_take_of_lt hlt] at hi
  have h1 := pd_sorted_le hL.2.2 hi hx (by omega)
  have h2 := pd_sorted_le hL.2.2 hx hy (by omega)
  omega
def pd_dv (L : List Nat) (k run mm : Nat) : Prop := 0 < mm ∧ (∀ x, L[k]? = some x → pd_prod (L.take k) = mm * x ^ run ∧ ¬ mm % x = 0) ∧ (k = L.length → pd_prod (L.take k) = mm)
theorem pd_dv_0 {n : Nat} {L : List Nat} (hL : pd_fact n L) : pd_dv L 0 0 1 := by
  refine ⟨Nat.one_pos, fun x hx => ⟨rfl, fun h => ?_⟩, fun _ => rfl⟩
  have := (hL.2.1 x (List.mem_of_getElem? hx)).1
  rw [Nat.mod_eq_of_lt (by omega)] at h
  omega
theorem pd_dv_same {L : List Nat} {k run mm x : Nat} (h : pd_dv L k run mm) (hx : L[k]? = some x) (hy : L[k + 1]? = some x) : pd_dv L (k + 1) (run + 1) mm := by
  refine ⟨h.1, fun z hz => ?_, fun e => ?_⟩
  · rw [hy] at hz
    cases hz
    refine ⟨?_, (h.2.1 x hx).2⟩
    rw [pd_take_s hx, (h.2.1 x hx).1, Nat.pow_succ, Nat.mul_assoc]
  · have := (List.getElem?_eq_some_iff.mp hy).1
    omega
theorem pd_dv_new {n : Nat} {L : List Nat} (hL : pd_fact n L) {k run mm x : Nat} (h : pd_dv L k run mm) (hx : L[k]? = some x) (hne : ∀ y, L[k + 1]? = some y → ¬ y = x) : pd_dv L (k + 1) 0 (mm * x ^ (run + 1)) := by
  have e : pd_prod (L.take (k + 1)) = mm * x ^ (run + 1) := by rw [pd_take_s hx, (h.2.1 x hx).1, Nat.pow_succ, Nat.mul_assoc]
  have hx0 : 0 < x := by have := (hL.2.1 x (List.mem_of_getElem? hx)).1; omega
  refine ⟨Nat.mul_pos h.1 (Nat.pow_pos hx0), fun y hy => ⟨by rw [Nat.pow_zero, Nat.mul_one]; exact e, ?_⟩, fun _ => e⟩
  rw [← e]
  exact pd_new hL hx hy (hne y hy)
theorem pd_dv_end {n : Nat} {L : List Nat} (hL : pd_fact n L) {k run mm : Nat} (h : pd_dv L k run mm) (hk : k = L.length) : mm = n := by
  have h1 := h.2.2 hk
  rw [hk, List.take_length, hL.1] at h1
  exact h1.symm
theorem pd_dv_tau {n : Nat} {L : List Nat} (hL : pd_fact n L) {k run mm x : Nat} (h : pd_dv L k run mm) (hx : L[k]? = some x) : pd_tau mm * (run + 1 + 1) = pd_tau (mm * x ^ (run + 1)) :=
  (pd_tau_pow (hL.2.1 x (List.mem_of_getElem? hx)) h.1 (h.2.1 x hx).2 (run + 1)).symm
theorem pd_dv_sig {n : Nat} {L : List Nat} (hL : pd_fact n L) {k run mm x : Nat} (h : pd_dv L k run mm) (hx : L[k]? = some x) : pd_sig mm * pd_in x (run + 1) = pd_sig (mm * x ^ (run + 1)) :=
  (pd_sig_pow (hL.2.1 x (List.mem_of_getElem? hx)) h.1 (h.2.1 x hx).2 (run + 1)).symm
/-! coprimes -/
theorem pd_cp_le {n : Nat} {L : List Nat} (hL : pd_fact n L) (k : Nat) : pd_phi (pd_prod (L.take k)) * pd_prod (L.drop k) ≤ n := by
  have h := Nat.mul_le_mul (pd_phi_le (pd_prod (L.take k))) (Nat.le_refl (pd_prod (L.drop k)))
  rw [← pd_prod_app, List.take_append_drop, hL.1] at h
  exact h
theorem pd_cp_same {n : Nat} {L : List Nat} (hL : pd_fact n L) {k x : Nat} (hk : 0 < k) (hx : L[k]? = some x) (hy : L[k - 1]? = some x) : pd_phi (pd_prod (L.take k)) * pd_prod (L.drop k) = pd_phi (pd_prod (L.take (k + 1))) * pd_prod (L.drop (k + 1)) := by
  have hd : pd_prod (L.take k) % x = 0 := by
    obtain ⟨j, rfl⟩ : ∃ j, k = j + 1 := ⟨k - 1, by omega⟩
    have hy2 : L[j]? = some x := hy
    rw [pd_take_s hy2]
    exact Nat.mul_mod_left _ _
  rw [pd_take_s hx, pd_drop_s hx, Nat.mul_comm (pd_prod (L.take k)) x, pd_phi_div hd, Nat.mul_left_comm, Nat.mul_assoc]
theorem pd_cp_new {n : Nat} {L : List Nat} (hL : pd_fact n L) {k x : Nat} (hx : L[k]? = some x) (hne : 0 < k → ∀ y, L[k - 1]? = some y → ¬ y = x) : pd_phi (pd_prod (L.take k)) * pd_prod (L.drop k) / x * (x - 1) = pd_phi (pd_prod (L.take (k + 1))) * pd_prod (L.drop (k + 1)) := by
  have hxp := hL.2.1 x (List.mem_of_getElem? hx)
  have hx0 : 0 < x := by have := hxp.1; omega
  have hd : ¬ pd_prod (L.take k) % x = 0 := by
    rcases Nat.eq_zero_or_pos k with q | q
    · rw [q]
      show ¬ 1 % x = 0
      rw [Nat.mod_eq_of_lt (by have := hxp.1; omega)]
      decide
    · obtain ⟨j, rfl⟩ : ∃ j, k = j + 1 := ⟨k - 1, by omega⟩
      have hj : j < L.length := by
        have := (List.getElem?_eq_some_iff.mp hx).1
        omega
      have hy : L[j]? = some L[j] := List.getElem?_eq_getElem hj
      exact pd_new hL hy hx (fun e => hne q _ hy e.symm)
  rw [pd_take_s hx, pd_drop_s hx, Nat.mul_comm (pd_prod (L.take k)) x, pd_phi_new hxp hd, Nat.mul_left_comm, Nat.mul_div_cancel_left _ hx0, Nat.mul_comm _ (x - 1), Nat.mul_assoc]
theorem pd_cp_end {n : Nat} {L : List Nat} (hL : pd_fact n L) {k : Nat} (hk : k = L.length) : pd_phi (pd_prod (L.take k)) * pd_prod (L.drop k) = pd_phi n := by
  rw [hk, List.take_length, List.drop_length, hL.1]
  exact Nat.mul_one _
theorem pd_cp_0 {n : Nat} {L : List Nat} (hL : pd_fact n L) : n = pd_phi (pd_prod (L.take 0)) * pd_prod (L.drop 0) := by
  show n = pd_phi 1 * pd_prod L
  rw [pd_phi_1, Nat.one_mul, hL.1]
/-- X0.factors  -/
abbrev rmX0_factors : Room := { frames := 5, cells := 0, slots := 0, locals := 118 }
set_option maxHeartbeats 4000000 in
set_option maxRecDepth 100000 in
theorem metX0_factors (l : Launch) (D : va_G) (d1 d2 : ClassId) (h0 fl pa : Nat) (hN : dkN h0 fl pa) (n : Nat) (L : List Nat) (hn1 : 1 ≤ n) (hnn : n ≤ 30000) (hL : pd_fact n L) : pc_M l yX0_factors (ws_ yX0_factors cX0_factors 1 (some .int)) rmX0_factors D (dkT d1 d2) [.ref h0] (pd_dk D h0 fl pa d1 d2 n) (fun r => r = nI L.length) (pd_dk D h0 fl pa d1 d2 n) (dkA h0 fl pa) := by
  refine pc_start (by decide) (Or.inl rfl) (Nat.le_of_ble_eq_true rfl) ?_
  intro p e s m args below meth c Q ls CF hK hG hl hret
  have hx := CF.1
  have hb := CF.2.1
  have hS : va_S (dkA h0 fl pa) s.heap s.heap [] := va_S.rf
  have hl : lv_has ls 1 [(0, .ref h0)] := hl
  refine lv_aload_n hx hb dX0_factors_0 rfl (lv_at hl 0 rfl) ?_
  refine pc_callv (n := 0) CF (metX0_findFactors l D d1 d2 h0 fl pa hN n L hn1 hnn hL) (lw_V q75 q77 qs4 q17 q78) rfl rfl (by decide +kernel) rfl ⟨by decide, by decide⟩ hK (hG.ob.recv hK) hG rfl hl.1 (Nat.le_of_ble_eq_true rfl) dX0_factors_1 ⟨Nat.zero_le _, Nat.zero_le _⟩ hS (fun q h => h) (fun H locs hP hz hk hS => ?_)
  obtain ⟨pt, f, g, hP, hfL⟩ := hP
  have hG2 : pd_dk D h0 fl pa d1 d2 n H := pd_dL.dk ⟨pt, f, g, hP, hfL⟩ hL
  have hlen := pd_fact_len hL hnn
  refine lv_aload_n hx hb dX0_factors_4 rfl (lv_at hl 0 rfl) ?_
  refine pg_31 CF hK hP dX0_factors_5 ?_
  exact hret _ _ _ _ _ dX0_factors_8 (rfl) (hG2) hS
/-- X0.factor  -/
abbrev rmX0_factor : Room := { frames := 5, cells := 0, slots := 0, locals := 118 }
set_option maxHeartbeats 4000000 in
set_option maxRecDepth 100000 in
theorem metX0_factor (l : Launch) (D : va_G) (d1 d2 : ClassId) (h0 fl pa : Nat) (hN : dkN h0 fl pa) (n : Nat) (L : List Nat) (hn1 : 1 ≤ n) (hnn : n ≤ 30000) (hL : pd_fact n L) (kk : Int32) : pc_M l yX0_factor (ws_ yX0_factor cX0_factor 2 (some .int)) rmX0_factor D (dkT d1 d2) [.ref h0, .int kk] (pd_dk D h0 fl pa d1 d2 n) (fun r => r = pd_vf L kk) (pd_dk D h0 fl pa d1 d2 n) (dkA h0 fl pa) := by
  refine pc_start (by decide) (Or.inl rfl) (Nat.le_of_ble_eq_true rfl) ?_
  intro p e s m args below meth c Q ls CF hK hG hl hret
  have hx := CF.1
  have hb := CF.2.1
  have hS : va_S (dkA h0 fl pa) s.heap s.heap [] := va_S.rf
  have hl : lv_has ls 2 [(0, .ref h0), (1, .int kk)] := hl
  refine lv_aload_n hx hb dX0_factor_0 rfl (lv_at hl 0 rfl) ?_
  refine pc_callv (n := 0) CF (metX0_findFactors l D d1 d2 h0 fl pa hN n L hn1 hnn hL) (lw_V q75 q77 qs4 q17 q78) rfl rfl (by decide +kernel) rfl ⟨by decide, by decide⟩ hK (hG.ob.recv hK) hG rfl hl.1 (Nat.le_of_ble_eq_true rfl) dX0_factor_1 ⟨Nat.zero_le _, Nat.zero_le _⟩ hS (fun q h => h) (fun H locs hP hz hk hS => ?_)
  obtain ⟨pt, f, g, hP, hfL⟩ := hP
  have hG2 : pd_dk D h0 fl pa d1 d2 n H := pd_dL.dk ⟨pt, f, g, hP, hfL⟩ hL
  have hlen := pd_fact_len hL hnn
  refine lv_iload_n hx hb dX0_factor_4 rfl (lv_at hl 1 rfl) ?_
  refine lv_if_lt (tgt := 16) hx hb dX0_factor_5 (by decide) (fun c5 => ?_) (fun c5 => ?_)
  · refine lv_bipush (v := -2) hx hb dX0_factor_16 (by decide) ?_
    refine lv_goto (tgt := 27) hx hb dX0_factor_18 (by decide) ?_
    exact hret _ _ _ _ _ dX0_factor_27 ((if_pos (Or.inl c5)).symm) (hG2) hS
  · refine lv_iload_n hx hb dX0_factor_8 rfl (lv_at hl 1 rfl) ?_
    refine lv_aload_n hx hb dX0_factor_9 rfl (lv_at hl 0 rfl) ?_
    refine pg_31 CF hK hP dX0_factor_10 ?_
    refine lv_icmp_lt (tgt := 21) hx hb dX0_factor_13 (by decide) (fun c13 => ?_) (fun c13 => ?_)
    · obtain ⟨i, hi, rfl⟩ := pd_ixin c5 c13 (by omega)
      obtain ⟨x, hx'⟩ : ∃ v, L[i]? = some v := ⟨_, List.getElem?_eq_getElem (show i < L.length by omega)⟩
      refine lv_aload_n hx hb dX0_factor_21 rfl (lv_at hl 0 rfl) ?_
      refine pg_7 CF hK hP dX0_factor_22 ?_
      refine lv_iload_n hx hb dX0_factor_25 rfl (lv_at hl 1 rfl) ?_
      refine pl_f (x := x) CF hK hP (by omega) (hfL i x hx') dX0_factor_26 ?_
      exact hret _ _ _ _ _ dX0_factor_27 ((pd_vf_at hx' (by omega)).symm) (hG2) hS
    · refine lv_bipush (v := -2) hx hb dX0_factor_16 (by decide) ?_
      refine lv_goto (tgt := 27) hx hb dX0_factor_18 (by decide) ?_
      exact hret _ _ _ _ _ dX0_factor_27 ((if_pos (Or.inr (pd_nlt c13))).symm) (hG2) hS
/-- X0.divisors  -/
abbrev rmX0_divisors : Room := { frames := 5, cells := 0, slots := 0, locals := 118 }
set_option maxHeartbeats 4000000 in
set_option maxRecDepth 100000 in
theorem metX0_divisors (l : Launch) (D : va_G) (d1 d2 : ClassId) (h0 fl pa : Nat) (hN : dkN h0 fl pa) (n : Nat) (L : List Nat) (hn1 : 1 ≤ n) (hnn : n ≤ 30000) (hL : pd_fact n L) : pc_M l yX0_divisors (ws_ yX0_divisors cX0_divisors 4 (some .int)) rmX0_divisors D (dkT d1 d2) [.ref h0] (pd_dk D h0 fl pa d1 d2 n) (fun r => r = nI (pd_tau n)) (pd_dk D h0 fl pa d1 d2 n) (dkA h0 fl pa) := by
  refine pc_start (by decide) (Or.inl rfl) (Nat.le_of_ble_eq_true rfl) ?_
  intro p e s m args below meth c Q ls CF hK hG hl hret
  have hx := CF.1
  have hb := CF.2.1
  have hS : va_S (dkA h0 fl pa) s.heap s.heap [] := va_S.rf
  have hl : lv_has ls 4 [(0, .ref h0)] := hl
  refine lv_aload_n hx hb dX0_divisors_0 rfl (lv_at hl 0 rfl) ?_
  refine pc_callv (n := 0) CF (metX0_findFactors l D d1 d2 h0 fl pa hN n L hn1 hnn hL) (lw_V q75 q77 qs4 q17 q78) rfl rfl (by decide +kernel) rfl ⟨by decide, by decide⟩ hK (hG.ob.recv hK) hG rfl hl.1 (Nat.le_of_ble_eq_true rfl) dX0_divisors_1 ⟨Nat.zero_le _, Nat.zero_le _⟩ hS (fun q h => h) (fun H locs hP hz hk hS => ?_)
  obtain ⟨pt, f, g, hP, hfL⟩ := hP
  have hG2 : pd_dk D h0 fl pa d1 d2 n H := pd_dL.dk ⟨pt, f, g, hP, hfL⟩ hL
  have hlen := pd_fact_len hL hnn
  refine lv_iconst (v := nI 1) hx hb dX0_divisors_4 (by decide) ?_
  refine lv_istore_n (lv' := [(1, .int (nI 1)), (0, .ref h0)]) hx hb dX0_divisors_5 rfl hl (by decide) rfl (fun ls hl => ?_)
  refine lv_iconst (v := nI 0) hx hb dX0_divisors_6 (by decide) ?_
  refine lv_istore_n (lv' := [(2, .int (nI 0)), (1, .int (nI 1)), (0, .ref h0)]) hx hb dX0_divisors_7 rfl hl (by decide) rfl (fun ls hl => ?_)
  refine lv_iconst (v := nI 0) hx hb dX0_divisors_8 (by decide) ?_
  refine lv_istore_n (lv' := [(3, .int (nI 0)), (2, .int (nI 0)), (1, .int (nI 1)), (0, .ref h0)]) hx hb dX0_divisors_9 rfl hl (by decide) rfl (fun ls hl => ?_)
  have lp : ∀ (k : Nat) (pr run j mm : Nat) (ls : Array Slot), (L.length - j < k) → (pr = pd_tau mm) → (pd_dv L j run mm) → (j ≤ L.length) → lv_has ls 4 [(0, .ref h0), (1, .int (nI pr)), (2, .int (nI run)), (3, .int (nI j))] → W p l e rmX0_divisors s m args below meth c H locs 0 0 Q (F0 m 10 ls []) := by
    intro k
    induction k with
    | zero =>
      intro pr run j mm ls hm
      exact absurd hm (Nat.not_lt_zero _)
    | succ k ihlp =>
      intro pr run j mm ls hm hpr hdv hj hl
      refine lv_iload_n hx hb dX0_divisors_10 rfl (lv_at hl 3 rfl) ?_
      refine lv_aload_n hx hb dX0_divisors_11 rfl (lv_at hl 0 rfl) ?_
      refine pg_31 CF hK hP dX0_divisors_12 ?_
      refine pw_icmp_ge (tgt := 65) hx hb dX0_divisors_15 (by decide) (by omega) (by omega) (fun c15 => ?_) (fun c15 => ?_)
      · refine lv_iload_n hx hb dX0_divisors_65 rfl (lv_at hl 1 rfl) ?_
        exact hret _ _ _ _ _ dX0_divisors_66 (by rw [hpr, pd_dv_end hL hdv (by omega)]) (hG2) hS
      · obtain ⟨x, hx1⟩ : ∃ v, L[j]? = some v := ⟨_, List.getElem?_eq_getElem (show j < L.length by omega)⟩
        have hxb := pd_el_le hL hn1 hx1
        refine lv_iinc (v := nI (run + 1)) (lv' := [(2, .int (nI (run + 1))), (0, .ref h0), (1, .int (nI pr)), (3, .int (nI j))]) hx hb dX0_divisors_18 hl (k := 2) rfl (pw_i1 _) (by decide) rfl (fun ls hl => ?_)
        refine lv_iload_n hx hb dX0_divisors_21 rfl (lv_at hl 3 rfl) ?_
        refine lv_iconst (v := nI 1) hx hb dX0_divisors_22 (by decide) ?_
        refine pw_add hx hb dX0_divisors_23 (j + 1) rfl ?_
        refine lv_aload_n hx hb dX0_divisors_24 rfl (lv_at hl 1 rfl) ?_
        refine pg_31 CF hK hP dX0_divisors_25 ?_
        refine pw_icmp_ge (tgt := 51) hx hb dX0_divisors_28 (by decide) (by omega) (by omega) (fun c28 => ?_) (fun c28 => ?_)
        · refine lv_iload_n hx hb dX0_divisors_51 rfl (lv_at hl 2 rfl) ?_
          refine lv_iload_n hx hb dX0_divisors_52 rfl (lv_at hl 0 rfl) ?_
          refine lv_iconst (v := nI 1) hx hb dX0_divisors_53 (by decide) ?_
          refine pw_add hx hb dX0_divisors_54 ((run + 1) + 1) rfl ?_
          refine pw_mul hx hb dX0_divisors_55 (pr * ((run + 1) + 1)) rfl ?_
          refine lv_istore_n (lv' := [(1, .int (nI (pr * ((run + 1) + 1)))), (2, .int (nI (run + 1))), (0, .ref h0), (3, .int (nI j))]) hx hb dX0_divisors_56 rfl hl (by decide) rfl (fun ls hl => ?_)
          refine lv_iconst (v := nI 0) hx hb dX0_divisors_57 (by decide) ?_
          refine lv_istore_n (lv' := [(2, .int (nI 0)), (1, .int (nI (pr * ((run + 1) + 1)))), (0, .ref h0), (3, .int (nI j))]) hx hb dX0_divisors_58 rfl hl (by decide) rfl (fun ls hl => ?_)
          refine lv_iinc (v := nI (j + 1)) (lv' := [(3, .int (nI (j + 1))), (2, .int (nI 0)), (1, .int (nI (pr * ((run + 1) + 1)))), (0, .ref h0)]) hx hb dX0_divisors_59 hl (k := 3) rfl (pw_i1 _) (by decide) rfl (fun ls hl => ?_)
          refine lv_goto (tgt := 10) hx hb dX0_divisors_62 (by decide) ?_
          exact ihlp (pr * ((run + 1) + 1)) 0 (j + 1) (mm * x ^ (run + 1)) ls (by omega) (by rw [hpr]; exact pd_dv_tau hL hdv hx1) (pd_dv_new hL hdv hx1 (fun y h => absurd (List.getElem?_eq_some_iff.mp h).1 (by omega))) (by omega) (lv_sub hl [3, 2, 1, 0] rfl)
        · obtain ⟨y, hy1⟩ : ∃ v, L[(j + 1)]? = some v := ⟨_, List.getElem?_eq_getElem (show (j + 1) < L.length by omega)⟩
          have hyb := pd_el_le hL hn1 hy1
          refine lv_aload_n hx hb dX0_divisors_31 rfl (lv_at hl 1 rfl) ?_
          refine pg_7 CF hK hP dX0_divisors_32 ?_
          refine lv_iload_n hx hb dX0_divisors_35 rfl (lv_at hl 3 rfl) ?_
          refine lv_iconst (v := nI 1) hx hb dX0_divisors_36 (by decide) ?_
          refine pw_add hx hb dX0_divisors_37 (j + 1) rfl ?_
          refine pl_f (x := y) CF hK hP (by omega) (hfL (j + 1) y hy1) dX0_divisors_38 ?_
          refine lv_aload_n hx hb dX0_divisors_39 rfl (lv_at hl 1 rfl) ?_
          refine pg_7 CF hK hP dX0_divisors_40 ?_
          refine lv_iload_n hx hb dX0_divisors_43 rfl (lv_at hl 3 rfl) ?_
          refine pl_f (x := x) CF hK hP (by omega) (hfL j x hx1) dX0_divisors_44 ?_
          refine pw_icmp_ne (tgt := 51) hx hb dX0_divisors_45 (by decide) (by omega) (by omega) (fun c45 => ?_) (fun c45 => ?_)
          · refine lv_iload_n hx hb dX0_divisors_51 rfl (lv_at hl 2 rfl) ?_
            refine lv_iload_n hx hb dX0_divisors_52 rfl (lv_at hl 0 rfl) ?_
            refine lv_iconst (v := nI 1) hx hb dX0_divisors_53 (by decide) ?_
            refine pw_add hx hb dX0_divisors_54 ((run + 1) + 1) rfl ?_
            refine pw_mul hx hb dX0_divisors_55 (pr * ((run + 1) + 1)) rfl ?_
            refine lv_istore_n (lv' := [(1, .int (nI (pr * ((run + 1) + 1)))), (2, .int (nI (run + 1))), (0, .ref h0), (3, .int (nI j))]) hx hb dX0_divisors_56 rfl hl (by decide) rfl (fun ls hl => ?_)
            refine lv_iconst (v := nI 0) hx hb dX0_divisors_57 (by decide) ?_
            refine lv_istore_n (lv' := [(2, .int (nI 0)), (1, .int (nI (pr * ((run + 1) + 1)))), (0, .ref h0), (3, .int (nI j))]) hx hb dX0_divisors_58 rfl hl (by decide) rfl (fun ls hl => ?_)
            refine lv_iinc (v := nI (j + 1)) (lv' := [(3, .int (nI (j + 1))), (2, .int (nI 0)), (1, .int (nI (pr * ((run + 1) + 1)))), (0, .ref h0)]) hx hb dX0_divisors_59 hl (k := 3) rfl (pw_i1 _) (by decide) rfl (fun ls hl => ?_)
            refine lv_goto (tgt := 10) hx hb dX0_divisors_62 (by decide) ?_
            exact ihlp (pr * ((run + 1) + 1)) 0 (j + 1) (mm * x ^ (run + 1)) ls (by omega) (by rw [hpr]; exact pd_dv_tau hL hdv hx1) (pd_dv_new hL hdv hx1 (fun z h => by rw [hy1] at h; cases h; exact c45)) (by omega) (lv_sub hl [3, 2, 1, 0] rfl)
          · refine lv_goto (tgt := 59) hx hb dX0_divisors_48 (by decide) ?_
            refine lv_iinc (v := nI (j + 1)) (lv' := [(3, .int (nI (j + 1))), (2, .int (nI (run + 1))), (0, .ref h0), (1, .int (nI pr))]) hx hb dX0_divisors_59 hl (k := 3) rfl (pw_i1 _) (by decide) rfl (fun ls hl => ?_)
            refine lv_goto (tgt := 10) hx hb dX0_divisors_62 (by decide) ?_
            exact ihlp pr (run + 1) (j + 1) mm ls (by omega) (hpr) (pd_dv_same hdv hx1 (by rw [hy1, c45])) (by omega) (lv_sub hl [2, 3, 1, 0] rfl)
  exact lp (L.length + 1) 1 0 0 1 ls (by omega) (pd_tau_1.symm) (pd_dv_0 hL) (Nat.zero_le _) (lv_sub hl [3, 2, 1, 0] rfl)
/-- X0.sum  -/
abbrev rmX0_sum : Room := { frames := 5, cells := 0, slots := 0, locals := 118 }
set_option maxHeartbeats 4000000 in
set_option maxRecDepth 100000 in
theorem metX0_sum (l : Launch) (D : va_G) (d1 d2 : ClassId) (h0 fl pa : Nat) (hN : dkN h0 fl pa) (n : Nat) (L : List Nat) (hn1 : 1 ≤ n) (hnn : n ≤ 30000) (hL : pd_fact n L) : pc_M l yX0_sum (ws_ yX0_sum cX0_sum 4 (some .int)) rmX0_sum D (dkT d1 d2) [.ref h0] (pd_dk D h0 fl pa d1 d2 n) (fun r => r = nI (pd_sig n)) (pd_dk D h0 fl pa d1 d2 n) (dkA h0 fl pa) := by
  refine pc_start (by decide) (Or.inl rfl) (Nat.le_of_ble_eq_true rfl) ?_
  intro p e s m args below meth c Q ls CF hK hG hl hret
  have hx := CF.1
  have hb := CF.2.1
  have hS : va_S (dkA h0 fl pa) s.heap s.heap [] := va_S.rf
  have hl : lv_has ls 4 [(0, .ref h0)] := hl
  refine lv_aload_n hx hb dX0_sum_0 rfl (lv_at hl 0 rfl) ?_
  refine pc_callv (n := 0) CF (metX0_findFactors l D d1 d2 h0 fl pa hN n L hn1 hnn hL) (lw_V q75 q77 qs4 q17 q78) rfl rfl (by decide +kernel) rfl ⟨by decide, by decide⟩ hK (hG.ob.recv hK) hG rfl hl.1 (Nat.le_of_ble_eq_true rfl) dX0_sum_1 ⟨Nat.zero_le _, Nat.zero_le _⟩ hS (fun q h => h) (fun H locs hP hz hk hS => ?_)
  obtain ⟨pt, f, g, hP, hfL⟩ := hP
  have hG2 : pd_dk D h0 fl pa d1 d2 n H := pd_dL.dk ⟨pt, f, g, hP, hfL⟩ hL
  have hlen := pd_fact_len hL hnn
  refine lv_iconst (v := nI 1) hx hb dX0_sum_4 (by decide) ?_
  refine lv_istore_n (lv' := [(1, .int (nI 1)), (0, .ref h0)]) hx hb dX0_sum_5 rfl hl (by decide) rfl (fun ls hl => ?_)
  refine lv_iconst (v := nI 1) hx hb dX0_sum_6 (by decide) ?_
  refine lv_istore_n (lv' := [(2, .int (nI 1)), (1, .int (nI 1)), (0, .ref h0)]) hx hb dX0_sum_7 rfl hl (by decide) rfl (fun ls hl => ?_)
  refine lv_iconst (v := nI 0) hx hb dX0_sum_8 (by decide) ?_
  refine lv_istore_n (lv' := [(3, .int (nI 0)), (2, .int (nI 1)), (1, .int (nI 1)), (0, .ref h0)]) hx hb dX0_sum_9 rfl hl (by decide) rfl (fun ls hl => ?_)
  have lp : ∀ (k : Nat) (pr inn j run mm : Nat) (ls : Array Slot), (L.length - j < k) → (pr = pd_sig mm) → (∀ x, L[j]? = some x → inn = pd_in x run) → (pd_dv L j run mm) → (j ≤ L.length) → lv_has ls 4 [(0, .ref h0), (1, .int (nI pr)), (2, .int (nI inn)), (3, .int (nI j))] → W p l e rmX0_sum s m args below meth c H locs 0 0 Q (F0 m 10 ls []) := by
    intro k
    induction k with
    | zero =>
      intro pr inn j run mm ls hm
      exact absurd hm (Nat.not_lt_zero _)
    | succ k ihlp =>
      intro pr inn j run mm ls hm hpr hinn hdv hj hl
      refine lv_iload_n hx hb dX0_sum_10 rfl (lv_at hl 3 rfl) ?_
      refine lv_aload_n hx hb dX0_sum_11 rfl (lv_at hl 0 rfl) ?_
      refine pg_31 CF hK hP dX0_sum_12 ?_
      refine pw_icmp_ge (tgt := 71) hx hb dX0_sum_15 (by decide) (by omega) (by omega) (fun c15 => ?_) (fun c15 => ?_)
      · refine lv_iload_n hx hb dX0_sum_71 rfl (lv_at hl 1 rfl) ?_
        exact hret _ _ _ _ _ dX0_sum_72 (by rw [hpr, pd_dv_end hL hdv (by omega)]) (hG2) hS
      · obtain ⟨x, hx1⟩ : ∃ v, L[j]? = some v := ⟨_, List.getElem?_eq_getElem (show j < L.length by omega)⟩
        have hxb := pd_el_le hL hn1 hx1
        have hin := hinn x hx1
        refine lv_iload_n hx hb dX0_sum_18 rfl (lv_at hl 2 rfl) ?_
        refine lv_aload_n hx hb dX0_sum_19 rfl (lv_at hl 0 rfl) ?_
        refine pg_7 CF hK hP dX0_sum_20 ?_
        refine lv_iload_n hx hb dX0_sum_23 rfl (lv_at hl 3 rfl) ?_
        refine pl_f (x := x) CF hK hP (by omega) (hfL j x hx1) dX0_sum_24 ?_
        refine pw_mul hx hb dX0_sum_25 (inn * x) rfl ?_
        refine lv_iconst (v := nI 1) hx hb dX0_sum_26 (by decide) ?_
        refine pw_add hx hb dX0_sum_27 ((inn * x) + 1) rfl ?_
        refine lv_istore_n (lv' := [(2, .int (nI ((inn * x) + 1))), (0, .ref h0), (1, .int (nI pr)), (3, .int (nI j))]) hx hb dX0_sum_28 rfl hl (by decide) rfl (fun ls hl => ?_)
        refine lv_iload_n hx hb dX0_sum_29 rfl (lv_at hl 3 rfl) ?_
        refine lv_iconst (v := nI 1) hx hb dX0_sum_30 (by decide) ?_
        refine pw_add hx hb dX0_sum_31 (j + 1) rfl ?_
        refine lv_aload_n hx hb dX0_sum_32 rfl (lv_at hl 1 rfl) ?_
        refine pg_31 CF hK hP dX0_sum_33 ?_
        refine pw_icmp_ge (tgt := 59) hx hb dX0_sum_36 (by decide) (by omega) (by omega) (fun c36 => ?_) (fun c36 => ?_)
        · refine lv_iload_n hx hb dX0_sum_59 rfl (lv_at hl 2 rfl) ?_
          refine lv_iload_n hx hb dX0_sum_60 rfl (lv_at hl 0 rfl) ?_
          refine pw_mul hx hb dX0_sum_61 (pr * ((inn * x) + 1)) rfl ?_
          refine lv_istore_n (lv' := [(1, .int (nI (pr * ((inn * x) + 1)))), (2, .int (nI ((inn * x) + 1))), (0, .ref h0), (3, .int (nI j))]) hx hb dX0_sum_62 rfl hl (by decide) rfl (fun ls hl => ?_)
          refine lv_iconst (v := nI 1) hx hb dX0_sum_63 (by decide) ?_
          refine lv_istore_n (lv' := [(2, .int (nI 1)), (1, .int (nI (pr * ((inn * x) + 1)))), (0, .ref h0), (3, .int (nI j))]) hx hb dX0_sum_64 rfl hl (by decide) rfl (fun ls hl => ?_)
          refine lv_iinc (v := nI (j + 1)) (lv' := [(3, .int (nI (j + 1))), (2, .int (nI 1)), (1, .int (nI (pr * ((inn * x) + 1)))), (0, .ref h0)]) hx hb dX0_sum_65 hl (k := 3) rfl (pw_i1 _) (by decide) rfl (fun ls hl => ?_)
          refine lv_goto (tgt := 10) hx hb dX0_sum_68 (by decide) ?_
          exact ihlp (pr * ((inn * x) + 1)) 1 (j + 1) 0 (mm * x ^ (run + 1)) ls (by omega) (by rw [hpr, hin]; exact pd_dv_sig hL hdv hx1) (fun z h => rfl) (pd_dv_new hL hdv hx1 (fun y h => absurd (List.getElem?_eq_some_iff.mp h).1 (by omega))) (by omega) (lv_sub hl [3, 2, 1, 0] rfl)
        · obtain ⟨y, hy1⟩ : ∃ v, L[(j + 1)]? = some v := ⟨_, List.getElem?_eq_getElem (show (j + 1) < L.length by omega)⟩
          have hyb := pd_el_le hL hn1 hy1
          refine lv_aload_n hx hb dX0_sum_39 rfl (lv_at hl 1 rfl) ?_
          refine pg_7 CF hK hP dX0_sum_40 ?_
          refine lv_iload_n hx hb dX0_sum_43 rfl (lv_at hl 3 rfl) ?_
          refine lv_iconst (v := nI 1) hx hb dX0_sum_44 (by decide) ?_
          refine pw_add hx hb dX0_sum_45 (j + 1) rfl ?_
          refine pl_f (x := y) CF hK hP (by omega) (hfL (j + 1) y hy1) dX0_sum_46 ?_
          refine lv_aload_n hx hb dX0_sum_47 rfl (lv_at hl 1 rfl) ?_
          refine pg_7 CF hK hP dX0_sum_48 ?_
          refine lv_iload_n hx hb dX0_sum_51 rfl (lv_at hl 3 rfl) ?_
          refine pl_f (x := x) CF hK hP (by omega) (hfL j x hx1) dX0_sum_52 ?_
          refine pw_icmp_ne (tgt := 59) hx hb dX0_sum_53 (by decide) (by omega) (by omega) (fun c53 => ?_) (fun c53 => ?_)
          · refine lv_iload_n hx hb dX0_sum_59 rfl (lv_at hl 2 rfl) ?_
            refine lv_iload_n hx hb dX0_sum_60 rfl (lv_at hl 0 rfl) ?_
            refine pw_mul hx hb dX0_sum_61 (pr * ((inn * x) + 1)) rfl ?_
            refine lv_istore_n (lv' := [(1, .int (nI (pr * ((inn * x) + 1)))), (2, .int (nI ((inn * x) + 1))), (0, .ref h0), (3, .int (nI j))]) hx hb dX0_sum_62 rfl hl (by decide) rfl (fun ls hl => ?_)
            refine lv_iconst (v := nI 1) hx hb dX0_sum_63 (by decide) ?_
            refine lv_istore_n (lv' := [(2, .int (nI 1)), (1, .int (nI (pr * ((inn * x) + 1)))), (0, .ref h0), (3, .int (nI j))]) hx hb dX0_sum_64 rfl hl (by decide) rfl (fun ls hl => ?_)
            refine lv_iinc (v := nI (j + 1)) (lv' := [(3, .int (nI (j + 1))), (2, .int (nI 1)), (1, .int (nI (pr * ((inn * x) + 1)))), (0, .ref h0)]) hx hb dX0_sum_65 hl (k := 3) rfl (pw_i1 _) (by decide) rfl (fun ls hl => ?_)
            refine lv_goto (tgt := 10) hx hb dX0_sum_68 (by decide) ?_
            exact ihlp (pr * ((inn * x) + 1)) 1 (j + 1) 0 (mm * x ^ (run + 1)) ls (by omega) (by rw [hpr, hin]; exact pd_dv_sig hL hdv hx1) (fun z h => rfl) (pd_dv_new hL hdv hx1 (fun z h => by rw [hy1] at h; cases h; exact c53)) (by omega) (lv_sub hl [3, 2, 1, 0] rfl)
          · refine lv_goto (tgt := 65) hx hb dX0_sum_56 (by decide) ?_
            refine lv_iinc (v := nI (j + 1)) (lv' := [(3, .int (nI (j + 1))), (2, .int (nI ((inn * x) + 1))), (0, .ref h0), (1, .int (nI pr))]) hx hb dX0_sum_65 hl (k := 3) rfl (pw_i1 _) (by decide) rfl (fun ls hl => ?_)
            refine lv_goto (tgt := 10) hx hb dX0_sum_68 (by decide) ?_
            exact ihlp pr ((inn * x) + 1) (j + 1) (run + 1) mm ls (by omega) (hpr) (fun z h => by rw [hy1] at h; cases h; rw [c53, hin]; rfl) (pd_dv_same hdv hx1 (by rw [hy1, c53])) (by omega) (lv_sub hl [2, 3, 1, 0] rfl)
  exact lp (L.length + 1) 1 1 0 0 1 ls (by omega) (pd_sig_1.symm) (fun x h => rfl) (pd_dv_0 hL) (Nat.zero_le _) (lv_sub hl [3, 2, 1, 0] rfl)
/-- X0.coprimes  -/
abbrev rmX0_coprimes : Room := { frames := 5, cells := 0, slots := 0, locals := 118 }
set_option maxHeartbeats 4000000 in
set_option maxRecDepth 100000 in
theorem metX0_coprimes (l : Launch) (D : va_G) (d1 d2 : ClassId) (h0 fl pa : Nat) (hN : dkN h0 fl pa) (n : Nat) (L : List Nat) (hn1 : 1 ≤ n) (hnn : n ≤ 30000) (hL : pd_fact n L) : pc_M l yX0_coprimes (ws_ yX0_coprimes cX0_coprimes 3 (some .int)) rmX0_coprimes D (dkT d1 d2) [.ref h0] (pd_dk D h0 fl pa d1 d2 n) (fun r => r = nI (pd_phi n)) (pd_dk D h0 fl pa d1 d2 n) (dkA h0 fl pa) := by
  refine pc_start (by decide) (Or.inl rfl) (Nat.le_of_ble_eq_true rfl) ?_
  intro p e s m args below meth c Q ls CF hK hG hl hret
  have hx := CF.1
  have hb := CF.2.1
  have hS : va_S (dkA h0 fl pa) s.heap s.heap [] := va_S.rf
  have hl : lv_has ls 3 [(0, .ref h0)] := hl
  refine lv_aload_n hx hb dX0_coprimes_0 rfl (lv_at hl 0 rfl) ?_
  refine pc_callv (n := 0) CF (metX0_findFactors l D d1 d2 h0 fl pa hN n L hn1 hnn hL) (lw_V q75 q77 qs4 q17 q78) rfl rfl (by decide +kernel) rfl ⟨by decide, by decide⟩ hK (hG.ob.recv hK) hG rfl hl.1 (Nat.le_of_ble_eq_true rfl) dX0_coprimes_1 ⟨Nat.zero_le _, Nat.zero_le _⟩ hS (fun q h => h) (fun H locs hP hz hk hS => ?_)
  obtain ⟨pt, f, g, hP, hfL⟩ := hP
  have hG2 : pd_dk D h0 fl pa d1 d2 n H := pd_dL.dk ⟨pt, f, g, hP, hfL⟩ hL
  have hlen := pd_fact_len hL hnn
  refine lv_aload_n hx hb dX0_coprimes_4 rfl (lv_at hl 0 rfl) ?_
  refine pg_16 CF hK hP dX0_coprimes_5 ?_
  refine lv_istore_n (lv' := [(1, .int (nI n)), (0, .ref h0)]) hx hb dX0_coprimes_8 rfl hl (by decide) rfl (fun ls hl => ?_)
  refine lv_iconst (v := nI 0) hx hb dX0_coprimes_9 (by decide) ?_
  refine lv_istore_n (lv' := [(2, .int (nI 0)), (1, .int (nI n)), (0, .ref h0)]) hx hb dX0_coprimes_10 rfl hl (by decide) rfl (fun ls hl => ?_)
  have lp : ∀ (k : Nat) (res j : Nat) (ls : Array Slot), (L.length - j < k) → (res = pd_phi (pd_prod (L.take j)) * pd_prod (L.drop j)) → (j ≤ L.length) → lv_has ls 3 [(0, .ref h0), (1, .int (nI res)), (2, .int (nI j))] → W p l e rmX0_coprimes s m args below meth c H locs 0 0 Q (F0 m 11 ls []) := by
    intro k
    induction k with
    | zero =>
      intro res j ls hm
      exact absurd hm (Nat.not_lt_zero _)
    | succ k ihlp =>
      intro res j ls hm hres hj hl
      have hle : res ≤ n := by rw [hres]; exact pd_cp_le hL j
      refine lv_iload_n hx hb dX0_coprimes_11 rfl (lv_at hl 2 rfl) ?_
      refine lv_aload_n hx hb dX0_coprimes_12 rfl (lv_at hl 0 rfl) ?_
      refine pg_31 CF hK hP dX0_coprimes_13 ?_
      refine pw_icmp_ge (tgt := 67) hx hb dX0_coprimes_16 (by decide) (by omega) (by omega) (fun c16 => ?_) (fun c16 => ?_)
      · refine lv_iload_n hx hb dX0_coprimes_67 rfl (lv_at hl 1 rfl) ?_
        exact hret _ _ _ _ _ dX0_coprimes_68 (by rw [hres, pd_cp_end hL (by omega)]) (hG2) hS
      · obtain ⟨x, hx1⟩ : ∃ v, L[j]? = some v := ⟨_, List.getElem?_eq_getElem (show j < L.length by omega)⟩
        have hxb := pd_el_le hL hn1 hx1
        refine lv_iload_n hx hb dX0_coprimes_19 rfl (lv_at hl 2 rfl) ?_
        refine pw_if_le (tgt := 43) hx hb dX0_coprimes_20 (by decide) (by omega) (fun c20 => ?_) (fun c20 => ?_)
        · refine lv_iload_n hx hb dX0_coprimes_43 rfl (lv_at hl 1 rfl) ?_
          refine lv_aload_n hx hb dX0_coprimes_44 rfl (lv_at hl 0 rfl) ?_
          refine pg_7 CF hK hP dX0_coprimes_45 ?_
          refine lv_iload_n hx hb dX0_coprimes_48 rfl (lv_at hl 2 rfl) ?_
          refine pl_f (x := x) CF hK hP (by omega) (hfL j x hx1) dX0_coprimes_49 ?_
          refine pw_div hx hb dX0_coprimes_50 (by omega) (by omega) (by omega) (res / x) rfl ?_
          refine lv_aload_n hx hb dX0_coprimes_51 rfl (lv_at hl 0 rfl) ?_
          refine pg_7 CF hK hP dX0_coprimes_52 ?_
          refine lv_iload_n hx hb dX0_coprimes_55 rfl (lv_at hl 2 rfl) ?_
          refine pl_f (x := x) CF hK hP (by omega) (hfL j x hx1) dX0_coprimes_56 ?_
          refine lv_iconst (v := nI 1) hx hb dX0_coprimes_57 (by decide) ?_
          refine pw_sub hx hb dX0_coprimes_58 (by omega) (x - 1) rfl ?_
          refine pw_mul hx hb dX0_coprimes_59 ((res / x) * (x - 1)) rfl ?_
          refine lv_istore_n (lv' := [(1, .int (nI ((res / x) * (x - 1)))), (0, .ref h0), (2, .int (nI j))]) hx hb dX0_coprimes_60 rfl hl (by decide) rfl (fun ls hl => ?_)
          refine lv_iinc (v := nI (j + 1)) (lv' := [(2, .int (nI (j + 1))), (1, .int (nI ((res / x) * (x - 1)))), (0, .ref h0)]) hx hb dX0_coprimes_61 hl (k := 2) rfl (pw_i1 _) (by decide) rfl (fun ls hl => ?_)
          refine lv_goto (tgt := 11) hx hb dX0_coprimes_64 (by decide) ?_
          exact ihlp ((res / x) * (x - 1)) (j + 1) ls (by omega) (by rw [hres]; exact pd_cp_new hL hx1 (fun h => absurd h (by omega))) (by omega) (lv_sub hl [2, 1, 0] rfl)
        · obtain ⟨y, hy1⟩ : ∃ v, L[(j - 1)]? = some v := ⟨_, List.getElem?_eq_getElem (show (j - 1) < L.length by omega)⟩
          have hyb := pd_el_le hL hn1 hy1
          refine lv_aload_n hx hb dX0_coprimes_23 rfl (lv_at hl 0 rfl) ?_
          refine pg_7 CF hK hP dX0_coprimes_24 ?_
          refine lv_iload_n hx hb dX0_coprimes_27 rfl (lv_at hl 2 rfl) ?_
          refine lv_iconst (v := nI 1) hx hb dX0_coprimes_28 (by decide) ?_
          refine pw_sub hx hb dX0_coprimes_29 (by omega) (j - 1) rfl ?_
          refine pl_f (x := y) CF hK hP (by omega) (hfL (j - 1) y hy1) dX0_coprimes_30 ?_
          refine lv_aload_n hx hb dX0_coprimes_31 rfl (lv_at hl 0 rfl) ?_
          refine pg_7 CF hK hP dX0_coprimes_32 ?_
          refine lv_iload_n hx hb dX0_coprimes_35 rfl (lv_at hl 2 rfl) ?_
          refine pl_f (x := x) CF hK hP (by omega) (hfL j x hx1) dX0_coprimes_36 ?_
          refine pw_icmp_ne (tgt := 43) hx hb dX0_coprimes_37 (by decide) (by omega) (by omega) (fun c37 => ?_) (fun c37 => ?_)
          · refine lv_iload_n hx hb dX0_coprimes_43 rfl (lv_at hl 1 rfl) ?_
            refine lv_aload_n hx hb dX0_coprimes_44 rfl (lv_at hl 0 rfl) ?_
            refine pg_7 CF hK hP dX0_coprimes_45 ?_
            refine lv_iload_n hx hb dX0_coprimes_48 rfl (lv_at hl 2 rfl) ?_
            refine pl_f (x := x) CF hK hP (by omega) (hfL j x hx1) dX0_coprimes_49 ?_
            refine pw_div hx hb dX0_coprimes_50 (by omega) (by omega) (by omega) (res / x) rfl ?_
            refine lv_aload_n hx hb dX0_coprimes_51 rfl (lv_at hl 0 rfl) ?_
            refine pg_7 CF hK hP dX0_coprimes_52 ?_
            refine lv_iload_n hx hb dX0_coprimes_55 rfl (lv_at hl 2 rfl) ?_
            refine pl_f (x := x) CF hK hP (by omega) (hfL j x hx1) dX0_coprimes_56 ?_
            refine lv_iconst (v := nI 1) hx hb dX0_coprimes_57 (by decide) ?_
            refine pw_sub hx hb dX0_coprimes_58 (by omega) (x - 1) rfl ?_
            refine pw_mul hx hb dX0_coprimes_59 ((res / x) * (x - 1)) rfl ?_
            refine lv_istore_n (lv' := [(1, .int (nI ((res / x) * (x - 1)))), (0, .ref h0), (2, .int (nI j))]) hx hb dX0_coprimes_60 rfl hl (by decide) rfl (fun ls hl => ?_)
            refine lv_iinc (v := nI (j + 1)) (lv' := [(2, .int (nI (j + 1))), (1, .int (nI ((res / x) * (x - 1)))), (0, .ref h0)]) hx hb dX0_coprimes_61 hl (k := 2) rfl (pw_i1 _) (by decide) rfl (fun ls hl => ?_)
            refine lv_goto (tgt := 11) hx hb dX0_coprimes_64 (by decide) ?_
            exact ihlp ((res / x) * (x - 1)) (j + 1) ls (by omega) (by rw [hres]; exact pd_cp_new hL hx1 (fun _ z h => by rw [hy1] at h; cases h; exact c37)) (by omega) (lv_sub hl [2, 1, 0] rfl)
          · refine lv_goto (tgt := 61) hx hb dX0_coprimes_40 (by decide) ?_
            refine lv_iinc (v := nI (j + 1)) (lv' := [(2, .int (nI (j + 1))), (0, .ref h0), (1, .int (nI res))]) hx hb dX0_coprimes_61 hl (k := 2) rfl (pw_i1 _) (by decide) rfl (fun ls hl => ?_)
            refine lv_goto (tgt := 11) hx hb dX0_coprimes_64 (by decide) ?_
            exact ihlp res (j + 1) ls (by omega) (by rw [hres]; exact pd_cp_same hL c20 hx1 (by rw [hy1, c37])) (by omega) (lv_sub hl [1, 2, 0] rfl)
  exact lp (L.length + 1) n 0 ls (by omega) (pd_cp_0 hL) (Nat.zero_le _) (lv_sub hl [2, 1, 0] rfl)
/-- X0.order  -/
abbrev rmX0_order : Room := { frames := 6, cells := 0, slots := 0, locals := 140 }
set_option maxHeartbeats 4000000 in
set_option maxRecDepth 100000 in
theorem metX0_order (l : Launch) (D : va_G) (d1 d2 : ClassId) (h0 fl pa : Nat) (hN : dkN h0 fl pa) (n : Nat) (L : List Nat) (hn1 : 1 ≤ n) (hnn : n ≤ 30000) (hL : pd_fact n L) (b v : Int32) (hv : ∀ i, 1 ≤ i → i ≤ 30000 → b = nI i → pd_os n i v) : pc_M l yX0_order (ws_ yX0_order cX0_order 5 (some .int)) rmX0_order D (dkT d1 d2) [.ref h0, .int b] (pd_dk D h0 fl pa d1 d2 n) (fun r => r = pd_vb 1 b v) (pd_dk D h0 fl pa d1 d2 n) (dkA h0 fl pa) := by
  refine pc_start (by decide) (Or.inl rfl) (Nat.le_of_ble_eq_true rfl) ?_
  intro p e s m args below meth c Q ls CF hK hG hl hret
  have hx := CF.1
  have hb := CF.2.1
  have hS : va_S (dkA h0 fl pa) s.heap s.heap [] := va_S.rf
  have hl : lv_has ls 5 [(0, .ref h0), (1, .int b)] := hl
  have hO := hG.ob
  refine lv_iload_n hx hb dX0_order_0 rfl (lv_at hl 1 rfl) ?_
  refine lv_iconst (v := nI 1) hx hb dX0_order_1 (by decide) ?_
  refine lv_icmp_lt (tgt := 12) hx hb dX0_order_2 (by decide) (fun c2 => ?_) (fun c2 => ?_)
  · refine lv_iconst (v := -1) hx hb dX0_order_12 (by decide) ?_
    exact hret _ _ _ _ _ dX0_order_13 ((pd_vb_lo c2).symm) (hG) hS
  · refine lv_iload_n hx hb dX0_order_5 rfl (lv_at hl 1 rfl) ?_
    refine lv_sipush (v := nI 30000) hx hb dX0_order_6 (by decide) ?_
    refine lv_icmp_le (tgt := 14) hx hb dX0_order_9 (by decide) (fun c9 => ?_) (fun c9 => ?_)
    · obtain ⟨i, i1, i2, rfl⟩ := pd_rg (lo := 1) (by decide) c2 (pd_le_nlt c9)
      rw [pd_vb_in i1 i2] at hret
      have hv := hv i i1 i2 rfl
      refine lv_aload_n hx hb dX0_order_14 rfl (lv_at hl 0 rfl) ?_
      refine pw_num CF hK hO dX0_order_15 ?_
      refine lv_iconst (v := nI 1) hx hb dX0_order_18 (by decide) ?_
      refine pw_icmp_eq (tgt := 35) hx hb dX0_order_19 (by decide) (by omega) (by omega) (fun c19 => ?_) (fun c19 => ?_)
      · refine lv_bipush (v := -2) hx hb dX0_order_35 (by decide) ?_
        exact hret _ _ _ _ _ dX0_order_37 (pd_os_no hv (Or.inl c19)) (hG) hS
      · refine lv_aload_n hx hb dX0_order_22 rfl (lv_at hl 0 rfl) ?_
        refine lv_iload_n hx hb dX0_order_23 rfl (lv_at hl 1 rfl) ?_
        refine lv_aload_n hx hb dX0_order_24 rfl (lv_at hl 0 rfl) ?_
        refine pw_num CF hK hO dX0_order_25 ?_
        refine callX0_commonDivisor CF ⟨by decide, by decide⟩ hK hO (by omega) (by omega) hl.1 (Nat.le_of_ble_eq_true rfl) dX0_order_28 ⟨Nat.zero_le _, Nat.zero_le _⟩ ?_
        refine lv_iconst (v := nI 1) hx hb dX0_order_31 (by decide) ?_
        refine pw_icmp_eq (tgt := 38) hx hb dX0_order_32 (by decide) (by have := Nat.gcd_le_right i (show 0 < n by omega); omega) (by omega) (fun c32 => ?_) (fun c32 => ?_)
        · obtain ⟨o, ho, ho2, ev⟩ := pd_os_yes hv c19 c32
          have hn2 : 2 ≤ n := by omega
          refine lv_aload_n hx hb dX0_order_38 rfl (lv_at hl 0 rfl) ?_
          refine pc_call (n := 0) CF (metX0_coprimes l D d1 d2 h0 fl pa hN n L hn1 hnn hL) (lw_V q127 q112 q113 q17 q114) rfl rfl (by decide +kernel) rfl ⟨by decide, by decide⟩ hK (hG.ob.recv hK) hG rfl hl.1 (Nat.le_of_ble_eq_true rfl) dX0_order_39 ⟨Nat.zero_le _, Nat.zero_le _⟩ hS (fun q h => h) (fun z H locs hz1 hG2 hz hk hS => ?_)
          rw [show z = nI (pd_phi n) from hz1]
          have hO := hG2.ob
          have hph := pd_phi_le n
          have hph0 := pd_phi_pos hn1
          have hod : o ∣ pd_phi n := (pd_ord_dvd hn2 ho).mp (pd_euler hn2 c32)
          refine lv_istore_n (lv' := [(2, .int (nI (pd_phi n))), (0, .ref h0), (1, .int (nI i))]) hx hb dX0_order_42 rfl hl (by decide) rfl (fun ls hl => ?_)
          refine lv_iload_n hx hb dX0_order_43 rfl (lv_at hl 0 rfl) ?_
          refine lv_istore_n (lv' := [(3, .int (nI (pd_phi n))), (2, .int (nI (pd_phi n))), (0, .ref h0), (1, .int (nI i))]) hx hb dX0_order_44 rfl hl (by decide) rfl (fun ls hl => ?_)
          refine lv_iconst (v := nI 2) hx hb dX0_order_45 (by decide) ?_
          refine lv_istore (lv' := [(4, .int (nI 2)), (3, .int (nI (pd_phi n))), (2, .int (nI (pd_phi n))), (0, .ref h0), (1, .int (nI i))]) hx hb dX0_order_46 hl (by decide) rfl (fun ls hl => ?_)
          have lp : ∀ (k : Nat) (res rest pp : Nat) (ls : Array Slot), (30002 - pp < k) → (0 < res) → (res ≤ 30000) → (0 < rest) → (o ∣ res) → (res / o ∣ rest) → (rest ∣ res) → (2 ≤ pp) → (pp ≤ 30001) → (∀ d, 2 ≤ d → d < pp → ¬ rest % d = 0) → lv_has ls 5 [(0, .ref h0), (1, .int (nI i)), (2, .int (nI res)), (3, .int (nI rest)), (4, .int (nI pp))] → W p l e rmX0_order s m args below meth c H locs 0 0 Q (F0 m 48 ls []) := by
            intro k
            induction k with
            | zero =>
              intro res rest pp ls hm
              exact absurd hm (Nat.not_lt_zero _)
            | succ k ihlp =>
              intro res rest pp ls hm q1 q2 q3 q4 q5 q6 hp2 hpb hl2 hl
              have hrr : rest ≤ res := Nat.le_of_dvd q1 q6
              refine lv_iload_n hx hb dX0_order_48 rfl (lv_at hl 3 rfl) ?_
              refine lv_iconst (v := nI 1) hx hb dX0_order_49 (by decide) ?_
              refine pw_icmp_le (tgt := 108) hx hb dX0_order_50 (by decide) (by omega) (by omega) (fun c50 => ?_) (fun c50 => ?_)
              · refine lv_iload_n hx hb dX0_order_108 rfl (lv_at hl 2 rfl) ?_
                exact hret _ _ _ _ _ dX0_order_109 (by rw [ev, pd_ord_end ho.1 q4 (by rw [show rest = 1 by omega] at q5; exact q5)]) (hG2) hS
              · have hge := pd_ge c50 hl2
                refine lv_iload hx hb dX0_order_53 (lv_at hl 4 rfl) ?_
                refine lv_iload hx hb dX0_order_55 (lv_at hl 4 rfl) ?_
                refine pw_mul hx hb dX0_order_57 (pp * pp) rfl ?_
                refine lv_iload_n hx hb dX0_order_58 rfl (lv_at hl 3 rfl) ?_
                refine pw_icmp_le (tgt := 65) hx hb dX0_order_59 (by decide) (pw_sq (by omega)) (by omega) (fun c59 => ?_) (fun c59 => ?_)
                · have hl3 := hl2
                  have hP2 : 2 ≤ pp := by omega
                  have hPr : pp ≤ rest := by omega
                  have hPp : pp ≤ pp := by omega
                  have lq : ∀ (g : Nat) (rs rt : Nat) (ls : Array Slot), (rt < g) → (0 < rs) → (rs ≤ 30000) → (0 < rt) → (o ∣ rs) → (rs / o ∣ rt) → (rt ∣ rs) → (∀ d, 2 ≤ d → d < pp → ¬ rt % d = 0) → lv_has ls 5 [(0, .ref h0), (1, .int (nI i)), (2, .int (nI rs)), (3, .int (nI rt)), (4, .int (nI pp))] → W p l e rmX0_order s m args below meth c H locs 0 0 Q (F0 m 65 ls []) := by
                    intro g
                    induction g with
                    | zero =>
                      intro rs rt ls hm
                      exact absurd hm (Nat.not_lt_zero _)
                    | succ g ihlq =>
                      intro rs rt ls hm q1 q2 q3 q4 q5 q6 il hl
                      have hrr2 : rt ≤ rs := Nat.le_of_dvd q1 q6
                      refine lv_iload_n hx hb dX0_order_65 rfl (lv_at hl 3 rfl) ?_
                      refine lv_iload hx hb dX0_order_66 (lv_at hl 4 rfl) ?_
                      refine pw_rem hx hb dX0_order_68 (by omega) (by omega) (by omega) (rt % pp) rfl ?_
                      refine pw_if_ne (tgt := 102) hx hb dX0_order_69 (by decide) (Nat.lt_of_le_of_lt (Nat.mod_le _ _) (by omega)) (fun c69 => ?_) (fun c69 => ?_)
                      · refine lv_iinc (v := nI (pp + 1)) (lv' := [(4, .int (nI (pp + 1))), (0, .ref h0), (1, .int (nI i)), (2, .int (nI rs)), (3, .int (nI rt))]) hx hb dX0_order_102 hl (k := 4) rfl (pw_i1 _) (by decide) rfl (fun ls hl => ?_)
                        refine lv_goto (tgt := 48) hx hb dX0_order_105 (by decide) ?_
                        exact ihlp rs rt (pp + 1) ls (by omega) (q1) (q2) (q3) (q4) (q5) (q6) (by omega) (by omega) (pd_nodiv_s il c69) (lv_sub hl [1, 2, 3, 4, 0] rfl)
                      · have hPpr : pd_pr pp := pd_least_pr hP2 (Nat.dvd_of_mod_eq_zero c69) il
                        have hst := pd_ord_step hn2 ho hPpr c69 q3 q1 q4 q5 q6
                        have hdl := Nat.div_le_self rs pp
                        refine lv_iload_n hx hb dX0_order_72 rfl (lv_at hl 3 rfl) ?_
                        refine lv_iload hx hb dX0_order_73 (lv_at hl 4 rfl) ?_
                        refine pw_div hx hb dX0_order_75 (by omega) (by omega) (by omega) (rt / pp) rfl ?_
                        refine lv_istore_n (lv' := [(3, .int (nI (rt / pp))), (0, .ref h0), (1, .int (nI i)), (2, .int (nI rs)), (4, .int (nI pp))]) hx hb dX0_order_76 rfl hl (by decide) rfl (fun ls hl => ?_)
                        refine lv_aload_n hx hb dX0_order_77 rfl (lv_at hl 1 rfl) ?_
                        refine lv_iload_n hx hb dX0_order_78 rfl (lv_at hl 2 rfl) ?_
                        refine lv_iload_n hx hb dX0_order_79 rfl (lv_at hl 3 rfl) ?_
                        refine lv_iload hx hb dX0_order_80 (lv_at hl 4 rfl) ?_
                        refine pw_div hx hb dX0_order_82 (by omega) (by omega) (by omega) (rs / pp) rfl ?_
                        refine lv_aload_n hx hb dX0_order_83 rfl (lv_at hl 1 rfl) ?_
                        refine pw_num CF hK hO dX0_order_84 ?_
                        refine callX0_powerRest CF ⟨by decide, by decide⟩ hK hO (by omega) (by omega) (by omega) (by omega) hl.1 (Nat.le_of_ble_eq_true rfl) dX0_order_87 ⟨Nat.zero_le _, Nat.zero_le _⟩ ?_
                        refine lv_iconst (v := nI 1) hx hb dX0_order_90 (by decide) ?_
                        refine pw_icmp_ne (tgt := 65) hx hb dX0_order_91 (by decide) (by have := Nat.mod_lt (i ^ (rs / pp)) (show 0 < n by omega); omega) (by omega) (fun c91 => ?_) (fun c91 => ?_)
                        · exact ihlq rs (rt / pp) ls (by have := Nat.div_lt_self q3 hP2; omega) (q1) (q2) (hst.1) (q4) ((hst.2.2.2.2 c91).1) ((hst.2.2.2.2 c91).2) (pd_nodiv_d il hst.2.2.1) (lv_sub hl [1, 2, 3, 0, 4] rfl)
                        · refine lv_iload_n hx hb dX0_order_94 rfl (lv_at hl 3 rfl) ?_
                          refine lv_iload hx hb dX0_order_95 (lv_at hl 4 rfl) ?_
                          refine pw_div hx hb dX0_order_97 (by omega) (by omega) (by omega) (rs / pp) rfl ?_
                          refine lv_istore_n (lv' := [(2, .int (nI (rs / pp))), (3, .int (nI (rt / pp))), (0, .ref h0), (1, .int (nI i)), (4, .int (nI pp))]) hx hb dX0_order_98 rfl hl (by decide) rfl (fun ls hl => ?_)
                          refine lv_goto (tgt := 65) hx hb dX0_order_99 (by decide) ?_
                          exact ihlq (rs / pp) (rt / pp) ls (by have := Nat.div_lt_self q3 hP2; omega) (hst.2.1) (by omega) (hst.1) ((hst.2.2.2.1 c91).1) ((hst.2.2.2.1 c91).2.1) ((hst.2.2.2.1 c91).2.2) (pd_nodiv_d il hst.2.2.1) (lv_sub hl [2, 3, 0, 1, 4] rfl)
                  exact lq (rest + 1) res rest ls (Nat.lt_succ_self _) (q1) (q2) (q3) (q4) (q5) (q6) (hl3) (lv_sub hl [0, 1, 2, 3, 4] rfl)
                · refine lv_iload_n hx hb dX0_order_62 rfl (lv_at hl 3 rfl) ?_
                  refine lv_istore (lv' := [(4, .int (nI rest)), (0, .ref h0), (1, .int (nI i)), (2, .int (nI res)), (3, .int (nI rest))]) hx hb dX0_order_63 hl (by decide) rfl (fun ls hl => ?_)
                  have hl3 : ∀ d, 2 ≤ d → d < rest → ¬ rest % d = 0 := (pd_sqrt_pr c50 c59 hl2).2
                  have hP2 : 2 ≤ rest := by omega
                  have hPr : rest ≤ rest := by omega
                  have hPp : pp ≤ rest := by omega
                  have lq : ∀ (g : Nat) (rs rt : Nat) (ls : Array Slot), (rt < g) → (0 < rs) → (rs ≤ 30000) → (0 < rt) → (o ∣ rs) → (rs / o ∣ rt) → (rt ∣ rs) → (∀ d, 2 ≤ d → d < rest → ¬ rt % d = 0) → lv_has ls 5 [(0, .ref h0), (1, .int (nI i)), (2, .int (nI rs)), (3, .int (nI rt)), (4, .int (nI rest))] → W p l e rmX0_order s m args below meth c H locs 0 0 Q (F0 m 65 ls []) := by
                    intro g
                    induction g with
                    | zero =>
                      intro rs rt ls hm
                      exact absurd hm (Nat.not_lt_zero _)
                    | succ g ihlq =>
                      intro rs rt ls hm q1 q2 q3 q4 q5 q6 il hl
                      have hrr2 : rt ≤ rs := Nat.le_of_dvd q1 q6
                      refine lv_iload_n hx hb dX0_order_65 rfl (lv_at hl 3 rfl) ?_
                      refine lv_iload hx hb dX0_order_66 (lv_at hl 4 rfl) ?_
                      refine pw_rem hx hb dX0_order_68 (by omega) (by omega) (by omega) (rt % rest) rfl ?_
                      refine pw_if_ne (tgt := 102) hx hb dX0_order_69 (by decide) (Nat.lt_of_le_of_lt (Nat.mod_le _ _) (by omega)) (fun c69 => ?_) (fun c69 => ?_)
                      · refine lv_iinc (v := nI (rest + 1)) (lv' := [(4, .int (nI (rest + 1))), (0, .ref h0), (1, .int (nI i)), (2, .int (nI rs)), (3, .int (nI rt))]) hx hb dX0_order_102 hl (k := 4) rfl (pw_i1 _) (by decide) rfl (fun ls hl => ?_)
                        refine lv_goto (tgt := 48) hx hb dX0_order_105 (by decide) ?_
                        exact ihlp rs rt (rest + 1) ls (by omega) (q1) (q2) (q3) (q4) (q5) (q6) (by omega) (by omega) (pd_nodiv_s il c69) (lv_sub hl [1, 2, 3, 4, 0] rfl)
                      · have hPpr : pd_pr rest := pd_least_pr hP2 (Nat.dvd_of_mod_eq_zero c69) il
                        have hst := pd_ord_step hn2 ho hPpr c69 q3 q1 q4 q5 q6
                        have hdl := Nat.div_le_self rs rest
                        refine lv_iload_n hx hb dX0_order_72 rfl (lv_at hl 3 rfl) ?_
                        refine lv_iload hx hb dX0_order_73 (lv_at hl 4 rfl) ?_
                        refine pw_div hx hb dX0_order_75 (by omega) (by omega) (by omega) (rt / rest) rfl ?_
                        refine lv_istore_n (lv' := [(3, .int (nI (rt / rest))), (0, .ref h0), (1, .int (nI i)), (2, .int (nI rs)), (4, .int (nI rest))]) hx hb dX0_order_76 rfl hl (by decide) rfl (fun ls hl => ?_)
                        refine lv_aload_n hx hb dX0_order_77 rfl (lv_at hl 1 rfl) ?_
                        refine lv_iload_n hx hb dX0_order_78 rfl (lv_at hl 2 rfl) ?_
                        refine lv_iload_n hx hb dX0_order_79 rfl (lv_at hl 3 rfl) ?_
                        refine lv_iload hx hb dX0_order_80 (lv_at hl 4 rfl) ?_
                        refine pw_div hx hb dX0_order_82 (by omega) (by omega) (by omega) (rs / rest) rfl ?_
                        refine lv_aload_n hx hb dX0_order_83 rfl (lv_at hl 1 rfl) ?_
                        refine pw_num CF hK hO dX0_order_84 ?_
                        refine callX0_powerRest CF ⟨by decide, by decide⟩ hK hO (by omega) (by omega) (by omega) (by omega) hl.1 (Nat.le_of_ble_eq_true rfl) dX0_order_87 ⟨Nat.zero_le _, Nat.zero_le _⟩ ?_
                        refine lv_iconst (v := nI 1) hx hb dX0_order_90 (by decide) ?_
                        refine pw_icmp_ne (tgt := 65) hx hb dX0_order_91 (by decide) (by have := Nat.mod_lt (i ^ (rs / rest)) (show 0 < n by omega); omega) (by omega) (fun c91 => ?_) (fun c91 => ?_)
                        · exact ihlq rs (rt / rest) ls (by have := Nat.div_lt_self q3 hP2; omega) (q1) (q2) (hst.1) (q4) ((hst.2.2.2.2 c91).1) ((hst.2.2.2.2 c91).2) (pd_nodiv_d il hst.2.2.1) (lv_sub hl [1, 2, 3, 0, 4] rfl)
                        · refine lv_iload_n hx hb dX0_order_94 rfl (lv_at hl 3 rfl) ?_
                          refine lv_iload hx hb dX0_order_95 (lv_at hl 4 rfl) ?_
                          refine pw_div hx hb dX0_order_97 (by omega) (by omega) (by omega) (rs / rest) rfl ?_
                          refine lv_istore_n (lv' := [(2, .int (nI (rs / rest))), (3, .int (nI (rt / rest))), (0, .ref h0), (1, .int (nI i)), (4, .int (nI rest))]) hx hb dX0_order_98 rfl hl (by decide) rfl (fun ls hl => ?_)
                          refine lv_goto (tgt := 65) hx hb dX0_order_99 (by decide) ?_
                          exact ihlq (rs / rest) (rt / rest) ls (by have := Nat.div_lt_self q3 hP2; omega) (hst.2.1) (by omega) (hst.1) ((hst.2.2.2.1 c91).1) ((hst.2.2.2.1 c91).2.1) ((hst.2.2.2.1 c91).2.2) (pd_nodiv_d il hst.2.2.1) (lv_sub hl [2, 3, 0, 1, 4] rfl)
                  exact lq (rest + 1) res rest ls (Nat.lt_succ_self _) (q1) (q2) (q3) (q4) (q5) (q6) (hl3) (lv_sub hl [1, 2, 3, 4, 0] rfl)
          exact lp 30002 (pd_phi n) (pd_phi n) 2 ls (by omega) (by omega) (by omega) (by omega) (hod) (Nat.div_dvd_of_dvd hod) (Nat.dvd_refl _) (by omega) (by omega) (fun d a b => by omega) (lv_sub hl [3, 4, 2, 1, 0] rfl)
        · refine lv_bipush (v := -2) hx hb dX0_order_35 (by decide) ?_
          exact hret _ _ _ _ _ dX0_order_37 (pd_os_no hv (Or.inr c32)) (hG) hS
    · refine lv_iconst (v := -1) hx hb dX0_order_12 (by decide) ?_
      exact hret _ _ _ _ _ dX0_order_13 ((pd_vb_hi (pd_nle c9)).symm) (hG) hS
end
section
/-! take, of both classes; the constructors -/
/-- X0.take  -/
abbrev rmX0_take : Room := { frames := 0, cells := 0, slots := 0, locals := 0 }
set_option maxHeartbeats 4000000 in
set_option maxRecDepth 100000 in
theorem metX0_take_out (l : Launch) (D : va_G) (d1 d2 : ClassId) (h0 fl pa : Nat) (hN : dkN h0 fl pa) (n : Nat) (x : Int32) (hout : x < nI 1 ∨ nI 30000 < x) : pc_M l yX0_take (ws_ yX0_take cX0_take 2 (some .boolean)) rmX0_take D (dkT d1 d2) [.ref h0, .int x] (pd_dk D h0 fl pa d1 d2 n) (fun r => (r = nI 1 ∧ False) ∨ (r = nI 0 ∧ True)) (pd_dk D h0 fl pa d1 d2 n) (dkA h0 fl pa) := by
  refine pc_start (by decide) (Or.inr ⟨rfl, fun r h => pw_01 h⟩) (Nat.le_of_ble_eq_true rfl) ?_
  intro p e s m args below meth c Q ls CF hK hG hl hret
  have hx := CF.1
  have hb := CF.2.1
  have hS : va_S (dkA h0 fl pa) s.heap s.heap [] := va_S.rf
  have hl : lv_has ls 2 [(0, .ref h0), (1, .int x)] := hl
  refine lv_iload_n hx hb dX0_take_0 rfl (lv_at hl 1 rfl) ?_
  refine lv_iconst (v := nI 1) hx hb dX0_take_1 (by decide) ?_
  refine lv_icmp_lt (tgt := 12) hx hb dX0_take_2 (by decide) (fun c2 => ?_) (fun c2 => ?_)
  · refine lv_iconst (v := nI 0) hx hb dX0_take_12 (by decide) ?_
    exact hret _ _ _ _ _ dX0_take_13 (Or.inr ⟨rfl, trivial⟩) (hG) hS
  · refine lv_iload_n hx hb dX0_take_5 rfl (lv_at hl 1 rfl) ?_
    refine lv_sipush (v := nI 30000) hx hb dX0_take_6 (by decide) ?_
    refine lv_icmp_le (tgt := 14) hx hb dX0_take_9 (by decide) (fun c9 => absurd hout (fun h => h.elim c2 (pd_le_nlt c9))) (fun c9 => ?_)
    refine lv_iconst (v := nI 0) hx hb dX0_take_12 (by decide) ?_
    exact hret _ _ _ _ _ dX0_take_13 (Or.inr ⟨rfl, trivial⟩) (hG) hS
set_option maxHeartbeats 4000000 in
set_option maxRecDepth 100000 in
theorem metX0_take_in (l : Launch) (D : va_G) (d1 d2 : ClassId) (h0 fl pa : Nat) (hN : dkN h0 fl pa) (n i : Nat) (i1 : 1 ≤ i) (i2 : i ≤ 30000) : pc_M l yX0_take (ws_ yX0_take cX0_take 2 (some .boolean)) rmX0_take D (dkT d1 d2) [.ref h0, .int (nI i)] (pd_dk D h0 fl pa d1 d2 n) (fun r => (r = nI 1 ∧ True) ∨ (r = nI 0 ∧ False)) (pd_dk D h0 fl pa d1 d2 i) (dkA h0 fl pa) := by
  refine pc_start (by decide) (Or.inr ⟨rfl, fun r h => pw_01 h⟩) (Nat.le_of_ble_eq_true rfl) ?_
  intro p e s m args below meth c Q ls CF hK hG hl hret
  have hx := CF.1
  have hb := CF.2.1
  have hS : va_S (dkA h0 fl pa) s.heap s.heap [] := va_S.rf
  have hl : lv_has ls 2 [(0, .ref h0), (1, .int (nI i))] := hl
  obtain ⟨sp, fc, pt, f0, g0, hP, hsp⟩ := hG
  refine lv_iload_n hx hb dX0_take_0 rfl (lv_at hl 1 rfl) ?_
  refine lv_iconst (v := nI 1) hx hb dX0_take_1 (by decide) ?_
  refine pw_icmp_lt (tgt := 12) hx hb dX0_take_2 (by decide) (by omega) (by omega) (fun c2 => absurd c2 (by omega)) (fun c2 => ?_)
  refine lv_iload_n hx hb dX0_take_5 rfl (lv_at hl 1 rfl) ?_
  refine lv_sipush (v := nI 30000) hx hb dX0_take_6 (by decide) ?_
  refine pw_icmp_le (tgt := 14) hx hb dX0_take_9 (by decide) (by omega) (by omega) (fun c9 => ?_) (fun c9 => absurd c9 (by omega))
  refine lv_aload_n hx hb dX0_take_14 rfl (lv_at hl 0 rfl) ?_
  refine lv_iload_n hx hb dX0_take_15 rfl (lv_at hl 1 rfl) ?_
  refine ps_16 i CF hK hP hN (fun q h => h) hS dX0_take_16 (fun H locs hP hS => ?_)
  refine lv_aload_n hx hb dX0_take_19 rfl (lv_at hl 0 rfl) ?_
  refine lv_iconst (v := nI 0) hx hb dX0_take_20 (by decide) ?_
  refine ps_20 0 (Or.inl rfl) CF hK hP hN (fun q h => h) hS dX0_take_21 (fun H locs hP hS => ?_)
  refine lv_iconst (v := nI 1) hx hb dX0_take_24 (by decide) ?_
  exact hret _ _ _ _ _ dX0_take_25 (Or.inl ⟨rfl, trivial⟩) (⟨_, _, _, _, _, hP, Or.inl rfl⟩) hS
abbrev rmX1_take : Room := { frames := 0, cells := 0, slots := 0, locals := 0 }
theorem ps_hand {p : Program} {l : Launch} {e : Env} {R : Room} {s : State} {m : MethodId} {args : Array Value} {below : List Frame} {meth : Method} {c : Code} {H : Heap} {locs : List Loc} {cells slots : Nat} {Q : State → Prop} {cc : ByteArray} {pc nL : Nat} {ls : Array Slot} {rest : List Value} {D : va_G} {H0 : Heap} {tys : List (ClassId × FieldType)} {h0 : Nat} {v0 : Int32} (x : Nat) (CF : CallFix p m c cc nL s args lw_all RX1) (hK : va_K D vwCl tys s) (hP : va_P D vwCl [(h0, .inr (1, [.int v0]))] H) (hS : va_S (fun q => q = h0) H0 H locs) (hdg : decode cc pc = .ok (.putfield 7, 3))
    (kk : ∀ (H1 : Heap) (locs1 : List Loc), pd_md D h0 x H1 → va_S (fun q => q = h0) H0 H1 locs1 → W p l e R s m args below meth c H1 locs1 cells slots Q (F0 m (pc + 3) ls rest)) : W p l e R s m args below meth c H locs cells slots Q (F0 m pc ls (.int (nI x) :: .ref h0 :: rest)) := by
  have hD : va_D (fun q => q = h0) [(h0, .inr (1, [.int v0]))] := by
    refine ⟨fun i j x y hi hj e => ?_, fun k x hk => ?_⟩
    · match i, j, hi, hj with
      | 0, 0, _, _ => rfl
      | i + 1, _, hi, _ => cases hi
      | 0, j + 1, _, hj => cases hj
    · match k, hk with
      | 0, hk => cases hk; rfl
      | k + 1, hk => cases hk
  exact va_put (D := D) (ci := 1) (v := .int (nI x)) (ty := .int) (C := RX1) (T := TX1) (N := 1) CF.1 CF.2.1 CF.2.2.2.2 in_X1 tyX1 tyX1_ok nmX1 CF.2.2.2.1 hK hP hD hS 0 rfl rfl 0 (by decide) (CF.2.2.2.2 _ q154) (fun _ h9 => h9) rfl (by decide +kernel) rfl rfl (Nat.le_of_ble_eq_true rfl) hdg (fun H1 locs1 hP1 _ hS1 => kk H1 locs1 hP1 hS1)
set_option maxHeartbeats 4000000 in
set_option maxRecDepth 100000 in
theorem metX1_take_out (l : Launch) (D : va_G) (tys : List (ClassId × FieldType)) (h0 : Nat) (n : Nat) (x : Int32) (hout : x < nI 1 ∨ nI 30000 < x) : pc_M l yX1_take (ws_ yX1_take cX1_take 2 (some .boolean)) rmX1_take D tys [.ref h0, .int x] (pd_md D h0 n) (fun r => (r = nI 1 ∧ False) ∨ (r = nI 0 ∧ True)) (pd_md D h0 n) (fun q => q = h0) := by
  refine pc_start (by decide) (Or.inr ⟨rfl, fun r h => pw_01 h⟩) (Nat.le_of_ble_eq_true rfl) ?_
  intro p e s m args below meth c Q ls CF hK hG hl hret
  have hx := CF.1
  have hb := CF.2.1
  have hS : va_S (fun q => q = h0) s.heap s.heap [] := va_S.rf
  have hl : lv_has ls 2 [(0, .ref h0), (1, .int x)] := hl
  refine lv_iload_n hx hb dX1_take_0 rfl (lv_at hl 1 rfl) ?_
  refine lv_iconst (v := nI 1) hx hb dX1_take_1 (by decide) ?_
  refine lv_icmp_lt (tgt := 12) hx hb dX1_take_2 (by decide) (fun c2 => ?_) (fun c2 => ?_)
  · refine lv_iconst (v := nI 0) hx hb dX1_take_12 (by decide) ?_
    exact hret _ _ _ _ _ dX1_take_13 (Or.inr ⟨rfl, trivial⟩) (hG) hS
  · refine lv_iload_n hx hb dX1_take_5 rfl (lv_at hl 1 rfl) ?_
    refine lv_sipush (v := nI 30000) hx hb dX1_take_6 (by decide) ?_
    refine lv_icmp_le (tgt := 14) hx hb dX1_take_9 (by decide) (fun c9 => absurd hout (fun h => h.elim c2 (pd_le_nlt c9))) (fun c9 => ?_)
    refine lv_iconst (v := nI 0) hx hb dX1_take_12 (by decide) ?_
    exact hret _ _ _ _ _ dX1_take_13 (Or.inr ⟨rfl, trivial⟩) (hG) hS
set_option maxHeartbeats 4000000 in
set_option maxRecDepth 100000 in
theorem metX1_take_in (l : Launch) (D : va_G) (tys : List (ClassId × FieldType)) (h0 : Nat) (n i : Nat) (i1 : 1 ≤ i) (i2 : i ≤ 30000) : pc_M l yX1_take (ws_ yX1_take cX1_take 2 (some .boolean)) rmX1_take D tys [.ref h0, .int (nI i)] (pd_md D h0 n) (fun r => (r = nI 1 ∧ True) ∨ (r = nI 0 ∧ False)) (pd_md D h0 i) (fun q => q = h0) := by
  refine pc_start (by decide) (Or.inr ⟨rfl, fun r h => pw_01 h⟩) (Nat.le_of_ble_eq_true rfl) ?_
  intro p e s m args below meth c Q ls CF hK hG hl hret
  have hx := CF.1
  have hb := CF.2.1
  have hS : va_S (fun q => q = h0) s.heap s.heap [] := va_S.rf
  have hl : lv_has ls 2 [(0, .ref h0), (1, .int (nI i))] := hl
  refine lv_iload_n hx hb dX1_take_0 rfl (lv_at hl 1 rfl) ?_
  refine lv_iconst (v := nI 1) hx hb dX1_take_1 (by decide) ?_
  refine pw_icmp_lt (tgt := 12) hx hb dX1_take_2 (by decide) (by omega) (by omega) (fun c2 => absurd c2 (by omega)) (fun c2 => ?_)
  refine lv_iload_n hx hb dX1_take_5 rfl (lv_at hl 1 rfl) ?_
  refine lv_sipush (v := nI 30000) hx hb dX1_take_6 (by decide) ?_
  refine pw_icmp_le (tgt := 14) hx hb dX1_take_9 (by decide) (by omega) (by omega) (fun c9 => ?_) (fun c9 => absurd c9 (by omega))
  refine lv_aload_n hx hb dX1_take_14 rfl (lv_at hl 0 rfl) ?_
  refine lv_iload_n hx hb dX1_take_15 rfl (lv_at hl 1 rfl) ?_
  refine ps_hand i CF hK hG hS dX1_take_16 (fun H locs hG hS => ?_)
  refine lv_iconst (v := nI 1) hx hb dX1_take_19 (by decide) ?_
  exact hret _ _ _ _ _ dX1_take_20 (Or.inl ⟨rfl, trivial⟩) (hG) hS
abbrev rmX1_init : Room := { frames := 1, cells := 0, slots := 0, locals := 12 }
set_option maxHeartbeats 4000000 in
set_option maxRecDepth 100000 in
theorem metX1_init (l : Launch) (D : va_G) (tys : List (ClassId × FieldType)) (h0 : Nat) : pc_Mv l yX1_init (ws_ yX1_init cX1_init 1 none) rmX1_init D tys [.ref h0] (fun h => va_P D vwCl [(h0, .inr (1, [.int 0]))] h) (pd_md D h0 1) (fun q => q = h0) := by
  refine pc_startv (by decide) (Nat.le_of_ble_eq_true rfl) ?_
  intro p e s m args below meth c Q ls CF hK hG hl hret
  have hx := CF.1
  have hb := CF.2.1
  have hts := CF.2.2.2.2
  have hS : va_S (fun q => q = h0) s.heap s.heap [] := va_S.rf
  have hl : lv_has ls 1 [(0, .ref h0)] := hl
  refine lv_aload_n hx hb dX1_init_0 rfl (lv_at hl 0 rfl) ?_
  refine W.objInit hx hb CF.2.2.2.1 (hts _ q153) (hts _ q25) (hts _ q26) rfl (by rw [CF.2.2.1]; exact hl.1) rfl dX1_init_1 (Nat.le_of_ble_eq_true rfl) (Nat.le_of_ble_eq_true rfl) ?_
  refine W.eq (g2 := F0 m 4 ls []) rfl ?_
  refine lv_aload_n hx hb dX1_init_4 rfl (lv_at hl 0 rfl) ?_
  refine lv_iconst (v := nI 1) hx hb dX1_init_5 (by decide) ?_
  refine ps_hand 1 CF hK hG hS dX1_init_6 (fun H locs hG hS => ?_)
  exact hret _ _ _ _ dX1_init_9 hG hS
/-! the desk's constructor -/
def ikA (h0 sz : Nat) : Nat → Prop := fun q => q = h0 ∨ sz ≤ q
def ik_B (D : va_G) (h0 sz : Nat) (u : Nat × Nat × ClassId × ClassId) (t : State) : Prop := va_P D vwCl (dkW h0 u.1 u.2.1 u.2.2.1 u.2.2.2 1 0 0 0 (fun _ => 0) (fun _ => 0)) t.heap ∧ va_K D vwCl (dkT u.2.2.1 u.2.2.2) t ∧ dkN h0 u.1 u.2.1 ∧ sz ≤ u.1 ∧ sz ≤ u.2.1
abbrev rmX0_init : Room := { frames := 1, cells := 2, slots := 40, locals := 12 }
set_option maxHeartbeats 4000000 in
set_option maxRecDepth 100000 in
theorem metX0_init (l : Launch) (D : va_G) (h0 sz : Nat) : Met l yX0_init (ws_ yX0_init cX0_init 1 none) rmX0_init (va_Pc [.ref h0] (fun U => U.heap.size = sz ∧ va_P D vwCl [(h0, .inr (0, [.int 0, .int 0, .int 0, .null, .int 0, .null]))] U.heap ∧ va_K D vwCl [] U)) (va_Qv (fun _ => True) (ik_B D h0 sz) (ikA h0 sz)) 2 40 (ikA h0 sz) := by
  refine Met.ofW (cc := cX0_init) (maxL := 1) (ret := none) (by decide) rfl ?_
  intro p e s m args below meth c s₁ B hml hv
  obtain ⟨rfl, hsz, hP, hK⟩ := hv
  have hx := B.exec
  have hb := B.bytes
  have hr := B.returns
  have hts := atoms_spec (ws := ws_ yX0_init cX0_init 1 none) B.pre
  have hts : ∀ w ∈ lw_all, w.before _ s = true := fun w h => hts w (List.mem_cons_of_mem _ h)
  have hown : s.vm.findClass RX0 = some m.cls := findClass_of_methodNamed B.named
  have hlocks := B.notSynchronized
  have hin : meth.name = "<init>" := (name_of_methodNamed B.named B.method).1
  subst hsz
  have hh0 : h0 < s.heap.size := (hP 0 _ rfl).lt
  have hD : va_D (ikA h0 s.heap.size) [(h0, .inr (0, [.int 0, .int 0, .int 0, .null, .int 0, .null]))] := by
    refine ⟨fun i j x y hi hj e => ?_, fun k x hk => ?_⟩
    · match i, j, hi, hj with
      | 0, 0, _, _ => rfl
      | i + 1, _, hi, _ => cases hi
      | 0, j + 1, _, hj => cases hj
    · match k, hk with
      | 0, hk => cases hk; exact Or.inl rfl
      | k + 1, hk => cases hk
  have hA : ∀ q : Nat, s.heap.size ≤ q → ikA h0 s.heap.size q := fun q h => Or.inr h
  have hS : va_S (ikA h0 s.heap.size) s.heap s.heap [] := va_S.rf
  have hl := lv_entry ([.ref h0]) (n := 1) (Nat.le_of_ble_eq_true rfl)
  rw [lg_entry_eq]
  generalize (lg_sl ([.ref h0]) ++ List.replicate (1 - (lg_sl ([.ref h0])).length) Slot.unset).toArray = ls at hl ⊢
  have hl : lv_has ls 1 [(0, .ref h0)] := hl
  refine lv_aload_n hx hb dX0_init_0 rfl (lv_at hl 0 rfl) ?_
  refine W.objInit hx hb hown (hts _ q24) (hts _ q25) (hts _ q26) rfl (by rw [hml]; exact hl.1) rfl dX0_init_1 (Nat.le_of_ble_eq_true rfl) (Nat.le_of_ble_eq_true rfl) ?_
  refine W.eq (g2 := F0 m 4 ls []) rfl ?_
  refine lv_aload_n hx hb dX0_init_4 rfl (lv_at hl 0 rfl) ?_
  refine lv_bipush (v := nI 20) hx hb dX0_init_5 (by decide) ?_
  refine va_newa (atype := .int) (a0 := (20, .inl (fun _ => 0))) (N' := 20) (ty := .int) hx hb (hts _ q46) rfl hK hP hD hS hA (fun _ => rfl) (by decide) (by decide) (by decide) (Nat.le_of_ble_eq_true rfl) (Nat.le_of_ble_eq_true rfl) dX0_init_7 (fun fl d1 H hK hP hD hS => ?_)
  have hP : va_P D vwCl [(h0, .inr (0, [.int 0, .int 0, .int 0, .null, .int 0, .null])), (fl, .inl (d1, 20, .inl (fun _ => 0)))] H := hP
  have hD : va_D (ikA h0 s.heap.size) [(h0, .inr (0, [.int 0, .int 0, .int 0, .null, .int 0, .null])), (fl, .inl (d1, 20, .inl (fun _ => 0)))] := hD
  refine va_putF (D := D) (ci := 0) (v := .ref fl) (ty := .array .int) (C := RX0) (T := TX0) (N := 6) hx hb hts in_X0 tyX0 tyX0_ok nmX0 hown hK hP hD hS 0 rfl rfl 3 (by decide) (hts _ q30) (fun _ h9 => h9) rfl hin rfl (by decide +kernel) rfl rfl (Nat.le_of_ble_eq_true rfl) dX0_init_9 (fun H locs hP hD hS => ?_)
  have hP : va_P D vwCl [(h0, .inr (0, [.int 0, .int 0, .int 0, .ref fl, .int 0, .null])), (fl, .inl (d1, 20, .inl (fun _ => 0)))] H := hP
  have hD : va_D (ikA h0 s.heap.size) [(h0, .inr (0, [.int 0, .int 0, .int 0, .ref fl, .int 0, .null])), (fl, .inl (d1, 20, .inl (fun _ => 0)))] := hD
  refine lv_aload_n hx hb dX0_init_12 rfl (lv_at hl 0 rfl) ?_
  refine lv_bipush (v := nI 20) hx hb dX0_init_13 (by decide) ?_
  refine va_newa (atype := .int) (a0 := (20, .inl (fun _ => 0))) (N' := 20) (ty := .int) hx hb (hts _ q46) rfl hK hP hD hS hA (fun _ => rfl) (by decide) (by decide) (by decide) (Nat.le_of_ble_eq_true rfl) (Nat.le_of_ble_eq_true rfl) dX0_init_15 (fun pa d2 H hK hP hD hS => ?_)
  have hK : va_K D vwCl (dkT d1 d2) s := hK
  have hP : va_P D vwCl [(h0, .inr (0, [.int 0, .int 0, .int 0, .ref fl, .int 0, .null])), (fl, .inl (d1, 20, .inl (fun _ => 0))), (pa, .inl (d2, 20, .inl (fun _ => 0)))] H := hP
  have hD : va_D (ikA h0 s.heap.size) [(h0, .inr (0, [.int 0, .int 0, .int 0, .ref fl, .int 0, .null])), (fl, .inl (d1, 20, .inl (fun _ => 0))), (pa, .inl (d2, 20, .inl (fun _ => 0)))] := hD
  refine va_putF (D := D) (ci := 0) (v := .ref pa) (ty := .array .int) (C := RX0) (T := TX0) (N := 6) hx hb hts in_X0 tyX0 tyX0_ok nmX0 hown hK hP hD hS 0 rfl rfl 5 (by decide) (hts _ q32) (fun _ h9 => h9) rfl hin rfl (by decide +kernel) rfl rfl (Nat.le_of_ble_eq_true rfl) dX0_init_17 (fun H locs hP hD hS => ?_)
  have hP : va_P D vwCl [(h0, .inr (0, [.int 0, .int 0, .int 0, .ref fl, .int 0, .ref pa])), (fl, .inl (d1, 20, .inl (fun _ => 0))), (pa, .inl (d2, 20, .inl (fun _ => 0)))] H := hP
  have hD : va_D (ikA h0 s.heap.size) [(h0, .inr (0, [.int 0, .int 0, .int 0, .ref fl, .int 0, .ref pa])), (fl, .inl (d1, 20, .inl (fun _ => 0))), (pa, .inl (d2, 20, .inl (fun _ => 0)))] := hD
  refine lv_aload_n hx hb dX0_init_20 rfl (lv_at hl 0 rfl) ?_
  refine lv_iconst (v := nI 1) hx hb dX0_init_21 (by decide) ?_
  refine va_put (D := D) (ci := 0) (v := .int (nI 1)) (ty := .int) (C := RX0) (T := TX0) (N := 6) hx hb hts in_X0 tyX0 tyX0_ok nmX0 hown hK hP hD hS 0 rfl rfl 0 (by decide) (hts _ q27) (fun _ h9 => h9) rfl (by decide +kernel) rfl rfl (Nat.le_of_ble_eq_true rfl) dX0_init_22 (fun H locs hP hD hS => ?_)
  have hP : va_P D vwCl (dkW h0 fl pa d1 d2 1 0 0 0 (fun _ => 0) (fun _ => 0)) H := hP
  have hD : va_D (ikA h0 s.heap.size) (dkW h0 fl pa d1 d2 1 0 0 0 (fun _ => 0) (fun _ => 0)) := hD
  have n1 : ¬ h0 = fl := fun e => absurd (hD.1 0 1 _ _ rfl rfl e) (by decide)
  have n2 : ¬ h0 = pa := fun e => absurd (hD.1 0 2 _ _ rfl rfl e) (by decide)
  have n3 : ¬ fl = pa := fun e => absurd (hD.1 1 2 _ _ rfl rfl e) (by decide)
  have b1 : s.heap.size ≤ fl := by
    rcases hD.2 1 _ rfl with q | q
    · exact absurd q.symm n1
    · exact q
  have b2 : s.heap.size ≤ pa := by
    rcases hD.2 2 _ rfl with q | q
    · exact absurd q.symm n2
    · exact q
  refine W.widen (k := 2) (n := 40) (Nat.le_of_ble_eq_true rfl) (Nat.le_of_ble_eq_true rfl) ?_
  exact W.vret hx hb hr (fun t ht hW => ⟨⟨(fl, pa, d1, d2), rfl, trivial, (show va_P D vwCl (dkW h0 fl pa d1 d2 1 0 0 0 (fun _ => 0) (fun _ => 0)) t.heap by rw [ht]; exact hP), va_K.moved hW.alike hK, ⟨n1, n2, n3⟩, b1, b2⟩, hS.F ht⟩) hS.2.2 dX0_init_25
end
section
/-! the answers exist; rows for the law -/
theorem pd_os_ex {n : Nat} (hn1 : 1 ≤ n) (hnn : n ≤ 30000) (b : Int32) : ∃ v, ∀ i, 1 ≤ i → i ≤ 30000 → b = nI i → pd_os n i v := by
  by_cases h : ∃ i, 1 ≤ i ∧ i ≤ 30000 ∧ b = nI i
  · obtain ⟨i, h1, h2, h3⟩ := h
    have key : ∃ v, pd_os n i v := by
      by_cases hc : n = 1 ∨ ¬ Nat.gcd i n = 1
      · exact ⟨-2, Or.inl ⟨hc, rfl⟩⟩
      · have hn : ¬ n = 1 := fun q => hc (Or.inl q)
        have hg : Nat.gcd i n = 1 := by
          rcases Nat.decEq (Nat.gcd i n) 1 with q | q
          · exact absurd (Or.inr q) hc
          · exact q
        obtain ⟨o, ho⟩ := pd_ord_ex (show 2 ≤ n by omega) hg
        have ho2 := pd_ord_le (show 2 ≤ n by omega) hg ho
        exact ⟨nI o, Or.inr ⟨hn, hg, o, ho, by omega, rfl⟩⟩
    obtain ⟨v, hv⟩ := key
    refine ⟨v, fun j j1 j2 j3 => ?_⟩
    have e : i = j := (nI_eq (by omega) (by omega)).mp (h3.symm.trans j3)
    rw [← e]; exact hv
  · exact ⟨0, fun i h1 h2 h3 => absurd ⟨i, h1, h2, h3⟩ h⟩
theorem pd_rs_ex {n : Nat} (hn1 : 1 ≤ n) (a : Int32) : ∃ v, ∀ i, i ≤ 30000 → a = nI i → pd_rs n i v := by
  by_cases h : ∃ i, i ≤ 30000 ∧ a = nI i
  · obtain ⟨i, h2, h3⟩ := h
    have key : ∃ v, pd_rs n i v := by
      by_cases hp : pd_pr n
      · by_cases hr : ∃ y, y * y % n = i % n
        · obtain ⟨x, hx, hl⟩ := pk_least (fun y => y * y % n = i % n) hr
          have hxn : x < n := by
            rcases Nat.lt_or_ge x n with q | q
            · exact q
            · have h5 : x % n < n := Nat.mod_lt _ (by omega)
              exact absurd (show (x % n) * (x % n) % n = i % n by rw [pd_mm]; exact hx) (hl (x % n) (by omega))
          exact ⟨nI x, Or.inl ⟨hp, x, ⟨hxn, hx, hl⟩, rfl⟩⟩
        · exact ⟨-2, Or.inr (Or.inr ⟨hp, fun y hy => hr ⟨y, hy⟩, rfl⟩)⟩
      · exact ⟨-2, Or.inr (Or.inl ⟨hp, rfl⟩)⟩
    obtain ⟨v, hv⟩ := key
    refine ⟨v, fun j j2 j3 => ?_⟩
    have e : i = j := (nI_eq (by omega) (by omega)).mp (h3.symm.trans j3)
    rw [← e]; exact hv
  · exact ⟨0, fun i h2 h3 => absurd ⟨i, h2, h3⟩ h⟩
theorem pd_gs_ex {n : Nat} (hnn : n ≤ 30000) : ∃ v, pd_gs n v := by
  by_cases hp : pd_pr n
  · have h2 := hp.1
    rcases Nat.lt_or_ge n 3 with q | q
    · have e : n = 2 := by omega
      subst e
      refine ⟨nI 1, Or.inr ⟨hp, 1, rfl, Nat.le_refl 1, by decide, ⟨Nat.le_refl 1, by decide, fun e a b => by omega⟩, fun j a b => by omega⟩⟩
    · obtain ⟨g, g1, g2, g3, g4⟩ := pd_gen_least (by omega) hp q
      refine ⟨nI g, Or.inr ⟨hp, g, rfl, by omega, g2, g3, fun j a b h => ?_⟩⟩
      rcases Nat.lt_or_ge j 2 with c | c
      · have e : j = 1 := by omega
        rw [e] at h
        exact absurd (by rw [Nat.pow_one]; exact Nat.mod_eq_of_lt (by omega)) (h.2.2 1 (Nat.le_refl 1) (by omega))
      · exact g4 j c b h
  · exact ⟨-2, Or.inl ⟨hp, rfl⟩⟩
theorem pd_tk (x : Int32) : (∃ j, 1 ≤ j ∧ j ≤ 30000 ∧ x = nI j) ∨ (x < nI 1 ∨ nI 30000 < x) := by
  by_cases h1 : x < nI 1
  · exact Or.inr (Or.inl h1)
  · by_cases h2 : nI 30000 < x
    · exact Or.inr (Or.inr h2)
    · exact Or.inl (pd_rg (by decide) h1 h2)
theorem pd_bool_eq {r1 r2 : Int32} {P : Prop} (h1 : (r1 = nI 1 ∧ P) ∨ (r1 = nI 0 ∧ ¬ P)) (h2 : (r2 = nI 1 ∧ P) ∨ (r2 = nI 0 ∧ ¬ P)) : r1 = r2 := by
  rcases h1 with h1 | h1 <;> rcases h2 with h2 | h2
  · rw [h1.1, h2.1]
  · exact absurd h1.2 h2.2
  · exact absurd h2.2 h1.2
  · rw [h1.1, h2.1]
theorem pd_t_in {r1 r2 : Int32} (h1 : (r1 = nI 1 ∧ True) ∨ (r1 = nI 0 ∧ False)) (h2 : (r2 = nI 1 ∧ True) ∨ (r2 = nI 0 ∧ False)) : r1 = r2 := by
  rcases h1 with h1 | h1
  · rcases h2 with h2 | h2
    · rw [h1.1, h2.1]
    · exact h2.2.elim
  · exact h1.2.elim
theorem pd_t_out {r1 r2 : Int32} (h1 : (r1 = nI 1 ∧ False) ∨ (r1 = nI 0 ∧ True)) (h2 : (r2 = nI 1 ∧ False) ∨ (r2 = nI 0 ∧ True)) : r1 = r2 := by
  rcases h1 with h1 | h1
  · exact h1.2.elim
  · rcases h2 with h2 | h2
    · exact h2.2.elim
    · rw [h1.1, h2.1]
theorem pd_md.kept {D : va_G} {h0 n : Nat} {H H1 : Heap} {A : Nat → Prop} (h : pd_md D h0 n H) (hA : ¬ A h0) (hk : ∀ q : Nat, q < H.size → ¬ A q → H1[q]? = H[q]?) : pd_md D h0 n H1 := by
  refine va_P.kept h (fun k q hq => ?_)
  match k, hq with
  | 0, hq => cases hq; exact hk h0 (h 0 _ rfl).lt hA
  | k + 1, hq => cases hq
theorem pd_dk.kept {D : va_G} {h0 fl pa mo : Nat} {d1 d2 : ClassId} {n : Nat} {H H1 : Heap} (h : pd_dk D h0 fl pa d1 d2 n H) (hM : ¬ dkA h0 fl pa mo) (hk : ∀ q : Nat, q < H.size → ¬ q = mo → H1[q]? = H[q]?) : pd_dk D h0 fl pa d1 d2 n H1 := by
  obtain ⟨sp, fc, pt, f, g, hP, hsp⟩ := h
  refine ⟨sp, fc, pt, f, g, va_P.kept hP (fun k q hq => ?_), hsp⟩
  match k, hq with
  | 0, hq => cases hq; exact hk _ (hP 0 _ rfl).lt (fun e => hM (Or.inl e.symm))
  | 1, hq => cases hq; exact hk _ (hP 1 _ rfl).lt (fun e => hM (Or.inr (Or.inl e.symm)))
  | 2, hq => cases hq; exact hk _ (hP 2 _ rfl).lt (fun e => hM (Or.inr (Or.inr e.symm)))
  | k + 3, hq => cases hq
theorem pd_lt3 {L i : Nat} (hL : L ≤ 192) (hi : i < 1000) : (nI L - nI 3 < nI i) ↔ L < i + 3 := by
  rw [Int32.lt_iff_toInt_lt, pk_sub_toInt (by omega) (by omega), nI_toInt (by omega)]
  omega
theorem pw_sld {p : Program} {l : Launch} {e : Env} {R : Room} {s : State} {m : MethodId} {args : Array Value} {below : List Frame} {meth : Method} {c : Code} {H : Heap} {locs : List Loc} {cells slots : Nat} {Q : State → Prop} {cc : ByteArray} {pc : Nat} {ls : Array Slot} {rest : List Value} {H0 : Heap} {A : Nat → Prop} (hx : p.tables.exec = Jvm.exec) (hb : c.code = cc) {b L i : Nat} {xs : Nat → Int32} (hX : va_X b L xs s H0) (hbl : b < H0.size) (hbA : ¬ A b) (hS : va_S A H0 H locs) (hL : L ≤ 192) (hi : i < L) (hdg : decode cc pc = .ok (.iaload, 1))
    (kk : W p l e R s m args below meth c H locs cells slots Q (F0 m (pc + 1) ls (.int (xs i) :: rest))) : W p l e R s m args below meth c H locs cells slots Q (F0 m pc ls (.int (nI i) :: .ref b :: rest)) := by
  refine va_sld hx hb hX hbl hbA hS (vp_in_nI hi (by omega)) hdg ?_
  rw [nI_clamp (n := i) (by omega)]
  exact kk
end
section
/-! THE CLAIM OUT OF ONE WALK OF THE LAW'S BODY. Your part is whole_start (and what it stands on); all else here is the same for every law, but numbers. -/
def R_law : String := "PrimeDeskLaw"
def lw_P (b : Addr) (xs : List Int32) (args : Array Value) (s : State) : Prop := args = #[.ref b] ∧ s.IntsAt b xs ∧ xs.length ≤ 192 ∧ (Jvm.Cond.and given_1 narrow_1).before args s = true
def lw_Q (_ : Array Value) (s : State) (o : Outcome) (t : State) : Prop := o = .returned (some (.int 1)) ∧ Framed s o t [] 600000 7290000
def lw_Z (below : List Frame) (a : Array Value) (s : State) : State → Prop := fun t => ∃ o, t.status = .running ∧ Ended t below o ∧ lw_Q a s o t
/-- the law's own end, with 1 on the stack, nothing written that was there before, its room as the claim has it -/
theorem lw_ret {p : Program} {l : Launch} {e : Env} {s : State} {m : MethodId} {below : List Frame} {meth : Method} {c : Code} {b : Nat} (hx : p.tables.exec = Jvm.exec) (hb : c.code = code) (hr : meth.sig.returnType = ret) (hlocks : meth.locks = false) {pc : Nat} {H : Heap} {ls : Array Slot} (hdg : decode code pc = .ok (.ireturn, 1)) : W p l e room_1 s m #[Value.ref b] below meth c H [] 600000 7290000 (lw_Z below #[Value.ref b] s) (F0 m pc ls [.int 1]) := by
  intro T hT X
  obtain ⟨fs, hret, hrun, hended, hW, hframe⟩ := X.leave (v := some (.int 1)) (hlocks := hlocks) (fun h => by rw [hr] at h; cases h)
  have hmeth' : T.vm.method? m = some meth := X.method'
  refine ⟨T.setFrames fs, ?_, .returned (some (.int 1)), hrun, hended, rfl, ⟨_, rfl⟩, hW, hframe⟩
  jvm_step X.here [X.here.top, hx, hb, hdg, hmeth', hr, ret, narrow_b1]
  (try refine ⟨rfl, ?_⟩); (try refine ⟨rfl, ?_⟩)
  first | (intro acts; rw [hret _ acts rfl rfl rfl]) | rw [hret _ _ rfl rfl rfl]
  exact Steps.refl _
/-- what holds at the law's entry: the machine, the code, the tables' words (any of lw_tbl by 'hts w (by decide +kernel)'), the script of L ints xs at the cell b, what the Statement gives of the start (any of its parts by flat_of_before) -/
def lw_At (p : Program) (s : State) (m : MethodId) (meth : Method) (c : Code) (b L : Nat) (xs : Nat → Int32) : Prop :=
  p.tables.exec = Jvm.exec ∧ c.code = code ∧ meth.sig.returnType = ret ∧ c.maxLocals = 4 ∧ s.vm.findClass R_law = some m.cls ∧ (∀ w ∈ lw_tbl, w.before #[Value.ref b] s = true) ∧ va_X b L xs s s.heap ∧ b < s.heap.size ∧ meth.locks = false ∧ (Jvm.Cond.and given_1 narrow_1).before #[Value.ref b] s = true
end
section
set_option maxHeartbeats 4000000 in
set_option maxRecDepth 100000 in
theorem law_case0 {p : Program} {e : Env} {s : State} {m : MethodId} {below : List Frame} {meth : Method} {c : Code} (l : Launch) {b L : Nat} {xs : Nat → Int32} (hL : L ≤ 192) (C0 : lw_At p s m meth c b L xs) {D : va_G} {h0 fl pa mo : Nat} {d1 d2 : ClassId} (hK : va_K D vwCl (dkT d1 d2) s) (hN : dkN h0 fl pa) (hM : ¬ dkA h0 fl pa mo) (hAq : ∀ q, dkA h0 fl pa q → s.heap.size ≤ q) (a3 : s.heap.size ≤ mo) {i n : Nat} {H : Heap} {locs : List Loc} {ls : Array Slot} (hi : i + 3 ≤ L) (hn1 : 1 ≤ n) (hnn : n ≤ 30000) (hDk : pd_dk D h0 fl pa d1 d2 n H) (hMd : pd_md D mo n H) (hS : va_S (fun q : Nat => s.heap.size ≤ q) s.heap H locs) (hl : lv_has ls 4 [(0, .ref b), (1, .ref h0), (2, .ref mo), (3, .int (nI i))])
    (ih : ∀ (n : Nat) (H : Heap) (locs : List Loc) (ls : Array Slot), 1 ≤ n → n ≤ 30000 → pd_dk D h0 fl pa d1 d2 n H → pd_md D mo n H → va_S (fun q : Nat => s.heap.size ≤ q) s.heap H locs → lv_has ls 4 [(0, .ref b), (1, .ref h0), (2, .ref mo), (3, .int (nI (i + 3)))] → W p l e room_1 s m #[Value.ref b] below meth c H locs 600000 7290000 (lw_Z below #[Value.ref b] s) (F0 m 18 ls [])) : W p l e room_1 s m #[Value.ref b] below meth c H locs 600000 7290000 (lw_Z below #[Value.ref b] s) (F0 m 96 ls []) := by
  obtain ⟨hx, hb, hr, hml, hown, hts, hX, hbl, hlocks, hgv⟩ := id C0
  have hbA : ¬ (fun q : Nat => s.heap.size ≤ q) b := Nat.not_le.mpr hbl
  have CF : CallFix p m c code 4 s #[Value.ref b] lw_all R_law := ⟨hx, hb, hml, hown, fun w h => hts w (lw_all_tbl h)⟩
  rcases pd_tk (xs (i + 1)) with ⟨j, j1, j2, ej⟩ | hout
  · refine lv_aload_n hx hb dL_law_96 rfl (lv_at hl 1 rfl) ?_
    refine lv_aload_n hx hb dL_law_97 rfl (lv_at hl 0 rfl) ?_
    refine lv_iload_n hx hb dL_law_98 rfl (lv_at hl 3 rfl) ?_
    refine lv_iconst (v := nI 1) hx hb dL_law_99 (by decide) ?_
    refine pw_add hx hb dL_law_100 (i + 1) rfl ?_
    refine pw_sld hx hb hX hbl hbA hS hL (by omega) dL_law_101 ?_
    rw [ej]
    refine pc_call (n := 1) CF (metX0_take_in l D d1 d2 h0 fl pa hN n j j1 j2) (lw_V q47 q48 q49 q17 q50) rfl rfl (by decide +kernel) rfl ⟨by decide, by decide⟩ hK (hDk.ob.recv hK) hDk rfl hl.1 (Nat.le_of_ble_eq_true rfl) dL_law_102 ⟨by decide, by decide⟩ hS hAq (fun r1 H locs hr1 hDk2 hz hk hS => ?_)
    have hMd := pd_md.kept hMd hM hk
    have hDk := hDk2
    refine lv_aload_n hx hb dL_law_105 rfl (lv_at hl 2 rfl) ?_
    refine lv_aload_n hx hb dL_law_106 rfl (lv_at hl 0 rfl) ?_
    refine lv_iload_n hx hb dL_law_107 rfl (lv_at hl 3 rfl) ?_
    refine lv_iconst (v := nI 1) hx hb dL_law_108 (by decide) ?_
    refine pw_add hx hb dL_law_109 (i + 1) rfl ?_
    refine pw_sld hx hb hX hbl hbA hS hL (by omega) dL_law_110 ?_
    rw [ej]
    refine pc_call (n := 1) CF (metX1_take_in l D (dkT d1 d2) mo n j j1 j2) (lw_V q158 q159 q160 q18 q161) rfl rfl (by decide +kernel) rfl ⟨by decide, by decide⟩ hK (hMd.recv hK) hMd rfl hl.1 (Nat.le_of_ble_eq_true rfl) dL_law_111 ⟨by decide, by decide⟩ hS (fun q h => by rw [show q = mo from h]; exact a3) (fun r2 H locs hr2 hMd2 hz hk hS => ?_)
    have hDk := pd_dk.kept hDk hM hk
    have hMd := hMd2
    refine lv_icmp_eq (tgt := 312) hx hb dL_law_114 (by decide) (fun c114 => ?_) (fun c114 => absurd (pd_t_in hr1 hr2) c114)
    refine lv_iinc (v := nI (i + 3)) (lv' := [(3, .int (nI (i + 3))), (0, .ref b), (1, .ref h0), (2, .ref mo)]) hx hb dL_law_312 hl (k := 3) rfl (pw_i3 _) (by decide) rfl (fun ls hl => ?_)
    refine lv_goto (tgt := 18) hx hb dL_law_315 (by decide) ?_
    exact ih j _ _ ls j1 j2 hDk hMd hS (lv_sub hl [1, 2, 3, 0] rfl)
  · refine lv_aload_n hx hb dL_law_96 rfl (lv_at hl 1 rfl) ?_
    refine lv_aload_n hx hb dL_law_97 rfl (lv_at hl 0 rfl) ?_
    refine lv_iload_n hx hb dL_law_98 rfl (lv_at hl 3 rfl) ?_
    refine lv_iconst (v := nI 1) hx hb dL_law_99 (by decide) ?_
    refine pw_add hx hb dL_law_100 (i + 1) rfl ?_
    refine pw_sld hx hb hX hbl hbA hS hL (by omega) dL_law_101 ?_
    refine pc_call (n := 1) CF (metX0_take_out l D d1 d2 h0 fl pa hN n (xs (i + 1)) hout) (lw_V q47 q48 q49 q17 q50) rfl rfl (by decide +kernel) rfl ⟨by decide, by decide⟩ hK (hDk.ob.recv hK) hDk rfl hl.1 (Nat.le_of_ble_eq_true rfl) dL_law_102 ⟨by decide, by decide⟩ hS hAq (fun r1 H locs hr1 hDk2 hz hk hS => ?_)
    have hMd := pd_md.kept hMd hM hk
    have hDk := hDk2
    refine lv_aload_n hx hb dL_law_105 rfl (lv_at hl 2 rfl) ?_
    refine lv_aload_n hx hb dL_law_106 rfl (lv_at hl 0 rfl) ?_
    refine lv_iload_n hx hb dL_law_107 rfl (lv_at hl 3 rfl) ?_
    refine lv_iconst (v := nI 1) hx hb dL_law_108 (by decide) ?_
    refine pw_add hx hb dL_law_109 (i + 1) rfl ?_
    refine pw_sld hx hb hX hbl hbA hS hL (by omega) dL_law_110 ?_
    refine pc_call (n := 1) CF (metX1_take_out l D (dkT d1 d2) mo n (xs (i + 1)) hout) (lw_V q158 q159 q160 q18 q161) rfl rfl (by decide +kernel) rfl ⟨by decide, by decide⟩ hK (hMd.recv hK) hMd rfl hl.1 (Nat.le_of_ble_eq_true rfl) dL_law_111 ⟨by decide, by decide⟩ hS (fun q h => by rw [show q = mo from h]; exact a3) (fun r2 H locs hr2 hMd2 hz hk hS => ?_)
    have hDk := pd_dk.kept hDk hM hk
    have hMd := hMd2
    refine lv_icmp_eq (tgt := 312) hx hb dL_law_114 (by decide) (fun c114 => ?_) (fun c114 => absurd (pd_t_out hr1 hr2) c114)
    refine lv_iinc (v := nI (i + 3)) (lv' := [(3, .int (nI (i + 3))), (0, .ref b), (1, .ref h0), (2, .ref mo)]) hx hb dL_law_312 hl (k := 3) rfl (pw_i3 _) (by decide) rfl (fun ls hl => ?_)
    refine lv_goto (tgt := 18) hx hb dL_law_315 (by decide) ?_
    exact ih n _ _ ls hn1 hnn hDk hMd hS (lv_sub hl [1, 2, 3, 0] rfl)
set_option maxHeartbeats 4000000 in
set_option maxRecDepth 100000 in
theorem law_case1 {p : Program} {e : Env} {s : State} {m : MethodId} {below : List Frame} {meth : Method} {c : Code} (l : Launch) {b L : Nat} {xs : Nat → Int32} (hL : L ≤ 192) (C0 : lw_At p s m meth c b L xs) {D : va_G} {h0 fl pa mo : Nat} {d1 d2 : ClassId} (hK : va_K D vwCl (dkT d1 d2) s) (hN : dkN h0 fl pa) (hM : ¬ dkA h0 fl pa mo) (hAq : ∀ q, dkA h0 fl pa q → s.heap.size ≤ q) (a3 : s.heap.size ≤ mo) {i n : Nat} {H : Heap} {locs : List Loc} {ls : Array Slot} (hi : i + 3 ≤ L) (hn1 : 1 ≤ n) (hnn : n ≤ 30000) (hDk : pd_dk D h0 fl pa d1 d2 n H) (hMd : pd_md D mo n H) (hS : va_S (fun q : Nat => s.heap.size ≤ q) s.heap H locs) (hl : lv_has ls 4 [(0, .ref b), (1, .ref h0), (2, .ref mo), (3, .int (nI i))])
    (ih : ∀ (n : Nat) (H : Heap) (locs : List Loc) (ls : Array Slot), 1 ≤ n → n ≤ 30000 → pd_dk D h0 fl pa d1 d2 n H → pd_md D mo n H → va_S (fun q : Nat => s.heap.size ≤ q) s.heap H locs → lv_has ls 4 [(0, .ref b), (1, .ref h0), (2, .ref mo), (3, .int (nI (i + 3)))] → W p l e room_1 s m #[Value.ref b] below meth c H locs 600000 7290000 (lw_Z below #[Value.ref b] s) (F0 m 18 ls [])) : W p l e room_1 s m #[Value.ref b] below meth c H locs 600000 7290000 (lw_Z below #[Value.ref b] s) (F0 m 119 ls []) := by
  obtain ⟨hx, hb, hr, hml, hown, hts, hX, hbl, hlocks, hgv⟩ := id C0
  have hbA : ¬ (fun q : Nat => s.heap.size ≤ q) b := Nat.not_le.mpr hbl
  have CF : CallFix p m c code 4 s #[Value.ref b] lw_all R_law := ⟨hx, hb, hml, hown, fun w h => hts w (lw_all_tbl h)⟩
  refine lv_aload_n hx hb dL_law_119 rfl (lv_at hl 1 rfl) ?_
  refine pp_call (n := 0) CF (metX0_isPrime l D (dkT d1 d2) _ h0 n hDk.ob hn1 hnn) (lw_V q51 q52 q53 q17 q54) rfl rfl (by decide +kernel) rfl ⟨by decide, by decide⟩ hK (hDk.ob.recv hK) rfl hl.1 (Nat.le_of_ble_eq_true rfl) dL_law_120 ⟨by decide, by decide⟩ (fun r1 hr1 => ?_)
  refine lv_aload_n hx hb dL_law_123 rfl (lv_at hl 2 rfl) ?_
  refine pp_call (n := 0) CF (metX1_isPrime l D (dkT d1 d2) _ mo n hMd hn1 hnn) (lw_V q162 q163 q164 q18 q165) rfl rfl (by decide +kernel) rfl ⟨by decide, by decide⟩ hK (hMd.recv hK) rfl hl.1 (Nat.le_of_ble_eq_true rfl) dL_law_124 ⟨by decide, by decide⟩ (fun r2 hr2 => ?_)
  refine lv_icmp_eq (tgt := 312) hx hb dL_law_127 (by decide) (fun c127 => ?_) (fun c127 => absurd (pd_bool_eq hr1 hr2) c127)
  refine lv_iinc (v := nI (i + 3)) (lv' := [(3, .int (nI (i + 3))), (0, .ref b), (1, .ref h0), (2, .ref mo)]) hx hb dL_law_312 hl (k := 3) rfl (pw_i3 _) (by decide) rfl (fun ls hl => ?_)
  refine lv_goto (tgt := 18) hx hb dL_law_315 (by decide) ?_
  exact ih n _ _ ls hn1 hnn hDk hMd hS (lv_sub hl [1, 2, 3, 0] rfl)
set_option maxHeartbeats 4000000 in
set_option maxRecDepth 100000 in
theorem law_case2 {p : Program} {e : Env} {s : State} {m : MethodId} {below : List Frame} {meth : Method} {c : Code} (l : Launch) {b L : Nat} {xs : Nat → Int32} (hL : L ≤ 192) (C0 : lw_At p s m meth c b L xs) {D : va_G} {h0 fl pa mo : Nat} {d1 d2 : ClassId} (hK : va_K D vwCl (dkT d1 d2) s) (hN : dkN h0 fl pa) (hM : ¬ dkA h0 fl pa mo) (hAq : ∀ q, dkA h0 fl pa q → s.heap.size ≤ q) (a3 : s.heap.size ≤ mo) {i n : Nat} {H : Heap} {locs : List Loc} {ls : Array Slot} (hi : i + 3 ≤ L) (hn1 : 1 ≤ n) (hnn : n ≤ 30000) (hDk : pd_dk D h0 fl pa d1 d2 n H) (hMd : pd_md D mo n H) (hS : va_S (fun q : Nat => s.heap.size ≤ q) s.heap H locs) (hl : lv_has ls 4 [(0, .ref b), (1, .ref h0), (2, .ref mo), (3, .int (nI i))])
    (ih : ∀ (n : Nat) (H : Heap) (locs : List Loc) (ls : Array Slot), 1 ≤ n → n ≤ 30000 → pd_dk D h0 fl pa d1 d2 n H → pd_md D mo n H → va_S (fun q : Nat => s.heap.size ≤ q) s.heap H locs → lv_has ls 4 [(0, .ref b), (1, .ref h0), (2, .ref mo), (3, .int (nI (i + 3)))] → W p l e room_1 s m #[Value.ref b] below meth c H locs 600000 7290000 (lw_Z below #[Value.ref b] s) (F0 m 18 ls [])) : W p l e room_1 s m #[Value.ref b] below meth c H locs 600000 7290000 (lw_Z below #[Value.ref b] s) (F0 m 132 ls []) := by
  obtain ⟨hx, hb, hr, hml, hown, hts, hX, hbl, hlocks, hgv⟩ := id C0
  have hbA : ¬ (fun q : Nat => s.heap.size ≤ q) b := Nat.not_le.mpr hbl
  have CF : CallFix p m c code 4 s #[Value.ref b] lw_all R_law := ⟨hx, hb, hml, hown, fun w h => hts w (lw_all_tbl h)⟩
  obtain ⟨F, hF⟩ := pd_fact_of hn1
  refine lv_aload_n hx hb dL_law_132 rfl (lv_at hl 1 rfl) ?_
  refine pc_call (n := 0) CF (metX0_factors l D d1 d2 h0 fl pa hN n F hn1 hnn hF) (lw_V q71 q72 q73 q17 q74) rfl rfl (by decide +kernel) rfl ⟨by decide, by decide⟩ hK (hDk.ob.recv hK) hDk rfl hl.1 (Nat.le_of_ble_eq_true rfl) dL_law_133 ⟨by decide, by decide⟩ hS hAq (fun r1 H locs hr1 hDk2 hz hk hS => ?_)
  have hMd := pd_md.kept hMd hM hk
  have hDk := hDk2
  refine lv_aload_n hx hb dL_law_136 rfl (lv_at hl 2 rfl) ?_
  refine pp_call (n := 0) CF (metX1_factors l D (dkT d1 d2) _ mo n hMd F hn1 hnn hF) (lw_V q170 q171 q172 q18 q173) rfl rfl (by decide +kernel) rfl ⟨by decide, by decide⟩ hK (hMd.recv hK) rfl hl.1 (Nat.le_of_ble_eq_true rfl) dL_law_137 ⟨by decide, by decide⟩ (fun r2 hr2 => ?_)
  refine lv_icmp_eq (tgt := 312) hx hb dL_law_140 (by decide) (fun c140 => ?_) (fun c140 => absurd (Eq.trans hr1 (Eq.symm hr2)) c140)
  refine lv_iinc (v := nI (i + 3)) (lv' := [(3, .int (nI (i + 3))), (0, .ref b), (1, .ref h0), (2, .ref mo)]) hx hb dL_law_312 hl (k := 3) rfl (pw_i3 _) (by decide) rfl (fun ls hl => ?_)
  refine lv_goto (tgt := 18) hx hb dL_law_315 (by decide) ?_
  exact ih n _ _ ls hn1 hnn hDk hMd hS (lv_sub hl [1, 2, 3, 0] rfl)
set_option maxHeartbeats 4000000 in
set_option maxRecDepth 100000 in
theorem law_case3 {p : Program} {e : Env} {s : State} {m : MethodId} {below : List Frame} {meth : Method} {c : Code} (l : Launch) {b L : Nat} {xs : Nat → Int32} (hL : L ≤ 192) (C0 : lw_At p s m meth c b L xs) {D : va_G} {h0 fl pa mo : Nat} {d1 d2 : ClassId} (hK : va_K D vwCl (dkT d1 d2) s) (hN : dkN h0 fl pa) (hM : ¬ dkA h0 fl pa mo) (hAq : ∀ q, dkA h0 fl pa q → s.heap.size ≤ q) (a3 : s.heap.size ≤ mo) {i n : Nat} {H : Heap} {locs : List Loc} {ls : Array Slot} (hi : i + 3 ≤ L) (hn1 : 1 ≤ n) (hnn : n ≤ 30000) (hDk : pd_dk D h0 fl pa d1 d2 n H) (hMd : pd_md D mo n H) (hS : va_S (fun q : Nat => s.heap.size ≤ q) s.heap H locs) (hl : lv_has ls 4 [(0, .ref b), (1, .ref h0), (2, .ref mo), (3, .int (nI i))])
    (ih : ∀ (n : Nat) (H : Heap) (locs : List Loc) (ls : Array Slot), 1 ≤ n → n ≤ 30000 → pd_dk D h0 fl pa d1 d2 n H → pd_md D mo n H → va_S (fun q : Nat => s.heap.size ≤ q) s.heap H locs → lv_has ls 4 [(0, .ref b), (1, .ref h0), (2, .ref mo), (3, .int (nI (i + 3)))] → W p l e room_1 s m #[Value.ref b] below meth c H locs 600000 7290000 (lw_Z below #[Value.ref b] s) (F0 m 18 ls [])) : W p l e room_1 s m #[Value.ref b] below meth c H locs 600000 7290000 (lw_Z below #[Value.ref b] s) (F0 m 145 ls []) := by
  obtain ⟨hx, hb, hr, hml, hown, hts, hX, hbl, hlocks, hgv⟩ := id C0
  have hbA : ¬ (fun q : Nat => s.heap.size ≤ q) b := Nat.not_le.mpr hbl
  have CF : CallFix p m c code 4 s #[Value.ref b] lw_all R_law := ⟨hx, hb, hml, hown, fun w h => hts w (lw_all_tbl h)⟩
  obtain ⟨F, hF⟩ := pd_fact_of hn1
  refine lv_aload_n hx hb dL_law_145 rfl (lv_at hl 1 rfl) ?_
  refine lv_aload_n hx hb dL_law_146 rfl (lv_at hl 0 rfl) ?_
  refine lv_iload_n hx hb dL_law_147 rfl (lv_at hl 3 rfl) ?_
  refine lv_iconst (v := nI 1) hx hb dL_law_148 (by decide) ?_
  refine pw_add hx hb dL_law_149 (i + 1) rfl ?_
  refine pw_sld hx hb hX hbl hbA hS hL (by omega) dL_law_150 ?_
  refine pc_call (n := 1) CF (metX0_factor l D d1 d2 h0 fl pa hN n F hn1 hnn hF (xs (i + 1))) (lw_V q99 q100 q101 q17 q102) rfl rfl (by decide +kernel) rfl ⟨by decide, by decide⟩ hK (hDk.ob.recv hK) hDk rfl hl.1 (Nat.le_of_ble_eq_true rfl) dL_law_151 ⟨by decide, by decide⟩ hS hAq (fun r1 H locs hr1 hDk2 hz hk hS => ?_)
  have hMd := pd_md.kept hMd hM hk
  have hDk := hDk2
  refine lv_aload_n hx hb dL_law_154 rfl (lv_at hl 2 rfl) ?_
  refine lv_aload_n hx hb dL_law_155 rfl (lv_at hl 0 rfl) ?_
  refine lv_iload_n hx hb dL_law_156 rfl (lv_at hl 3 rfl) ?_
  refine lv_iconst (v := nI 1) hx hb dL_law_157 (by decide) ?_
  refine pw_add hx hb dL_law_158 (i + 1) rfl ?_
  refine pw_sld hx hb hX hbl hbA hS hL (by omega) dL_law_159 ?_
  refine pp_call (n := 1) CF (metX1_factor l D (dkT d1 d2) _ mo n hMd (xs (i + 1)) F hn1 hnn hF) (lw_V q174 q175 q176 q18 q177) rfl rfl (by decide +kernel) rfl ⟨by decide, by decide⟩ hK (hMd.recv hK) rfl hl.1 (Nat.le_of_ble_eq_true rfl) dL_law_160 ⟨by decide, by decide⟩ (fun r2 hr2 => ?_)
  refine lv_icmp_eq (tgt := 312) hx hb dL_law_163 (by decide) (fun c163 => ?_) (fun c163 => absurd (Eq.trans hr1 (Eq.symm hr2)) c163)
  refine lv_iinc (v := nI (i + 3)) (lv' := [(3, .int (nI (i + 3))), (0, .ref b), (1, .ref h0), (2, .ref mo)]) hx hb dL_law_312 hl (k := 3) rfl (pw_i3 _) (by decide) rfl (fun ls hl => ?_)
  refine lv_goto (tgt := 18) hx hb dL_law_315 (by decide) ?_
  exact ih n _ _ ls hn1 hnn hDk hMd hS (lv_sub hl [1, 2, 3, 0] rfl)
set_option maxHeartbeats 4000000 in
set_option maxRecDepth 100000 in
theorem law_case4 {p : Program} {e : Env} {s : State} {m : MethodId} {below : List Frame} {meth : Method} {c : Code} (l : Launch) {b L : Nat} {xs : Nat → Int32} (hL : L ≤ 192) (C0 : lw_At p s m meth c b L xs) {D : va_G} {h0 fl pa mo : Nat} {d1 d2 : ClassId} (hK : va_K D vwCl (dkT d1 d2) s) (hN : dkN h0 fl pa) (hM : ¬ dkA h0 fl pa mo) (hAq : ∀ q, dkA h0 fl pa q → s.heap.size ≤ q) (a3 : s.heap.size ≤ mo) {i n : Nat} {H : Heap} {locs : List Loc} {ls : Array Slot} (hi : i + 3 ≤ L) (hn1 : 1 ≤ n) (hnn : n ≤ 30000) (hDk : pd_dk D h0 fl pa d1 d2 n H) (hMd : pd_md D mo n H) (hS : va_S (fun q : Nat => s.heap.size ≤ q) s.heap H locs) (hl : lv_has ls 4 [(0, .ref b), (1, .ref h0), (2, .ref mo), (3, .int (nI i))])
    (ih : ∀ (n : Nat) (H : Heap) (locs : List Loc) (ls : Array Slot), 1 ≤ n → n ≤ 30000 → pd_dk D h0 fl pa d1 d2 n H → pd_md D mo n H → va_S (fun q : Nat => s.heap.size ≤ q) s.heap H locs → lv_has ls 4 [(0, .ref b), (1, .ref h0), (2, .ref mo), (3, .int (nI (i + 3)))] → W p l e room_1 s m #[Value.ref b] below meth c H locs 600000 7290000 (lw_Z below #[Value.ref b] s) (F0 m 18 ls [])) : W p l e room_1 s m #[Value.ref b] below meth c H locs 600000 7290000 (lw_Z below #[Value.ref b] s) (F0 m 168 ls []) := by
  obtain ⟨hx, hb, hr, hml, hown, hts, hX, hbl, hlocks, hgv⟩ := id C0
  have hbA : ¬ (fun q : Nat => s.heap.size ≤ q) b := Nat.not_le.mpr hbl
  have CF : CallFix p m c code 4 s #[Value.ref b] lw_all R_law := ⟨hx, hb, hml, hown, fun w h => hts w (lw_all_tbl h)⟩
  obtain ⟨F, hF⟩ := pd_fact_of hn1
  refine lv_aload_n hx hb dL_law_168 rfl (lv_at hl 1 rfl) ?_
  refine pc_call (n := 0) CF (metX0_divisors l D d1 d2 h0 fl pa hN n F hn1 hnn hF) (lw_V q103 q104 q105 q17 q106) rfl rfl (by decide +kernel) rfl ⟨by decide, by decide⟩ hK (hDk.ob.recv hK) hDk rfl hl.1 (Nat.le_of_ble_eq_true rfl) dL_law_169 ⟨by decide, by decide⟩ hS hAq (fun r1 H locs hr1 hDk2 hz hk hS => ?_)
  have hMd := pd_md.kept hMd hM hk
  have hDk := hDk2
  refine lv_aload_n hx hb dL_law_172 rfl (lv_at hl 2 rfl) ?_
  refine pp_call (n := 0) CF (metX1_divisors l D (dkT d1 d2) _ mo n hMd hn1 hnn) (lw_V q178 q179 q180 q18 q181) rfl rfl (by decide +kernel) rfl ⟨by decide, by decide⟩ hK (hMd.recv hK) rfl hl.1 (Nat.le_of_ble_eq_true rfl) dL_law_173 ⟨by decide, by decide⟩ (fun r2 hr2 => ?_)
  refine lv_icmp_eq (tgt := 312) hx hb dL_law_176 (by decide) (fun c176 => ?_) (fun c176 => absurd (Eq.trans hr1 (Eq.symm hr2)) c176)
  refine lv_iinc (v := nI (i + 3)) (lv' := [(3, .int (nI (i + 3))), (0, .ref b), (1, .ref h0), (2, .ref mo)]) hx hb dL_law_312 hl (k := 3) rfl (pw_i3 _) (by decide) rfl (fun ls hl => ?_)
  refine lv_goto (tgt := 18) hx hb dL_law_315 (by decide) ?_
  exact ih n _ _ ls hn1 hnn hDk hMd hS (lv_sub hl [1, 2, 3, 0] rfl)
set_option maxHeartbeats 4000000 in
set_option maxRecDepth 100000 in
theorem law_case5 {p : Program} {e : Env} {s : State} {m : MethodId} {below : List Frame} {meth : Method} {c : Code} (l : Launch) {b L : Nat} {xs : Nat → Int32} (hL : L ≤ 192) (C0 : lw_At p s m meth c b L xs) {D : va_G} {h0 fl pa mo : Nat} {d1 d2 : ClassId} (hK : va_K D vwCl (dkT d1 d2) s) (hN : dkN h0 fl pa) (hM : ¬ dkA h0 fl pa mo) (hAq : ∀ q, dkA h0 fl pa q → s.heap.size ≤ q) (a3 : s.heap.size ≤ mo) {i n : Nat} {H : Heap} {locs : List Loc} {ls : Array Slot} (hi : i + 3 ≤ L) (hn1 : 1 ≤ n) (hnn : n ≤ 30000) (hDk : pd_dk D h0 fl pa d1 d2 n H) (hMd : pd_md D mo n H) (hS : va_S (fun q : Nat => s.heap.size ≤ q) s.heap H locs) (hl : lv_has ls 4 [(0, .ref b), (1, .ref h0), (2, .ref mo), (3, .int (nI i))])
    (ih : ∀ (n : Nat) (H : Heap) (locs : List Loc) (ls : Array Slot), 1 ≤ n → n ≤ 30000 → pd_dk D h0 fl pa d1 d2 n H → pd_md D mo n H → va_S (fun q : Nat => s.heap.size ≤ q) s.heap H locs → lv_has ls 4 [(0, .ref b), (1, .ref h0), (2, .ref mo), (3, .int (nI (i + 3)))] → W p l e room_1 s m #[Value.ref b] below meth c H locs 600000 7290000 (lw_Z below #[Value.ref b] s) (F0 m 18 ls [])) : W p l e room_1 s m #[Value.ref b] below meth c H locs 600000 7290000 (lw_Z below #[Value.ref b] s) (F0 m 181 ls []) := by
  obtain ⟨hx, hb, hr, hml, hown, hts, hX, hbl, hlocks, hgv⟩ := id C0
  have hbA : ¬ (fun q : Nat => s.heap.size ≤ q) b := Nat.not_le.mpr hbl
  have CF : CallFix p m c code 4 s #[Value.ref b] lw_all R_law := ⟨hx, hb, hml, hown, fun w h => hts w (lw_all_tbl h)⟩
  obtain ⟨F, hF⟩ := pd_fact_of hn1
  refine lv_aload_n hx hb dL_law_181 rfl (lv_at hl 1 rfl) ?_
  refine pc_call (n := 0) CF (metX0_sum l D d1 d2 h0 fl pa hN n F hn1 hnn hF) (lw_V q107 q108 q109 q17 q110) rfl rfl (by decide +kernel) rfl ⟨by decide, by decide⟩ hK (hDk.ob.recv hK) hDk rfl hl.1 (Nat.le_of_ble_eq_true rfl) dL_law_182 ⟨by decide, by decide⟩ hS hAq (fun r1 H locs hr1 hDk2 hz hk hS => ?_)
  have hMd := pd_md.kept hMd hM hk
  have hDk := hDk2
  refine lv_aload_n hx hb dL_law_185 rfl (lv_at hl 2 rfl) ?_
  refine pp_call (n := 0) CF (metX1_sum l D (dkT d1 d2) _ mo n hMd hn1 hnn) (lw_V q182 q183 q184 q18 q185) rfl rfl (by decide +kernel) rfl ⟨by decide, by decide⟩ hK (hMd.recv hK) rfl hl.1 (Nat.le_of_ble_eq_true rfl) dL_law_186 ⟨by decide, by decide⟩ (fun r2 hr2 => ?_)
  refine lv_icmp_eq (tgt := 312) hx hb dL_law_189 (by decide) (fun c189 => ?_) (fun c189 => absurd (Eq.trans hr1 (Eq.symm hr2)) c189)
  refine lv_iinc (v := nI (i + 3)) (lv' := [(3, .int (nI (i + 3))), (0, .ref b), (1, .ref h0), (2, .ref mo)]) hx hb dL_law_312 hl (k := 3) rfl (pw_i3 _) (by decide) rfl (fun ls hl => ?_)
  refine lv_goto (tgt := 18) hx hb dL_law_315 (by decide) ?_
  exact ih n _ _ ls hn1 hnn hDk hMd hS (lv_sub hl [1, 2, 3, 0] rfl)
set_option maxHeartbeats 4000000 in
set_option maxRecDepth 100000 in
theorem law_case6 {p : Program} {e : Env} {s : State} {m : MethodId} {below : List Frame} {meth : Method} {c : Code} (l : Launch) {b L : Nat} {xs : Nat → Int32} (hL : L ≤ 192) (C0 : lw_At p s m meth c b L xs) {D : va_G} {h0 fl pa mo : Nat} {d1 d2 : ClassId} (hK : va_K D vwCl (dkT d1 d2) s) (hN : dkN h0 fl pa) (hM : ¬ dkA h0 fl pa mo) (hAq : ∀ q, dkA h0 fl pa q → s.heap.size ≤ q) (a3 : s.heap.size ≤ mo) {i n : Nat} {H : Heap} {locs : List Loc} {ls : Array Slot} (hi : i + 3 ≤ L) (hn1 : 1 ≤ n) (hnn : n ≤ 30000) (hDk : pd_dk D h0 fl pa d1 d2 n H) (hMd : pd_md D mo n H) (hS : va_S (fun q : Nat => s.heap.size ≤ q) s.heap H locs) (hl : lv_has ls 4 [(0, .ref b), (1, .ref h0), (2, .ref mo), (3, .int (nI i))])
    (ih : ∀ (n : Nat) (H : Heap) (locs : List Loc) (ls : Array Slot), 1 ≤ n → n ≤ 30000 → pd_dk D h0 fl pa d1 d2 n H → pd_md D mo n H → va_S (fun q : Nat => s.heap.size ≤ q) s.heap H locs → lv_has ls 4 [(0, .ref b), (1, .ref h0), (2, .ref mo), (3, .int (nI (i + 3)))] → W p l e room_1 s m #[Value.ref b] below meth c H locs 600000 7290000 (lw_Z below #[Value.ref b] s) (F0 m 18 ls [])) : W p l e room_1 s m #[Value.ref b] below meth c H locs 600000 7290000 (lw_Z below #[Value.ref b] s) (F0 m 194 ls []) := by
  obtain ⟨hx, hb, hr, hml, hown, hts, hX, hbl, hlocks, hgv⟩ := id C0
  have hbA : ¬ (fun q : Nat => s.heap.size ≤ q) b := Nat.not_le.mpr hbl
  have CF : CallFix p m c code 4 s #[Value.ref b] lw_all R_law := ⟨hx, hb, hml, hown, fun w h => hts w (lw_all_tbl h)⟩
  obtain ⟨F, hF⟩ := pd_fact_of hn1
  refine lv_aload_n hx hb dL_law_194 rfl (lv_at hl 1 rfl) ?_
  refine pc_call (n := 0) CF (metX0_coprimes l D d1 d2 h0 fl pa hN n F hn1 hnn hF) (lw_V q111 q112 q113 q17 q114) rfl rfl (by decide +kernel) rfl ⟨by decide, by decide⟩ hK (hDk.ob.recv hK) hDk rfl hl.1 (Nat.le_of_ble_eq_true rfl) dL_law_195 ⟨by decide, by decide⟩ hS hAq (fun r1 H locs hr1 hDk2 hz hk hS => ?_)
  have hMd := pd_md.kept hMd hM hk
  have hDk := hDk2
  refine lv_aload_n hx hb dL_law_198 rfl (lv_at hl 2 rfl) ?_
  refine pp_call (n := 0) CF (metX1_coprimes l D (dkT d1 d2) _ mo n hMd hn1 hnn) (lw_V q186 q187 q188 q18 q189) rfl rfl (by decide +kernel) rfl ⟨by decide, by decide⟩ hK (hMd.recv hK) rfl hl.1 (Nat.le_of_ble_eq_true rfl) dL_law_199 ⟨by decide, by decide⟩ (fun r2 hr2 => ?_)
  refine lv_icmp_eq (tgt := 312) hx hb dL_law_202 (by decide) (fun c202 => ?_) (fun c202 => absurd (Eq.trans hr1 (Eq.symm hr2)) c202)
  refine lv_iinc (v := nI (i + 3)) (lv' := [(3, .int (nI (i + 3))), (0, .ref b), (1, .ref h0), (2, .ref mo)]) hx hb dL_law_312 hl (k := 3) rfl (pw_i3 _) (by decide) rfl (fun ls hl => ?_)
  refine lv_goto (tgt := 18) hx hb dL_law_315 (by decide) ?_
  exact ih n _ _ ls hn1 hnn hDk hMd hS (lv_sub hl [1, 2, 3, 0] rfl)
set_option maxHeartbeats 4000000 in
set_option maxRecDepth 100000 in
theorem law_case7 {p : Program} {e : Env} {s : State} {m : MethodId} {below : List Frame} {meth : Method} {c : Code} (l : Launch) {b L : Nat} {xs : Nat → Int32} (hL : L ≤ 192) (C0 : lw_At p s m meth c b L xs) {D : va_G} {h0 fl pa mo : Nat} {d1 d2 : ClassId} (hK : va_K D vwCl (dkT d1 d2) s) (hN : dkN h0 fl pa) (hM : ¬ dkA h0 fl pa mo) (hAq : ∀ q, dkA h0 fl pa q → s.heap.size ≤ q) (a3 : s.heap.size ≤ mo) {i n : Nat} {H : Heap} {locs : List Loc} {ls : Array Slot} (hi : i + 3 ≤ L) (hn1 : 1 ≤ n) (hnn : n ≤ 30000) (hDk : pd_dk D h0 fl pa d1 d2 n H) (hMd : pd_md D mo n H) (hS : va_S (fun q : Nat => s.heap.size ≤ q) s.heap H locs) (hl : lv_has ls 4 [(0, .ref b), (1, .ref h0), (2, .ref mo), (3, .int (nI i))])
    (ih : ∀ (n : Nat) (H : Heap) (locs : List Loc) (ls : Array Slot), 1 ≤ n → n ≤ 30000 → pd_dk D h0 fl pa d1 d2 n H → pd_md D mo n H → va_S (fun q : Nat => s.heap.size ≤ q) s.heap H locs → lv_has ls 4 [(0, .ref b), (1, .ref h0), (2, .ref mo), (3, .int (nI (i + 3)))] → W p l e room_1 s m #[Value.ref b] below meth c H locs 600000 7290000 (lw_Z below #[Value.ref b] s) (F0 m 18 ls [])) : W p l e room_1 s m #[Value.ref b] below meth c H locs 600000 7290000 (lw_Z below #[Value.ref b] s) (F0 m 207 ls []) := by
  obtain ⟨hx, hb, hr, hml, hown, hts, hX, hbl, hlocks, hgv⟩ := id C0
  have hbA : ¬ (fun q : Nat => s.heap.size ≤ q) b := Nat.not_le.mpr hbl
  have CF : CallFix p m c code 4 s #[Value.ref b] lw_all R_law := ⟨hx, hb, hml, hown, fun w h => hts w (lw_all_tbl h)⟩
  obtain ⟨qq, w1, w2, w3, w4⟩ := pd_next hnn
  refine lv_aload_n hx hb dL_law_207 rfl (lv_at hl 1 rfl) ?_
  refine pp_call (n := 0) CF (metX0_nextPrime l D (dkT d1 d2) _ h0 n hDk.ob qq hn1 hnn w1 w2 w3 w4) (lw_V q115 q116 q117 q17 q118) rfl rfl (by decide +kernel) rfl ⟨by decide, by decide⟩ hK (hDk.ob.recv hK) rfl hl.1 (Nat.le_of_ble_eq_true rfl) dL_law_208 ⟨by decide, by decide⟩ (fun r1 hr1 => ?_)
  refine lv_aload_n hx hb dL_law_211 rfl (lv_at hl 2 rfl) ?_
  refine pp_call (n := 0) CF (metX1_nextPrime l D (dkT d1 d2) _ mo n hMd qq hn1 hnn w1 w2 w3 w4) (lw_V q194 q195 q196 q18 q197) rfl rfl (by decide +kernel) rfl ⟨by decide, by decide⟩ hK (hMd.recv hK) rfl hl.1 (Nat.le_of_ble_eq_true rfl) dL_law_212 ⟨by decide, by decide⟩ (fun r2 hr2 => ?_)
  refine lv_icmp_eq (tgt := 312) hx hb dL_law_215 (by decide) (fun c215 => ?_) (fun c215 => absurd (Eq.trans hr1 (Eq.symm hr2)) c215)
  refine lv_iinc (v := nI (i + 3)) (lv' := [(3, .int (nI (i + 3))), (0, .ref b), (1, .ref h0), (2, .ref mo)]) hx hb dL_law_312 hl (k := 3) rfl (pw_i3 _) (by decide) rfl (fun ls hl => ?_)
  refine lv_goto (tgt := 18) hx hb dL_law_315 (by decide) ?_
  exact ih n _ _ ls hn1 hnn hDk hMd hS (lv_sub hl [1, 2, 3, 0] rfl)
set_option maxHeartbeats 4000000 in
set_option maxRecDepth 100000 in
theorem law_case8 {p : Program} {e : Env} {s : State} {m : MethodId} {below : List Frame} {meth : Method} {c : Code} (l : Launch) {b L : Nat} {xs : Nat → Int32} (hL : L ≤ 192) (C0 : lw_At p s m meth c b L xs) {D : va_G} {h0 fl pa mo : Nat} {d1 d2 : ClassId} (hK : va_K D vwCl (dkT d1 d2) s) (hN : dkN h0 fl pa) (hM : ¬ dkA h0 fl pa mo) (hAq : ∀ q, dkA h0 fl pa q → s.heap.size ≤ q) (a3 : s.heap.size ≤ mo) {i n : Nat} {H : Heap} {locs : List Loc} {ls : Array Slot} (hi : i + 3 ≤ L) (hn1 : 1 ≤ n) (hnn : n ≤ 30000) (hDk : pd_dk D h0 fl pa d1 d2 n H) (hMd : pd_md D mo n H) (hS : va_S (fun q : Nat => s.heap.size ≤ q) s.heap H locs) (hl : lv_has ls 4 [(0, .ref b), (1, .ref h0), (2, .ref mo), (3, .int (nI i))])
    (ih : ∀ (n : Nat) (H : Heap) (locs : List Loc) (ls : Array Slot), 1 ≤ n → n ≤ 30000 → pd_dk D h0 fl pa d1 d2 n H → pd_md D mo n H → va_S (fun q : Nat => s.heap.size ≤ q) s.heap H locs → lv_has ls 4 [(0, .ref b), (1, .ref h0), (2, .ref mo), (3, .int (nI (i + 3)))] → W p l e room_1 s m #[Value.ref b] below meth c H locs 600000 7290000 (lw_Z below #[Value.ref b] s) (F0 m 18 ls [])) : W p l e room_1 s m #[Value.ref b] below meth c H locs 600000 7290000 (lw_Z below #[Value.ref b] s) (F0 m 220 ls []) := by
  obtain ⟨hx, hb, hr, hml, hown, hts, hX, hbl, hlocks, hgv⟩ := id C0
  have hbA : ¬ (fun q : Nat => s.heap.size ≤ q) b := Nat.not_le.mpr hbl
  have CF : CallFix p m c code 4 s #[Value.ref b] lw_all R_law := ⟨hx, hb, hml, hown, fun w h => hts w (lw_all_tbl h)⟩
  refine lv_aload_n hx hb dL_law_220 rfl (lv_at hl 1 rfl) ?_
  refine lv_aload_n hx hb dL_law_221 rfl (lv_at hl 0 rfl) ?_
  refine lv_iload_n hx hb dL_law_222 rfl (lv_at hl 3 rfl) ?_
  refine lv_iconst (v := nI 1) hx hb dL_law_223 (by decide) ?_
  refine pw_add hx hb dL_law_224 (i + 1) rfl ?_
  refine pw_sld hx hb hX hbl hbA hS hL (by omega) dL_law_225 ?_
  refine lv_aload_n hx hb dL_law_226 rfl (lv_at hl 0 rfl) ?_
  refine lv_iload_n hx hb dL_law_227 rfl (lv_at hl 3 rfl) ?_
  refine lv_iconst (v := nI 2) hx hb dL_law_228 (by decide) ?_
  refine pw_add hx hb dL_law_229 (i + 2) rfl ?_
  refine pw_sld hx hb hX hbl hbA hS hL (by omega) dL_law_230 ?_
  refine pp_call (n := 2) CF (metX0_power l D (dkT d1 d2) _ h0 n hDk.ob (xs (i + 1)) (xs (i + 2)) hn1 hnn) (lw_V q119 q120 q121 q17 q122) rfl rfl (by decide +kernel) rfl ⟨by decide, by decide⟩ hK (hDk.ob.recv hK) rfl hl.1 (Nat.le_of_ble_eq_true rfl) dL_law_231 ⟨by decide, by decide⟩ (fun r1 hr1 => ?_)
  refine lv_aload_n hx hb dL_law_234 rfl (lv_at hl 2 rfl) ?_
  refine lv_aload_n hx hb dL_law_235 rfl (lv_at hl 0 rfl) ?_
  refine lv_iload_n hx hb dL_law_236 rfl (lv_at hl 3 rfl) ?_
  refine lv_iconst (v := nI 1) hx hb dL_law_237 (by decide) ?_
  refine pw_add hx hb dL_law_238 (i + 1) rfl ?_
  refine pw_sld hx hb hX hbl hbA hS hL (by omega) dL_law_239 ?_
  refine lv_aload_n hx hb dL_law_240 rfl (lv_at hl 0 rfl) ?_
  refine lv_iload_n hx hb dL_law_241 rfl (lv_at hl 3 rfl) ?_
  refine lv_iconst (v := nI 2) hx hb dL_law_242 (by decide) ?_
  refine pw_add hx hb dL_law_243 (i + 2) rfl ?_
  refine pw_sld hx hb hX hbl hbA hS hL (by omega) dL_law_244 ?_
  refine pp_call (n := 2) CF (metX1_power l D (dkT d1 d2) _ mo n hMd (xs (i + 1)) (xs (i + 2)) hn1 hnn) (lw_V q198 q199 q200 q18 q201) rfl rfl (by decide +kernel) rfl ⟨by decide, by decide⟩ hK (hMd.recv hK) rfl hl.1 (Nat.le_of_ble_eq_true rfl) dL_law_245 ⟨by decide, by decide⟩ (fun r2 hr2 => ?_)
  refine lv_icmp_eq (tgt := 312) hx hb dL_law_248 (by decide) (fun c248 => ?_) (fun c248 => absurd (Eq.trans hr1 (Eq.symm hr2)) c248)
  refine lv_iinc (v := nI (i + 3)) (lv' := [(3, .int (nI (i + 3))), (0, .ref b), (1, .ref h0), (2, .ref mo)]) hx hb dL_law_312 hl (k := 3) rfl (pw_i3 _) (by decide) rfl (fun ls hl => ?_)
  refine lv_goto (tgt := 18) hx hb dL_law_315 (by decide) ?_
  exact ih n _ _ ls hn1 hnn hDk hMd hS (lv_sub hl [1, 2, 3, 0] rfl)
set_option maxHeartbeats 4000000 in
set_option maxRecDepth 100000 in
theorem law_case9 {p : Program} {e : Env} {s : State} {m : MethodId} {below : List Frame} {meth : Method} {c : Code} (l : Launch) {b L : Nat} {xs : Nat → Int32} (hL : L ≤ 192) (C0 : lw_At p s m meth c b L xs) {D : va_G} {h0 fl pa mo : Nat} {d1 d2 : ClassId} (hK : va_K D vwCl (dkT d1 d2) s) (hN : dkN h0 fl pa) (hM : ¬ dkA h0 fl pa mo) (hAq : ∀ q, dkA h0 fl pa q → s.heap.size ≤ q) (a3 : s.heap.size ≤ mo) {i n : Nat} {H : Heap} {locs : List Loc} {ls : Array Slot} (hi : i + 3 ≤ L) (hn1 : 1 ≤ n) (hnn : n ≤ 30000) (hDk : pd_dk D h0 fl pa d1 d2 n H) (hMd : pd_md D mo n H) (hS : va_S (fun q : Nat => s.heap.size ≤ q) s.heap H locs) (hl : lv_has ls 4 [(0, .ref b), (1, .ref h0), (2, .ref mo), (3, .int (nI i))])
    (ih : ∀ (n : Nat) (H : Heap) (locs : List Loc) (ls : Array Slot), 1 ≤ n → n ≤ 30000 → pd_dk D h0 fl pa d1 d2 n H → pd_md D mo n H → va_S (fun q : Nat => s.heap.size ≤ q) s.heap H locs → lv_has ls 4 [(0, .ref b), (1, .ref h0), (2, .ref mo), (3, .int (nI (i + 3)))] → W p l e room_1 s m #[Value.ref b] below meth c H locs 600000 7290000 (lw_Z below #[Value.ref b] s) (F0 m 18 ls [])) : W p l e room_1 s m #[Value.ref b] below meth c H locs 600000 7290000 (lw_Z below #[Value.ref b] s) (F0 m 253 ls []) := by
  obtain ⟨hx, hb, hr, hml, hown, hts, hX, hbl, hlocks, hgv⟩ := id C0
  have hbA : ¬ (fun q : Nat => s.heap.size ≤ q) b := Nat.not_le.mpr hbl
  have CF : CallFix p m c code 4 s #[Value.ref b] lw_all R_law := ⟨hx, hb, hml, hown, fun w h => hts w (lw_all_tbl h)⟩
  obtain ⟨F, hF⟩ := pd_fact_of hn1
  obtain ⟨v, hv⟩ := pd_os_ex hn1 hnn (xs (i + 1))
  refine lv_aload_n hx hb dL_law_253 rfl (lv_at hl 1 rfl) ?_
  refine lv_aload_n hx hb dL_law_254 rfl (lv_at hl 0 rfl) ?_
  refine lv_iload_n hx hb dL_law_255 rfl (lv_at hl 3 rfl) ?_
  refine lv_iconst (v := nI 1) hx hb dL_law_256 (by decide) ?_
  refine pw_add hx hb dL_law_257 (i + 1) rfl ?_
  refine pw_sld hx hb hX hbl hbA hS hL (by omega) dL_law_258 ?_
  refine pc_call (n := 1) CF (metX0_order l D d1 d2 h0 fl pa hN n F hn1 hnn hF (xs (i + 1)) v hv) (lw_V q123 q124 q125 q17 q126) rfl rfl (by decide +kernel) rfl ⟨by decide, by decide⟩ hK (hDk.ob.recv hK) hDk rfl hl.1 (Nat.le_of_ble_eq_true rfl) dL_law_259 ⟨by decide, by decide⟩ hS hAq (fun r1 H locs hr1 hDk2 hz hk hS => ?_)
  have hMd := pd_md.kept hMd hM hk
  have hDk := hDk2
  refine lv_aload_n hx hb dL_law_262 rfl (lv_at hl 2 rfl) ?_
  refine lv_aload_n hx hb dL_law_263 rfl (lv_at hl 0 rfl) ?_
  refine lv_iload_n hx hb dL_law_264 rfl (lv_at hl 3 rfl) ?_
  refine lv_iconst (v := nI 1) hx hb dL_law_265 (by decide) ?_
  refine pw_add hx hb dL_law_266 (i + 1) rfl ?_
  refine pw_sld hx hb hX hbl hbA hS hL (by omega) dL_law_267 ?_
  refine pp_call (n := 1) CF (metX1_order l D (dkT d1 d2) _ mo n hMd (xs (i + 1)) v hn1 hnn hv) (lw_V q202 q203 q204 q18 q205) rfl rfl (by decide +kernel) rfl ⟨by decide, by decide⟩ hK (hMd.recv hK) rfl hl.1 (Nat.le_of_ble_eq_true rfl) dL_law_268 ⟨by decide, by decide⟩ (fun r2 hr2 => ?_)
  refine lv_icmp_eq (tgt := 312) hx hb dL_law_271 (by decide) (fun c271 => ?_) (fun c271 => absurd (Eq.trans hr1 (Eq.symm hr2)) c271)
  refine lv_iinc (v := nI (i + 3)) (lv' := [(3, .int (nI (i + 3))), (0, .ref b), (1, .ref h0), (2, .ref mo)]) hx hb dL_law_312 hl (k := 3) rfl (pw_i3 _) (by decide) rfl (fun ls hl => ?_)
  refine lv_goto (tgt := 18) hx hb dL_law_315 (by decide) ?_
  exact ih n _ _ ls hn1 hnn hDk hMd hS (lv_sub hl [1, 2, 3, 0] rfl)
set_option maxHeartbeats 4000000 in
set_option maxRecDepth 100000 in
theorem law_case10 {p : Program} {e : Env} {s : State} {m : MethodId} {below : List Frame} {meth : Method} {c : Code} (l : Launch) {b L : Nat} {xs : Nat → Int32} (hL : L ≤ 192) (C0 : lw_At p s m meth c b L xs) {D : va_G} {h0 fl pa mo : Nat} {d1 d2 : ClassId} (hK : va_K D vwCl (dkT d1 d2) s) (hN : dkN h0 fl pa) (hM : ¬ dkA h0 fl pa mo) (hAq : ∀ q, dkA h0 fl pa q → s.heap.size ≤ q) (a3 : s.heap.size ≤ mo) {i n : Nat} {H : Heap} {locs : List Loc} {ls : Array Slot} (hi : i + 3 ≤ L) (hn1 : 1 ≤ n) (hnn : n ≤ 30000) (hDk : pd_dk D h0 fl pa d1 d2 n H) (hMd : pd_md D mo n H) (hS : va_S (fun q : Nat => s.heap.size ≤ q) s.heap H locs) (hl : lv_has ls 4 [(0, .ref b), (1, .ref h0), (2, .ref mo), (3, .int (nI i))])
    (ih : ∀ (n : Nat) (H : Heap) (locs : List Loc) (ls : Array Slot), 1 ≤ n → n ≤ 30000 → pd_dk D h0 fl pa d1 d2 n H → pd_md D mo n H → va_S (fun q : Nat => s.heap.size ≤ q) s.heap H locs → lv_has ls 4 [(0, .ref b), (1, .ref h0), (2, .ref mo), (3, .int (nI (i + 3)))] → W p l e room_1 s m #[Value.ref b] below meth c H locs 600000 7290000 (lw_Z below #[Value.ref b] s) (F0 m 18 ls [])) : W p l e room_1 s m #[Value.ref b] below meth c H locs 600000 7290000 (lw_Z below #[Value.ref b] s) (F0 m 276 ls []) := by
  obtain ⟨hx, hb, hr, hml, hown, hts, hX, hbl, hlocks, hgv⟩ := id C0
  have hbA : ¬ (fun q : Nat => s.heap.size ≤ q) b := Nat.not_le.mpr hbl
  have CF : CallFix p m c code 4 s #[Value.ref b] lw_all R_law := ⟨hx, hb, hml, hown, fun w h => hts w (lw_all_tbl h)⟩
  obtain ⟨v, hv⟩ := pd_rs_ex hn1 (xs (i + 1))
  refine lv_aload_n hx hb dL_law_276 rfl (lv_at hl 1 rfl) ?_
  refine lv_aload_n hx hb dL_law_277 rfl (lv_at hl 0 rfl) ?_
  refine lv_iload_n hx hb dL_law_278 rfl (lv_at hl 3 rfl) ?_
  refine lv_iconst (v := nI 1) hx hb dL_law_279 (by decide) ?_
  refine pw_add hx hb dL_law_280 (i + 1) rfl ?_
  refine pw_sld hx hb hX hbl hbA hS hL (by omega) dL_law_281 ?_
  refine pp_call (n := 1) CF (metX0_root l D (dkT d1 d2) _ h0 n hDk.ob (xs (i + 1)) v hn1 hnn hv) (lw_V q128 q129 q130 q17 q131) rfl rfl (by decide +kernel) rfl ⟨by decide, by decide⟩ hK (hDk.ob.recv hK) rfl hl.1 (Nat.le_of_ble_eq_true rfl) dL_law_282 ⟨by decide, by decide⟩ (fun r1 hr1 => ?_)
  refine lv_aload_n hx hb dL_law_285 rfl (lv_at hl 2 rfl) ?_
  refine lv_aload_n hx hb dL_law_286 rfl (lv_at hl 0 rfl) ?_
  refine lv_iload_n hx hb dL_law_287 rfl (lv_at hl 3 rfl) ?_
  refine lv_iconst (v := nI 1) hx hb dL_law_288 (by decide) ?_
  refine pw_add hx hb dL_law_289 (i + 1) rfl ?_
  refine pw_sld hx hb hX hbl hbA hS hL (by omega) dL_law_290 ?_
  refine pp_call (n := 1) CF (metX1_root l D (dkT d1 d2) _ mo n hMd (xs (i + 1)) v hn1 hnn hv) (lw_V q210 q211 q212 q18 q213) rfl rfl (by decide +kernel) rfl ⟨by decide, by decide⟩ hK (hMd.recv hK) rfl hl.1 (Nat.le_of_ble_eq_true rfl) dL_law_291 ⟨by decide, by decide⟩ (fun r2 hr2 => ?_)
  refine lv_icmp_eq (tgt := 312) hx hb dL_law_294 (by decide) (fun c294 => ?_) (fun c294 => absurd (Eq.trans hr1 (Eq.symm hr2)) c294)
  refine lv_iinc (v := nI (i + 3)) (lv' := [(3, .int (nI (i + 3))), (0, .ref b), (1, .ref h0), (2, .ref mo)]) hx hb dL_law_312 hl (k := 3) rfl (pw_i3 _) (by decide) rfl (fun ls hl => ?_)
  refine lv_goto (tgt := 18) hx hb dL_law_315 (by decide) ?_
  exact ih n _ _ ls hn1 hnn hDk hMd hS (lv_sub hl [1, 2, 3, 0] rfl)
set_option maxHeartbeats 4000000 in
set_option maxRecDepth 100000 in
theorem law_case11 {p : Program} {e : Env} {s : State} {m : MethodId} {below : List Frame} {meth : Method} {c : Code} (l : Launch) {b L : Nat} {xs : Nat → Int32} (hL : L ≤ 192) (C0 : lw_At p s m meth c b L xs) {D : va_G} {h0 fl pa mo : Nat} {d1 d2 : ClassId} (hK : va_K D vwCl (dkT d1 d2) s) (hN : dkN h0 fl pa) (hM : ¬ dkA h0 fl pa mo) (hAq : ∀ q, dkA h0 fl pa q → s.heap.size ≤ q) (a3 : s.heap.size ≤ mo) {i n : Nat} {H : Heap} {locs : List Loc} {ls : Array Slot} (hi : i + 3 ≤ L) (hn1 : 1 ≤ n) (hnn : n ≤ 30000) (hDk : pd_dk D h0 fl pa d1 d2 n H) (hMd : pd_md D mo n H) (hS : va_S (fun q : Nat => s.heap.size ≤ q) s.heap H locs) (hl : lv_has ls 4 [(0, .ref b), (1, .ref h0), (2, .ref mo), (3, .int (nI i))])
    (ih : ∀ (n : Nat) (H : Heap) (locs : List Loc) (ls : Array Slot), 1 ≤ n → n ≤ 30000 → pd_dk D h0 fl pa d1 d2 n H → pd_md D mo n H → va_S (fun q : Nat => s.heap.size ≤ q) s.heap H locs → lv_has ls 4 [(0, .ref b), (1, .ref h0), (2, .ref mo), (3, .int (nI (i + 3)))] → W p l e room_1 s m #[Value.ref b] below meth c H locs 600000 7290000 (lw_Z below #[Value.ref b] s) (F0 m 18 ls [])) : W p l e room_1 s m #[Value.ref b] below meth c H locs 600000 7290000 (lw_Z below #[Value.ref b] s) (F0 m 299 ls []) := by
  obtain ⟨hx, hb, hr, hml, hown, hts, hX, hbl, hlocks, hgv⟩ := id C0
  have hbA : ¬ (fun q : Nat => s.heap.size ≤ q) b := Nat.not_le.mpr hbl
  have CF : CallFix p m c code 4 s #[Value.ref b] lw_all R_law := ⟨hx, hb, hml, hown, fun w h => hts w (lw_all_tbl h)⟩
  obtain ⟨v, hv⟩ := pd_gs_ex hnn
  refine lv_aload_n hx hb dL_law_299 rfl (lv_at hl 1 rfl) ?_
  refine pp_call (n := 0) CF (metX0_generator l D (dkT d1 d2) _ h0 n hDk.ob v hn1 hnn hv) (lw_V q140 q141 q142 q17 q143) rfl rfl (by decide +kernel) rfl ⟨by decide, by decide⟩ hK (hDk.ob.recv hK) rfl hl.1 (Nat.le_of_ble_eq_true rfl) dL_law_300 ⟨by decide, by decide⟩ (fun r1 hr1 => ?_)
  refine lv_aload_n hx hb dL_law_303 rfl (lv_at hl 2 rfl) ?_
  refine pp_call (n := 0) CF (metX1_generator l D (dkT d1 d2) _ mo n hMd v hn1 hnn hv) (lw_V q214 q215 q216 q18 q217) rfl rfl (by decide +kernel) rfl ⟨by decide, by decide⟩ hK (hMd.recv hK) rfl hl.1 (Nat.le_of_ble_eq_true rfl) dL_law_304 ⟨by decide, by decide⟩ (fun r2 hr2 => ?_)
  refine lv_icmp_eq (tgt := 312) hx hb dL_law_307 (by decide) (fun c307 => ?_) (fun c307 => absurd (Eq.trans hr1 (Eq.symm hr2)) c307)
  refine lv_iinc (v := nI (i + 3)) (lv' := [(3, .int (nI (i + 3))), (0, .ref b), (1, .ref h0), (2, .ref mo)]) hx hb dL_law_312 hl (k := 3) rfl (pw_i3 _) (by decide) rfl (fun ls hl => ?_)
  refine lv_goto (tgt := 18) hx hb dL_law_315 (by decide) ?_
  exact ih n _ _ ls hn1 hnn hDk hMd hS (lv_sub hl [1, 2, 3, 0] rfl)
end
section
set_option maxHeartbeats 4000000 in
set_option maxRecDepth 100000 in
theorem law_loop {p : Program} {e : Env} {s : State} {m : MethodId} {below : List Frame} {meth : Method} {c : Code} (l : Launch) {b L : Nat} {xs : Nat → Int32} (hL : L ≤ 192) (C0 : lw_At p s m meth c b L xs) {D : va_G} {h0 fl pa mo : Nat} {d1 d2 : ClassId} (hK : va_K D vwCl (dkT d1 d2) s) (hN : dkN h0 fl pa) (hM : ¬ dkA h0 fl pa mo) (hAq : ∀ q, dkA h0 fl pa q → s.heap.size ≤ q) (a3 : s.heap.size ≤ mo) :
    ∀ (k i n : Nat) (H : Heap) (locs : List Loc) (ls : Array Slot), L + 1 - i < k → i ≤ L + 3 → 1 ≤ n → n ≤ 30000 → pd_dk D h0 fl pa d1 d2 n H → pd_md D mo n H → va_S (fun q : Nat => s.heap.size ≤ q) s.heap H locs → lv_has ls 4 [(0, .ref b), (1, .ref h0), (2, .ref mo), (3, .int (nI i))] → W p l e room_1 s m #[Value.ref b] below meth c H locs 600000 7290000 (lw_Z below #[Value.ref b] s) (F0 m 18 ls []) := by
  obtain ⟨hx, hb, hr, hml, hown, hts, hX, hbl, hlocks, hgv⟩ := id C0
  have hbA : ¬ (fun q : Nat => s.heap.size ≤ q) b := Nat.not_le.mpr hbl
  intro k
  induction k with
  | zero =>
    intro i n H locs ls hm
    exact absurd hm (Nat.not_lt_zero _)
  | succ k ih =>
    intro i n H locs ls hm hi3 hn1 hnn hDk hMd hS hl
    refine lv_iload_n hx hb dL_law_18 rfl (lv_at hl 3 rfl) ?_
    refine lv_aload_n hx hb dL_law_19 rfl (lv_at hl 0 rfl) ?_
    refine va_slen hx hb hX hbl hbA hS dL_law_20 ?_
    refine lv_iconst (v := nI 3) hx hb dL_law_21 (by decide) ?_
    refine lv_isub hx hb dL_law_22 ?_
    refine lv_icmp_gt (tgt := 318) hx hb dL_law_23 (by decide) (fun c23 => ?_) (fun c23 => ?_)
    · refine lv_iconst (v := 1) hx hb dL_law_318 (by decide) ?_
      refine va_forget (fun q hq => hS.2.2 q hq) ?_
      exact lw_ret hx hb hr hlocks dL_law_319
    · have hi : i + 3 ≤ L := by
        rcases Nat.lt_or_ge L (i + 3) with q | q
        · exact absurd ((pd_lt3 hL (by omega)).mpr q) c23
        · exact q
      have ih2 : ∀ (n : Nat) (H : Heap) (locs : List Loc) (ls : Array Slot), 1 ≤ n → n ≤ 30000 → pd_dk D h0 fl pa d1 d2 n H → pd_md D mo n H → va_S (fun q : Nat => s.heap.size ≤ q) s.heap H locs → lv_has ls 4 [(0, .ref b), (1, .ref h0), (2, .ref mo), (3, .int (nI (i + 3)))] → W p l e room_1 s m #[Value.ref b] below meth c H locs 600000 7290000 (lw_Z below #[Value.ref b] s) (F0 m 18 ls []) := fun n H locs ls a b c d e f => ih (i + 3) n H locs ls (by omega) (by omega) a b c d e f
      refine lv_aload_n hx hb dL_law_26 rfl (lv_at hl 0 rfl) ?_
      refine lv_iload_n hx hb dL_law_27 rfl (lv_at hl 3 rfl) ?_
      refine pw_sld hx hb hX hbl hbA hS hL (by omega) dL_law_28 ?_
      refine lv_bipush (v := nI 15) hx hb dL_law_29 (by decide) ?_
      refine lv_iand hx hb dL_law_31 ?_
      obtain ⟨t, ht, et⟩ := pk_andE (xs i) (m := nI 15) 4 (by decide)
      rw [et]
      rcases (show t = 0 ∨ t = 1 ∨ t = 2 ∨ t = 3 ∨ t = 4 ∨ t = 5 ∨ t = 6 ∨ t = 7 ∨ t = 8 ∨ t = 9 ∨ t = 10 ∨ t = 11 ∨ 12 ≤ t by omega) with rfl | rfl | rfl | rfl | rfl | rfl | rfl | rfl | rfl | rfl | rfl | rfl | h12
      · refine lv_tableIn (off := 64) (tgt := 96) hx hb dL_law_32 (by decide) (by decide) rfl (by decide) ?_
        exact law_case0 l hL C0 hK hN hM hAq a3 hi hn1 hnn hDk hMd hS hl ih2
      · refine lv_tableIn (off := 87) (tgt := 119) hx hb dL_law_32 (by decide) (by decide) rfl (by decide) ?_
        exact law_case1 l hL C0 hK hN hM hAq a3 hi hn1 hnn hDk hMd hS hl ih2
      · refine lv_tableIn (off := 100) (tgt := 132) hx hb dL_law_32 (by decide) (by decide) rfl (by decide) ?_
        exact law_case2 l hL C0 hK hN hM hAq a3 hi hn1 hnn hDk hMd hS hl ih2
      · refine lv_tableIn (off := 113) (tgt := 145) hx hb dL_law_32 (by decide) (by decide) rfl (by decide) ?_
        exact law_case3 l hL C0 hK hN hM hAq a3 hi hn1 hnn hDk hMd hS hl ih2
      · refine lv_tableIn (off := 136) (tgt := 168) hx hb dL_law_32 (by decide) (by decide) rfl (by decide) ?_
        exact law_case4 l hL C0 hK hN hM hAq a3 hi hn1 hnn hDk hMd hS hl ih2
      · refine lv_tableIn (off := 149) (tgt := 181) hx hb dL_law_32 (by decide) (by decide) rfl (by decide) ?_
        exact law_case5 l hL C0 hK hN hM hAq a3 hi hn1 hnn hDk hMd hS hl ih2
      · refine lv_tableIn (off := 162) (tgt := 194) hx hb dL_law_32 (by decide) (by decide) rfl (by decide) ?_
        exact law_case6 l hL C0 hK hN hM hAq a3 hi hn1 hnn hDk hMd hS hl ih2
      · refine lv_tableIn (off := 175) (tgt := 207) hx hb dL_law_32 (by decide) (by decide) rfl (by decide) ?_
        exact law_case7 l hL C0 hK hN hM hAq a3 hi hn1 hnn hDk hMd hS hl ih2
      · refine lv_tableIn (off := 188) (tgt := 220) hx hb dL_law_32 (by decide) (by decide) rfl (by decide) ?_
        exact law_case8 l hL C0 hK hN hM hAq a3 hi hn1 hnn hDk hMd hS hl ih2
      · refine lv_tableIn (off := 221) (tgt := 253) hx hb dL_law_32 (by decide) (by decide) rfl (by decide) ?_
        exact law_case9 l hL C0 hK hN hM hAq a3 hi hn1 hnn hDk hMd hS hl ih2
      · refine lv_tableIn (off := 244) (tgt := 276) hx hb dL_law_32 (by decide) (by decide) rfl (by decide) ?_
        exact law_case10 l hL C0 hK hN hM hAq a3 hi hn1 hnn hDk hMd hS hl ih2
      · refine lv_tableIn (off := 267) (tgt := 299) hx hb dL_law_32 (by decide) (by decide) rfl (by decide) ?_
        exact law_case11 l hL C0 hK hN hM hAq a3 hi hn1 hnn hDk hMd hS hl ih2
      · refine lv_tableOut (tgt := 312) hx hb dL_law_32 (Or.inr (by rw [nI_toInt (by omega)]; omega)) (by decide) ?_
        refine lv_iinc (v := nI (i + 3)) (lv' := [(3, .int (nI (i + 3))), (0, .ref b), (1, .ref h0), (2, .ref mo)]) hx hb dL_law_312 hl (k := 3) rfl (pw_i3 _) (by decide) rfl (fun ls hl => ?_)
        refine lv_goto (tgt := 18) hx hb dL_law_315 (by decide) ?_
        exact ih2 n _ _ ls hn1 hnn hDk hMd hS (lv_sub hl [1, 2, 3, 0] rfl)
end
section
/-! from the law's entry to its loop -/
set_option maxHeartbeats 4000000 in
set_option maxRecDepth 100000 in
/-- from the entry, for every script of at most 192 ints, the law comes to its end with true -/
theorem whole_start {p : Program} {e : Env} {s : State} {m : MethodId} {below : List Frame} {meth : Method} {c : Code} (l : Launch) {b L : Nat} {xs : Nat → Int32} (hL : L ≤ 192) (C0 : lw_At p s m meth c b L xs) : W p l e room_1 s m #[Value.ref b] below meth c s.heap [] 0 0 (lw_Z below #[Value.ref b] s) (entryFrame m ([Value.ref b] : List Value).toArray 4) := by
  obtain ⟨hx, hb, hr, hml, hown, hts0, hX, hbl, hlocks, hgv⟩ := id C0
  have hts : ∀ w ∈ lw_all, w.before #[Value.ref b] s = true := fun w h => hts0 w (lw_all_tbl h)
  have hA : ∀ q : Nat, s.heap.size ≤ q → (fun q : Nat => s.heap.size ≤ q) q := fun _ h => h
  obtain ⟨c0, iS0, hKn0⟩ := u_known (C := RX0) (T := TX0) (N := 6) (n := 6) hts in_X0 (hts _ q20)
  obtain ⟨c1, iS1, hKn1⟩ := u_known (C := RX1) (T := TX1) (N := 1) (n := 1) hts in_X1 (hts _ q149)
  obtain ⟨D, hKc⟩ : ∃ D : va_G, ∀ (k : Nat) (q : vw_C), vwCl[k]? = some q → u_Kn s q.1 q.2.1 q.2.2 (D.1 k) (D.2 k) := by
    refine ⟨(fun k => if k = 0 then c0 else c1, fun k => if k = 0 then iS0 else iS1), ?_⟩
    intro k q hq
    match k, hq with
    | 0, hq => cases hq; exact hKn0
    | 1, hq => cases hq; exact hKn1
    | k + 2, hq => cases hq
  have hS : va_S (fun q : Nat => s.heap.size ≤ q) s.heap s.heap [] := va_S.rf
  have hK : va_K D vwCl [] s := ⟨hKc, fun k q h => by simp at h⟩
  have hP : va_P D vwCl [] s.heap := fun k q h => by simp at h
  have hD : va_D (fun q : Nat => s.heap.size ≤ q) [] := ⟨fun i j p q h => by simp at h, fun k q h => by simp at h⟩
  have hl := lv_entry ([.ref b]) (n := 4) (Nat.le_of_ble_eq_true rfl)
  rw [lg_entry_eq]
  generalize (lg_sl ([.ref b]) ++ List.replicate (4 - (lg_sl ([.ref b])).length) Slot.unset).toArray = ls at hl ⊢
  have hl : lv_has ls 4 [(0, .ref b)] := hl
  refine va_new (ci := 0) (fs := [.int 0, .int 0, .int 0, .null, .int 0, .null]) (C := RX0) (T := TX0) (N := 6) hx hb hts in_X0 tyX0 tyX0_ok hown (hts _ q19) (hts _ q20) (hts _ q17) hK hP hD hS hA rfl (fun j hj => by rcases (show j = 0 ∨ j = 1 ∨ j = 2 ∨ j = 3 ∨ j = 4 ∨ j = 5 by omega) with rfl | rfl | rfl | rfl | rfl | rfl <;> rfl) (by decide) (by decide) dL_law_0 (fun h0 H hP hD hS => ?_)
  have hP : va_P D vwCl [(h0, .inr (0, [.int 0, .int 0, .int 0, .null, .int 0, .null]))] H := hP
  have a0 : s.heap.size ≤ h0 := hD.2 0 _ rfl
  have hHs : s.heap.size ≤ H.size := hS.1
  have hfr : ∀ q, ikA h0 H.size q → s.heap.size ≤ q := fun q h => by
    rcases h with e | e
    · rw [e]; exact a0
    · omega
  refine W.widen (k := 1) (n := 6) (by decide) (by decide) ?_
  refine lv_dup hx hb dL_law_3 rfl ?_
  refine va_callv (va_runI (As := []) (rest := [.ref h0]) ⟨hx, hb, hml, hown, hts⟩ (metX0_init l D h0 H.size) (cwI 0 hts (lw_meth q23) rfl rfl rfl (hts _ q17) (hts _ q21) (hts _ q22) rfl (by decide +kernel) ⟨by decide, by decide⟩) ⟨fun a U g mk q => by obtain ⟨q0, q1, qP, qK⟩ := q; exact ⟨q0, q1, qP, va_K.moved (u := U) (U := U.calling g mk a) (Vm.Alike.refl U.vm) qK⟩, fun U hU hW => ⟨rfl, by rw [hU], by rw [hU]; exact hP, va_K.moved hW.alike hK⟩⟩ rfl rfl hl.1 rfl (lv_room (Nat.le_of_ble_eq_true rfl)) dL_law_4 ⟨by decide, by decide⟩) hS (fun q _ h => hfr q h) hfr (fun u t H1 locs ht hvm _ hB hz1 hk1 hS => ?_)
  obtain ⟨fl, pa, d1, d2⟩ := u
  obtain ⟨hP1, hK1, hN, b1, b2⟩ := hB
  have hP1 : va_P D vwCl (dkW h0 fl pa d1 d2 1 0 0 0 (fun _ => 0) (fun _ => 0)) H1 := by rw [← ht]; exact hP1
  have hK1 : va_K D vwCl (dkT d1 d2) s := va_K.moved hvm.symm hK1
  have hN : dkN h0 fl pa := hN
  have b1 : H.size ≤ fl := b1
  have b2 : H.size ≤ pa := b2
  have hAq : ∀ q, dkA h0 fl pa q → s.heap.size ≤ q := fun q h => by
    rcases h with e | e | e
    · rw [e]; exact a0
    · rw [e]; omega
    · rw [e]; omega
  refine W.widen (k := 3) (n := 46) (by decide) (by decide) ?_
  refine lv_astore_n (lv' := [(1, .ref h0), (0, .ref b)]) hx hb dL_law_7 rfl hl (by decide) rfl (fun ls hl => ?_)
  refine va_new (ci := 1) (fs := [.int 0]) (C := RX1) (T := TX1) (N := 1) hx hb hts in_X1 tyX1 tyX1_ok hown (hts _ q148) (hts _ q149) (hts _ q18) hK1 hP1 (dkD hN hAq) hS hA rfl (fun j hj => by rcases (show j = 0 by omega) with rfl <;> rfl) (by decide) (by decide) dL_law_8 (fun mo H2 hP2 hD2 hS => ?_)
  have hD2 : va_D (fun q : Nat => s.heap.size ≤ q) (dkW h0 fl pa d1 d2 1 0 0 0 (fun _ => 0) (fun _ => 0) ++ [(mo, .inr (1, [.int 0]))]) := hD2
  have a3 : s.heap.size ≤ mo := hD2.2 3 _ rfl
  have hM : ¬ dkA h0 fl pa mo := fun h => by
    rcases h with e | e | e
    · exact absurd (hD2.1 3 0 _ _ rfl rfl e) (by decide)
    · exact absurd (hD2.1 3 1 _ _ rfl rfl e) (by decide)
    · exact absurd (hD2.1 3 2 _ _ rfl rfl e) (by decide)
  have hPd : va_P D vwCl (dkW h0 fl pa d1 d2 1 0 0 0 (fun _ => 0) (fun _ => 0)) H2 := hP2.sub [0, 1, 2] rfl
  have hPm : va_P D vwCl [(mo, .inr (1, [.int 0]))] H2 := hP2.sub [3] rfl
  have hDk : pd_dk D h0 fl pa d1 d2 1 H2 := ⟨0, 0, 0, _, _, hPd, Or.inl rfl⟩
  refine W.widen (k := 4) (n := 47) (by decide) (by decide) ?_
  refine lv_dup hx hb dL_law_11 rfl ?_
  refine va_callv (va_runI (As := []) (rest := [.ref mo]) ⟨hx, hb, hml, hown, hts⟩ (metX1_init l D (dkT d1 d2) mo) (cwI 0 hts (lw_meth q152) rfl rfl rfl (hts _ q18) (hts _ q150) (hts _ q151) rfl (by decide +kernel) ⟨by decide, by decide⟩) ⟨pc_blind, fun U hU hW => ⟨rfl, by rw [hU]; exact hPm, va_K.moved hW.alike hK1⟩⟩ rfl rfl hl.1 rfl (lv_room (Nat.le_of_ble_eq_true rfl)) dL_law_12 ⟨by decide, by decide⟩) hS (fun q _ h => by rw [show q = mo from h]; exact a3) (fun q h => by rw [show q = mo from h]; exact a3) (fun u t H3 locs ht hvm _ hB hz1 hk1 hS => ?_)
  have hMd : pd_md D mo 1 H3 := by rw [← ht]; exact hB
  have hDk := pd_dk.kept hDk hM hk1
  refine W.widen (k := 600000) (n := 7290000) (by decide) (by decide) ?_
  refine lv_astore_n (lv' := [(2, .ref mo), (1, .ref h0), (0, .ref b)]) hx hb dL_law_15 rfl hl (by decide) rfl (fun ls hl => ?_)
  refine lv_iconst (v := nI 0) hx hb dL_law_16 (by decide) ?_
  refine lv_istore_n (lv' := [(3, .int (nI 0)), (2, .ref mo), (1, .ref h0), (0, .ref b)]) hx hb dL_law_17 rfl hl (by decide) rfl (fun ls hl => ?_)
  exact law_loop l hL C0 hK1 hN hM hAq a3 (L + 2) 0 1 _ _ ls (by omega) (by omega) (by decide) (by decide) hDk hMd hS (lv_sub hl [3, 2, 1, 0] rfl)
end
section
set_option maxHeartbeats 4000000 in
theorem lw_walk (l : Launch) (b : Addr) (xs : List Int32) : MetFree l x (headSpec (Jvm.Cond.code x code maxLocals ret :: tables_1) room_1) (lw_P b xs) (fun _ _ _ _ _ => True) lw_Q := by
  refine MetFree.of_bodyS (code := code) (maxLocals := maxLocals) (ret := ret) (by decide) ?_ ?_
  · intro args s m h hn
    obtain ⟨meth, c, h1, h2, h3, h4, h5, h6, -, -⟩ := Cond.code_spec hn (atoms_spec (ws := Jvm.Cond.code x code maxLocals ret :: tables_1) h _ List.mem_cons_self)
    exact ⟨meth, c, h1, h2, h3, h4, h5, h6⟩
  · intro p e s m args below meth c s₁ B hml0 hP _
    obtain ⟨rfl, hx, hbd, hgv⟩ := hP
    obtain ⟨scr, harrAt, hlist, hof, hsmall⟩ := hx
    obtain ⟨hcb, hkn, -, -⟩ := State.arrayAt?_spec harrAt
    have hown : s.vm.findClass R_law = some m.cls := findClass_of_methodNamed B.named
    have hts0 : ∀ c ∈ (Jvm.Cond.code x code maxLocals ret :: tables_1), c.before #[Value.ref b] s = true := atoms_spec (ws := Jvm.Cond.code x code maxLocals ret :: tables_1) B.pre
    have hts : ∀ w ∈ lw_tbl, w.before #[Value.ref b] s = true := k2_hts_sels lw_privs (fun w hw => hts0 w (List.mem_cons_of_mem _ hw)) lw_privs_ok
    have hml : c.maxLocals = 4 := B.maxLocals_eq (hts0 _ List.mem_cons_self)
    have X₀ : Stand p l e room_1 s m #[Value.ref b] below meth c s₁ [] 0 0 := Stand.of_body B
    have hh0 : s₁.heap = s.heap := by rw [B.state]; rfl
    have hsz : scr.slots.size = xs.length := by rw [← Array.length_toList, hlist, List.length_map]
    have hval : ∀ j : Nat, j < xs.length → scr.slots[j]? = some (.int (xs.getD j 0)) := fun j hj => by
      rw [← Array.getElem?_toList, hlist]
      simp [hj]
    have hbl : b < s.heap.size := (Array.getElem?_eq_some_iff.mp hcb).1
    have hX : va_X b xs.length (fun j => xs.getD j 0) s s.heap := ⟨scr, hcb, hof, hkn, hsz, hval⟩
    have K : W p l e room_1 s m #[Value.ref b] below meth c s₁.heap [] 0 0 (lw_Z below #[Value.ref b] s) (entryFrame m ([Value.ref b] : List Value).toArray 4) := by
      rw [hh0]
      exact whole_start l hbd ⟨B.exec, B.bytes, B.returns, hml, hown, hts, hX, hbl, B.notSynchronized, hgv⟩
    obtain ⟨t, a1, o, b1, b2, b3⟩ := K s₁ rfl X₀
    exact ⟨t, o, a1, b1, b2, b3⟩
theorem lw_pre_spec {args : Array Value} {s : State} (h : (Jvm.Cond.and given_1 narrow_1).before args s = true) (hr : rest_1_c.before args s = true) : ∃ (b : Addr) (xs : List Int32), lw_P b xs args s := by
  have hs := flat_of_before _ h
  have hq := flat_of_before _ hr
  have hc : (Cond.count 1).before args s = true := hs _ (by decide +kernel)
  have harr : (Cond.arrayOf (.arg 0) .int).before args s = true := hs _ (by decide +kernel)
  have hle : (Cond.le (.length (.arg 0)) (.int 192)).before args s = true := hs _ (by decide +kernel)
  have hlen : (Cond.isInt (.length (.arg 0))).before args s = true := hq _ (by decide +kernel)
  have hall : (Cond.all (.arg 0) (.isInt (.elem (.arg 0) (.index 0)))).before args s = true := hq _ (by decide +kernel)
  obtain ⟨b, xs, hb, hx⟩ := State.ints_of_pre rfl harr hlen hall
  have hsm : xs.length < 2 ^ 31 := hx.choose_spec.2.2.2
  have hev : (Term.length (.arg 0)).eval args s none [] s = some (.int xs.length.toInt32) := hx.length_eval hb
  have hv := Cond.le_ints hev (show (Term.int 192).eval args s none [] s = some (.int 192) from rfl)
  have hd : xs.length.toInt32 ≤ 192 := by
    simpa [Cond.before, Cond.holds, hv] using hle
  have hN : xs.length ≤ 192 := (Int32.ofNat_le_ofNat hsm (by decide)).mp (show Int32.ofNat xs.length ≤ Int32.ofNat 192 from hd)
  exact ⟨b, xs, Cond.one_arg hc (show args[0]? = some (.ref b) from hb), hx, hN, h⟩
theorem lw_comes (l : Launch) : Comes l x (Jvm.Cond.code x code maxLocals ret :: tables_1) room_1 (fun tb e args s => Calls_1 tb e args s ∧ rest_1 tb e args s ∧ Pre_1 tb e args s)
    (fun _ _ args s o t => lw_Q args s o t) := by
  intro p e ha hc hk s m args below hf hfit hheap happ hpre
  obtain ⟨b, xs, hP⟩ := lw_pre_spec hpre.2.2 hpre.2.1
  obtain ⟨k, o, h1, h2, h3, hQ⟩ := lw_walk l b xs p e ha hc hk s m args below hf ((Spec.applies_iff_loose hf).mp happ).1 hP trivial
  exact ⟨k, o, h1, h2, h3, hQ⟩
theorem lw_frame {s t : State} {o : Outcome} {args : Array Value} (h : Framed s o t [] 600000 7290000) :
    Framed s o t (fieldLocs frame_1_writes args s ++ arrayLocs frame_1_arrays args s ++ staticLocs frame_1_statics s) 600000 7290000 := h
theorem lw_limb (L : Cond) (hL : ∀ (args : Array Value) (s t : State), L.after args s (.returned (some (.int 1))) t = true) :
    ArmFor flags0 classFile x code maxLocals ret World_1 tables_1 room_1 Calls_1 rest_1 Pre_1
      (fun tb e a s o t => postC L tb e a s o t ∧ Framed s o t (fieldLocs frame_1_writes a s ++ arrayLocs frame_1_arrays a s ++ staticLocs frame_1_statics s) 600000 7290000) := by
  intro l _ _ _ p e ha hc hk s m args below hf hfit hheap happ hpre
  obtain ⟨k, o, h1, h2, h3, rfl, hF⟩ := lw_comes l p e ha hc hk s m args below hf hfit hheap happ hpre
  exact ⟨k, _, h1, h2, h3, hL args s _, lw_frame hF⟩
theorem i_vc : Claimed_1_1 ∧ Claimed_1_2 := ⟨lw_limb limb_1_1 (fun args s t => by simp [limb_1_1, Cond.after, Cond.holds, Cond.value]), lw_limb limb_1_2 (fun args s t => Cond.after_iff.mpr (by
  first | (rw [show limb_1_2 = Cond.eq .result (.int 1) from rfl, Cond.eq_ints (x := 1) (y := 1) rfl rfl]; simp; done) | (simp [limb_1_2, Cond.value, Term.eval]; done)))⟩
end
