section
-- ===== PART A: goes FIRST, ahead of the names: the tables' words, and 'selects' of the private methods out of them =====
/-- a private method of a class that the tables say can be made, by its rows of tables_1 -/
def lw_okq (q : MethodName × Nat) : Prop := (q.1.cls ≠ "java/lang/invoke/MethodHandle" ∧ q.1.cls ≠ "java/lang/invoke/VarHandle") ∧ Cond.instantiable q.1.cls q.2 ∈ tables_1 ∧ Cond.privateMethod q.1 ∈ tables_1 ∧ Cond.instanceMethod q.1 ∈ tables_1
set_option maxRecDepth 100000
theorem lw_p0 : lw_okq (⟨"FrequentSets", "isSet", "(I)Z"⟩, 16) := ⟨⟨by decide +kernel, by decide +kernel⟩, List.mem_of_getElem? (i := 4) rfl, List.mem_of_getElem? (i := 67) rfl, List.mem_of_getElem? (i := 68) rfl⟩
theorem lw_p1 : lw_okq (⟨"FrequentSets", "build", "()V"⟩, 16) := ⟨⟨by decide +kernel, by decide +kernel⟩, List.mem_of_getElem? (i := 4) rfl, List.mem_of_getElem? (i := 79) rfl, List.mem_of_getElem? (i := 80) rfl⟩
theorem lw_p2 : lw_okq (⟨"FrequentSets", "orderThings", "()V"⟩, 16) := ⟨⟨by decide +kernel, by decide +kernel⟩, List.mem_of_getElem? (i := 4) rfl, List.mem_of_getElem? (i := 83) rfl, List.mem_of_getElem? (i := 84) rfl⟩
theorem lw_p3 : lw_okq (⟨"FrequentSets", "plant", "(I)V"⟩, 16) := ⟨⟨by decide +kernel, by decide +kernel⟩, List.mem_of_getElem? (i := 4) rfl, List.mem_of_getElem? (i := 87) rfl, List.mem_of_getElem? (i := 88) rfl⟩
theorem lw_p4 : lw_okq (⟨"FrequentSets", "childWith", "(II)I"⟩, 16) := ⟨⟨by decide +kernel, by decide +kernel⟩, List.mem_of_getElem? (i := 4) rfl, List.mem_of_getElem? (i := 91) rfl, List.mem_of_getElem? (i := 92) rfl⟩
theorem lw_p5 : lw_okq (⟨"FrequentSets", "growSets", "()V"⟩, 16) := ⟨⟨by decide +kernel, by decide +kernel⟩, List.mem_of_getElem? (i := 4) rfl, List.mem_of_getElem? (i := 95) rfl, List.mem_of_getElem? (i := 96) rfl⟩
theorem lw_p6 : lw_okq (⟨"FrequentSets", "countOn", "(II)I"⟩, 16) := ⟨⟨by decide +kernel, by decide +kernel⟩, List.mem_of_getElem? (i := 4) rfl, List.mem_of_getElem? (i := 99) rfl, List.mem_of_getElem? (i := 100) rfl⟩
theorem lw_p7 : lw_okq (⟨"FrequentSets", "liftWeights", "(II)V"⟩, 16) := ⟨⟨by decide +kernel, by decide +kernel⟩, List.mem_of_getElem? (i := 4) rfl, List.mem_of_getElem? (i := 103) rfl, List.mem_of_getElem? (i := 104) rfl⟩
theorem lw_p8 : lw_okq (⟨"FrequentSets", "isBound", "(I)Z"⟩, 16) := ⟨⟨by decide +kernel, by decide +kernel⟩, List.mem_of_getElem? (i := 4) rfl, List.mem_of_getElem? (i := 111) rfl, List.mem_of_getElem? (i := 112) rfl⟩
theorem lw_p9 : lw_okq (⟨"FrequentSets", "isClosed", "(II)Z"⟩, 16) := ⟨⟨by decide +kernel, by decide +kernel⟩, List.mem_of_getElem? (i := 4) rfl, List.mem_of_getElem? (i := 119) rfl, List.mem_of_getElem? (i := 120) rfl⟩
theorem lw_p10 : lw_okq (⟨"FrequentSets", "isLargest", "(II)Z"⟩, 16) := ⟨⟨by decide +kernel, by decide +kernel⟩, List.mem_of_getElem? (i := 4) rfl, List.mem_of_getElem? (i := 127) rfl, List.mem_of_getElem? (i := 128) rfl⟩
theorem lw_p11 : lw_okq (⟨"FrequentSets", "sizeOf", "(I)I"⟩, 16) := ⟨⟨by decide +kernel, by decide +kernel⟩, List.mem_of_getElem? (i := 4) rfl, List.mem_of_getElem? (i := 143) rfl, List.mem_of_getElem? (i := 144) rfl⟩
theorem lw_p12 : lw_okq (⟨"FrequentSetsModel", "isSet", "(I)Z"⟩, 3) := ⟨⟨by decide +kernel, by decide +kernel⟩, List.mem_of_getElem? (i := 155) rfl, List.mem_of_getElem? (i := 176) rfl, List.mem_of_getElem? (i := 177) rfl⟩
theorem lw_p13 : lw_okq (⟨"FrequentSetsModel", "countAll", "()V"⟩, 3) := ⟨⟨by decide +kernel, by decide +kernel⟩, List.mem_of_getElem? (i := 155) rfl, List.mem_of_getElem? (i := 188) rfl, List.mem_of_getElem? (i := 189) rfl⟩
theorem lw_p14 : lw_okq (⟨"FrequentSetsModel", "isLevel", "(I)Z"⟩, 3) := ⟨⟨by decide +kernel, by decide +kernel⟩, List.mem_of_getElem? (i := 155) rfl, List.mem_of_getElem? (i := 196) rfl, List.mem_of_getElem? (i := 197) rfl⟩
theorem lw_p15 : lw_okq (⟨"FrequentSetsModel", "isClosed", "(II)Z"⟩, 3) := ⟨⟨by decide +kernel, by decide +kernel⟩, List.mem_of_getElem? (i := 155) rfl, List.mem_of_getElem? (i := 204) rfl, List.mem_of_getElem? (i := 205) rfl⟩
def lw_privs_1 : List (MethodName × Nat) := [(⟨"FrequentSets", "isSet", "(I)Z"⟩, 16), (⟨"FrequentSets", "build", "()V"⟩, 16), (⟨"FrequentSets", "orderThings", "()V"⟩, 16), (⟨"FrequentSets", "plant", "(I)V"⟩, 16), (⟨"FrequentSets", "childWith", "(II)I"⟩, 16), (⟨"FrequentSets", "growSets", "()V"⟩, 16), (⟨"FrequentSets", "countOn", "(II)I"⟩, 16), (⟨"FrequentSets", "liftWeights", "(II)V"⟩, 16), (⟨"FrequentSets", "isBound", "(I)Z"⟩, 16), (⟨"FrequentSets", "isClosed", "(II)Z"⟩, 16), (⟨"FrequentSets", "isLargest", "(II)Z"⟩, 16), (⟨"FrequentSets", "sizeOf", "(I)I"⟩, 16), (⟨"FrequentSetsModel", "isSet", "(I)Z"⟩, 3), (⟨"FrequentSetsModel", "countAll", "()V"⟩, 3), (⟨"FrequentSetsModel", "isLevel", "(I)Z"⟩, 3), (⟨"FrequentSetsModel", "isClosed", "(II)Z"⟩, 3)]
theorem lw_r1 : ∀ q ∈ lw_privs_1, lw_okq q := List.forall_mem_cons.mpr ⟨lw_p0, List.forall_mem_cons.mpr ⟨lw_p1, List.forall_mem_cons.mpr ⟨lw_p2, List.forall_mem_cons.mpr ⟨lw_p3, List.forall_mem_cons.mpr ⟨lw_p4, List.forall_mem_cons.mpr ⟨lw_p5, List.forall_mem_cons.mpr ⟨lw_p6, List.forall_mem_cons.mpr ⟨lw_p7, List.forall_mem_cons.mpr ⟨lw_p8, List.forall_mem_cons.mpr ⟨lw_p9, List.forall_mem_cons.mpr ⟨lw_p10, List.forall_mem_cons.mpr ⟨lw_p11, List.forall_mem_cons.mpr ⟨lw_p12, List.forall_mem_cons.mpr ⟨lw_p13, List.forall_mem_cons.mpr ⟨lw_p14, List.forall_mem_cons.mpr ⟨lw_p15, fun _ h => absurd h List.not_mem_nil⟩⟩⟩⟩⟩⟩⟩⟩⟩⟩⟩⟩⟩⟩⟩⟩
theorem lw_p16 : lw_okq (⟨"FrequentSetsModel", "noGreater", "(II)Z"⟩, 3) := ⟨⟨by decide +kernel, by decide +kernel⟩, List.mem_of_getElem? (i := 155) rfl, List.mem_of_getElem? (i := 208) rfl, List.mem_of_getElem? (i := 209) rfl⟩
theorem lw_p17 : lw_okq (⟨"FrequentSetsModel", "sizeOf", "(I)I"⟩, 3) := ⟨⟨by decide +kernel, by decide +kernel⟩, List.mem_of_getElem? (i := 155) rfl, List.mem_of_getElem? (i := 228) rfl, List.mem_of_getElem? (i := 229) rfl⟩
def lw_privs_2 : List (MethodName × Nat) := [(⟨"FrequentSetsModel", "noGreater", "(II)Z"⟩, 3), (⟨"FrequentSetsModel", "sizeOf", "(I)I"⟩, 3)]
theorem lw_r2 : ∀ q ∈ lw_privs_2, lw_okq q := List.forall_mem_cons.mpr ⟨lw_p16, List.forall_mem_cons.mpr ⟨lw_p17, fun _ h => absurd h List.not_mem_nil⟩⟩
def lw_privs : List (MethodName × Nat) := lw_privs_1 ++ (lw_privs_2)
def lw_tbl : List Cond := k2_sels lw_privs ++ tables_1
theorem lw_privs_ok : ∀ q ∈ lw_privs, lw_okq q := by
  show ∀ q ∈ lw_privs_1 ++ (lw_privs_2), lw_okq q
  exact List.forall_mem_append.mpr ⟨lw_r1, lw_r2⟩
-- ===== ONE list of words for every method: the tables' words that hold all through a run =====
def lw_all : List Cond := lw_tbl.filter goodWord
/-- a word of the tables by its place: claim/WORDS.tsv -/
theorem lw_w {w : Cond} (i : Nat) (h : lw_tbl[i]? = some w) (g : goodWord w = true) : w ∈ lw_all := List.mem_filter.mpr ⟨List.mem_of_getElem? h, g⟩
theorem lw_all_tbl {w : Cond} (h : w ∈ lw_all) : w ∈ lw_tbl := (List.mem_filter.mp h).1
theorem lw_self : GoodIn lw_all lw_all := fun w h => ⟨h, good_of_word (List.mem_filter.mp h).2⟩
/-- a class's field words, by their places -/
theorem lw_in (ws : List Cond) (ps : List Nat) (hp : ws = ps.filterMap (fun i => lw_tbl[i]?)) (hg : ws.all goodWord = true) : ∀ w ∈ ws, w ∈ lw_all := by
  intro w h
  have h1 := List.all_eq_true.mp hg w h
  rw [hp] at h
  obtain ⟨i, -, hi⟩ := List.mem_filterMap.mp h
  exact lw_w i hi h1
/-- the words of a contract for the method y with code b, L locals, answer r -/
abbrev ws_ (y : MethodName) (b : ByteArray) (L : Nat) (r : Option FieldType) : List Cond := Cond.code y b L r :: lw_all
theorem lw_meth {y : MethodName} {b : ByteArray} {L : Nat} {r : Option FieldType} (h : Cond.code y b L r ∈ lw_all) : GoodIn lw_all (ws_ y b L r) := by
  intro w hw
  rcases List.mem_cons.mp hw with e | e
  · rw [e]
    exact lw_self _ h
  · exact lw_self _ e
theorem lw_app {a c : List Cond} (ha : ∀ w ∈ a, w ∈ lw_all) (hc : GoodIn lw_all c) : GoodIn lw_all (a ++ c) := by
  intro w hw
  rcases List.mem_append.mp hw with e | e
  · exact lw_self w (ha w e)
  · exact hc w e
/-- what a call through an object asks: cwV n hts (lw_V ..) -/
theorem lw_V {own : String} {idx : Nat} {C : String} {y : MethodName} {b : ByteArray} {L : Nat} {r : Option FieldType} (h1 : Cond.methodLink own idx y ∈ lw_all) (h2 : Cond.instanceMethod y ∈ lw_all) (h3 : Cond.selects C y y ∈ lw_all) (h4 : Cond.initialized C ∈ lw_all) (h5 : Cond.code y b L r ∈ lw_all) : GoodIn lw_all (wsV own idx C y (ws_ y b L r)) := by
  refine lw_app ?_ (lw_meth h5)
  intro w hw
  simp only [List.mem_cons, List.not_mem_nil, or_false] at hw
  rcases hw with e | e | e | e
  · rw [e]; exact h1
  · rw [e]; exact h2
  · rw [e]; exact h3
  · rw [e]; exact h4
/-- what a static call asks: va_cwS n hts (lw_S ..) -/
theorem lw_S {own : String} {idx : Nat} {y : MethodName} {b : ByteArray} {L : Nat} {r : Option FieldType} (h1 : Cond.methodLink own idx y ∈ lw_all) (h2 : Cond.static y ∈ lw_all) (h3 : Cond.initialized y.cls ∈ lw_all) (h4 : Cond.code y b L r ∈ lw_all) : GoodIn lw_all (va_wsS own idx y (ws_ y b L r)) := by
  refine lw_app ?_ (lw_meth h4)
  intro w hw
  simp only [List.mem_cons, List.not_mem_nil, or_false] at hw
  rcases hw with e | e | e
  · rw [e]; exact h1
  · rw [e]; exact h2
  · rw [e]; exact h3
/-- the words of a contract for a method WITH HANDLERS (hh: its table) -/
abbrev wsW_ (y : MethodName) (b : ByteArray) (L : Nat) (r : Option FieldType) (hh : List (Nat × Nat × Nat × Nat)) : List Cond := Cond.codeWith y b L r hh :: lw_all
theorem lw_methW {y : MethodName} {b : ByteArray} {L : Nat} {r : Option FieldType} {hh : List (Nat × Nat × Nat × Nat)} (h : Cond.codeWith y b L r hh ∈ lw_all) : GoodIn lw_all (wsW_ y b L r hh) := by
  intro w hw
  rcases List.mem_cons.mp hw with e | e
  · rw [e]
    exact lw_self _ h
  · exact lw_self _ e
/-- any list of words by their places (lw_in), good -/
theorem lw_good {ws : List Cond} (h : ∀ w ∈ ws, w ∈ lw_all) : GoodIn lw_all ws := fun w hw => lw_self w (h w hw)
/-- what a call of a method with handlers asks: vx_cwVW n hts (lw_VW ..), vx_cwSW n hts (lw_SW ..) -/
theorem lw_VW {own : String} {idx : Nat} {C : String} {y : MethodName} {b : ByteArray} {L : Nat} {r : Option FieldType} {hh : List (Nat × Nat × Nat × Nat)} (h1 : Cond.methodLink own idx y ∈ lw_all) (h2 : Cond.instanceMethod y ∈ lw_all) (h3 : Cond.selects C y y ∈ lw_all) (h4 : Cond.initialized C ∈ lw_all) (h5 : Cond.codeWith y b L r hh ∈ lw_all) : GoodIn lw_all (wsV own idx C y (wsW_ y b L r hh)) := by
  refine lw_app ?_ (lw_methW h5)
  intro w hw
  simp only [List.mem_cons, List.not_mem_nil, or_false] at hw
  rcases hw with e | e | e | e
  · rw [e]; exact h1
  · rw [e]; exact h2
  · rw [e]; exact h3
  · rw [e]; exact h4
theorem lw_SW {own : String} {idx : Nat} {y : MethodName} {b : ByteArray} {L : Nat} {r : Option FieldType} {hh : List (Nat × Nat × Nat × Nat)} (h1 : Cond.methodLink own idx y ∈ lw_all) (h2 : Cond.static y ∈ lw_all) (h3 : Cond.initialized y.cls ∈ lw_all) (h4 : Cond.codeWith y b L r hh ∈ lw_all) : GoodIn lw_all (va_wsS own idx y (wsW_ y b L r hh)) := by
  refine lw_app ?_ (lw_methW h4)
  intro w hw
  simp only [List.mem_cons, List.not_mem_nil, or_false] at hw
  rcases hw with e | e | e
  · rw [e]; exact h1
  · rw [e]; exact h2
  · rw [e]; exact h3
/-- a word by its place in its run of the tables -/
theorem lw_at {r : List Cond} (hr : ∀ w ∈ r, w ∈ lw_tbl) {w : Cond} (i : Nat) (h : r[i]? = some w) : w ∈ lw_tbl := hr w (List.mem_of_getElem? h)
theorem lw_g {w : Cond} (h : w ∈ lw_tbl) (g : goodWord w = true) : w ∈ lw_all := List.mem_filter.mpr ⟨h, g⟩
theorem lw_ms : ∀ w ∈ k2_sels lw_privs, w ∈ lw_tbl := fun w h => show w ∈ k2_sels lw_privs ++ tables_1 from List.mem_append_left _ h
theorem lw_m0 : ∀ w ∈ tables_1, w ∈ lw_tbl := fun w h => show w ∈ k2_sels lw_privs ++ tables_1 from List.mem_append_right (k2_sels lw_privs) h
theorem qs0 : (Cond.selects "FrequentSets" ⟨"FrequentSets", "isSet", "(I)Z"⟩ ⟨"FrequentSets", "isSet", "(I)Z"⟩) ∈ lw_all := lw_g (lw_at lw_ms 0 rfl) rfl
theorem qs1 : (Cond.selects "FrequentSets" ⟨"FrequentSets", "build", "()V"⟩ ⟨"FrequentSets", "build", "()V"⟩) ∈ lw_all := lw_g (lw_at lw_ms 1 rfl) rfl
theorem qs2 : (Cond.selects "FrequentSets" ⟨"FrequentSets", "orderThings", "()V"⟩ ⟨"FrequentSets", "orderThings", "()V"⟩) ∈ lw_all := lw_g (lw_at lw_ms 2 rfl) rfl
theorem qs3 : (Cond.selects "FrequentSets" ⟨"FrequentSets", "plant", "(I)V"⟩ ⟨"FrequentSets", "plant", "(I)V"⟩) ∈ lw_all := lw_g (lw_at lw_ms 3 rfl) rfl
theorem qs4 : (Cond.selects "FrequentSets" ⟨"FrequentSets", "childWith", "(II)I"⟩ ⟨"FrequentSets", "childWith", "(II)I"⟩) ∈ lw_all := lw_g (lw_at lw_ms 4 rfl) rfl
theorem qs5 : (Cond.selects "FrequentSets" ⟨"FrequentSets", "growSets", "()V"⟩ ⟨"FrequentSets", "growSets", "()V"⟩) ∈ lw_all := lw_g (lw_at lw_ms 5 rfl) rfl
theorem qs6 : (Cond.selects "FrequentSets" ⟨"FrequentSets", "countOn", "(II)I"⟩ ⟨"FrequentSets", "countOn", "(II)I"⟩) ∈ lw_all := lw_g (lw_at lw_ms 6 rfl) rfl
theorem qs7 : (Cond.selects "FrequentSets" ⟨"FrequentSets", "liftWeights", "(II)V"⟩ ⟨"FrequentSets", "liftWeights", "(II)V"⟩) ∈ lw_all := lw_g (lw_at lw_ms 7 rfl) rfl
theorem qs8 : (Cond.selects "FrequentSets" ⟨"FrequentSets", "isBound", "(I)Z"⟩ ⟨"FrequentSets", "isBound", "(I)Z"⟩) ∈ lw_all := lw_g (lw_at lw_ms 8 rfl) rfl
theorem qs9 : (Cond.selects "FrequentSets" ⟨"FrequentSets", "isClosed", "(II)Z"⟩ ⟨"FrequentSets", "isClosed", "(II)Z"⟩) ∈ lw_all := lw_g (lw_at lw_ms 9 rfl) rfl
theorem qs10 : (Cond.selects "FrequentSets" ⟨"FrequentSets", "isLargest", "(II)Z"⟩ ⟨"FrequentSets", "isLargest", "(II)Z"⟩) ∈ lw_all := lw_g (lw_at lw_ms 10 rfl) rfl
theorem qs11 : (Cond.selects "FrequentSets" ⟨"FrequentSets", "sizeOf", "(I)I"⟩ ⟨"FrequentSets", "sizeOf", "(I)I"⟩) ∈ lw_all := lw_g (lw_at lw_ms 11 rfl) rfl
theorem qs12 : (Cond.selects "FrequentSetsModel" ⟨"FrequentSetsModel", "isSet", "(I)Z"⟩ ⟨"FrequentSetsModel", "isSet", "(I)Z"⟩) ∈ lw_all := lw_g (lw_at lw_ms 12 rfl) rfl
theorem qs13 : (Cond.selects "FrequentSetsModel" ⟨"FrequentSetsModel", "countAll", "()V"⟩ ⟨"FrequentSetsModel", "countAll", "()V"⟩) ∈ lw_all := lw_g (lw_at lw_ms 13 rfl) rfl
theorem qs14 : (Cond.selects "FrequentSetsModel" ⟨"FrequentSetsModel", "isLevel", "(I)Z"⟩ ⟨"FrequentSetsModel", "isLevel", "(I)Z"⟩) ∈ lw_all := lw_g (lw_at lw_ms 14 rfl) rfl
theorem qs15 : (Cond.selects "FrequentSetsModel" ⟨"FrequentSetsModel", "isClosed", "(II)Z"⟩ ⟨"FrequentSetsModel", "isClosed", "(II)Z"⟩) ∈ lw_all := lw_g (lw_at lw_ms 15 rfl) rfl
theorem qs16 : (Cond.selects "FrequentSetsModel" ⟨"FrequentSetsModel", "noGreater", "(II)Z"⟩ ⟨"FrequentSetsModel", "noGreater", "(II)Z"⟩) ∈ lw_all := lw_g (lw_at lw_ms 16 rfl) rfl
theorem qs17 : (Cond.selects "FrequentSetsModel" ⟨"FrequentSetsModel", "sizeOf", "(I)I"⟩ ⟨"FrequentSetsModel", "sizeOf", "(I)I"⟩) ∈ lw_all := lw_g (lw_at lw_ms 17 rfl) rfl
end
section
set_option maxRecDepth 100000
def RJ0 : String := "java/lang/Object"
abbrev cJ0_init : ByteArray := object_method_1_code
def yJ0_init : MethodName := ⟨RJ0, "<init>", "()V"⟩
theorem dJ0_init_0 : decode cJ0_init 0 = .ok (.return_, 1) := by decide +kernel
theorem q27 : (Jvm.Cond.instanceMethod ({ cls := "java/lang/Object", name := "<init>", desc := "()V" } : Jvm.MethodName)) ∈ lw_all := lw_g (lw_at lw_m0 9 rfl) rfl
theorem q28 : (Jvm.Cond.code ({ cls := "java/lang/Object", name := "<init>", desc := "()V" } : Jvm.MethodName) object_method_1_code (1 : Nat) (Option.none : Option Jvm.ClassFile.FieldType)) ∈ lw_all := lw_g (lw_at lw_m0 10 rfl) rfl
theorem q78 : (Jvm.Cond.arrayClass Jvm.ClassFile.FieldType.short) ∈ lw_all := lw_g (lw_at lw_m0 60 rfl) rfl
theorem q79 : (Jvm.Cond.arrayClass Jvm.ClassFile.FieldType.byte) ∈ lw_all := lw_g (lw_at lw_m0 61 rfl) rfl
theorem q188 : (Jvm.Cond.arrayClass Jvm.ClassFile.FieldType.int) ∈ lw_all := lw_g (lw_at lw_m0 170 rfl) rfl
theorem q18 : (Jvm.Cond.initialized "FrequentSetsLaw") ∈ lw_all := lw_g (lw_at lw_m0 0 rfl) rfl
theorem q21 : (Jvm.Cond.classLink "FrequentSetsLaw" (7 : Nat) "FrequentSets") ∈ lw_all := lw_g (lw_at lw_m0 3 rfl) rfl
theorem q23 : (Jvm.Cond.methodLink "FrequentSetsLaw" (9 : Nat) ({ cls := "FrequentSets", name := "<init>", desc := "()V" } : Jvm.MethodName)) ∈ lw_all := lw_g (lw_at lw_m0 5 rfl) rfl
theorem q80 : (Jvm.Cond.methodLink "FrequentSetsLaw" (13 : Nat) ({ cls := "FrequentSets", name := "add", desc := "(I)I" } : Jvm.MethodName)) ∈ lw_all := lw_g (lw_at lw_m0 62 rfl) rfl
theorem q88 : (Jvm.Cond.methodLink "FrequentSetsLaw" (18 : Nat) ({ cls := "FrequentSets", name := "drop", desc := "()I" } : Jvm.MethodName)) ∈ lw_all := lw_g (lw_at lw_m0 70 rfl) rfl
theorem q92 : (Jvm.Cond.methodLink "FrequentSetsLaw" (23 : Nat) ({ cls := "FrequentSets", name := "count", desc := "(I)I" } : Jvm.MethodName)) ∈ lw_all := lw_g (lw_at lw_m0 74 rfl) rfl
theorem q124 : (Jvm.Cond.methodLink "FrequentSetsLaw" (27 : Nat) ({ cls := "FrequentSets", name := "frequent", desc := "(I)I" } : Jvm.MethodName)) ∈ lw_all := lw_g (lw_at lw_m0 106 rfl) rfl
theorem q132 : (Jvm.Cond.methodLink "FrequentSetsLaw" (31 : Nat) ({ cls := "FrequentSets", name := "closed", desc := "(I)I" } : Jvm.MethodName)) ∈ lw_all := lw_g (lw_at lw_m0 114 rfl) rfl
theorem q140 : (Jvm.Cond.methodLink "FrequentSetsLaw" (35 : Nat) ({ cls := "FrequentSets", name := "largest", desc := "(I)I" } : Jvm.MethodName)) ∈ lw_all := lw_g (lw_at lw_m0 122 rfl) rfl
theorem q148 : (Jvm.Cond.methodLink "FrequentSetsLaw" (39 : Nat) ({ cls := "FrequentSets", name := "closedSet", desc := "(II)I" } : Jvm.MethodName)) ∈ lw_all := lw_g (lw_at lw_m0 130 rfl) rfl
theorem q152 : (Jvm.Cond.methodLink "FrequentSetsLaw" (44 : Nat) ({ cls := "FrequentSets", name := "closure", desc := "(I)I" } : Jvm.MethodName)) ∈ lw_all := lw_g (lw_at lw_m0 134 rfl) rfl
theorem q156 : (Jvm.Cond.methodLink "FrequentSetsLaw" (48 : Nat) ({ cls := "FrequentSets", name := "widest", desc := "(I)I" } : Jvm.MethodName)) ∈ lw_all := lw_g (lw_at lw_m0 138 rfl) rfl
theorem q164 : (Jvm.Cond.methodLink "FrequentSetsLaw" (52 : Nat) ({ cls := "FrequentSets", name := "rules", desc := "(II)I" } : Jvm.MethodName)) ∈ lw_all := lw_g (lw_at lw_m0 146 rfl) rfl
theorem q168 : (Jvm.Cond.methodLink "FrequentSetsLaw" (56 : Nat) ({ cls := "FrequentSets", name := "companion", desc := "(I)I" } : Jvm.MethodName)) ∈ lw_all := lw_g (lw_at lw_m0 150 rfl) rfl
theorem q172 : (Jvm.Cond.classLink "FrequentSetsLaw" (10 : Nat) "FrequentSetsModel") ∈ lw_all := lw_g (lw_at lw_m0 154 rfl) rfl
theorem q174 : (Jvm.Cond.methodLink "FrequentSetsLaw" (12 : Nat) ({ cls := "FrequentSetsModel", name := "<init>", desc := "()V" } : Jvm.MethodName)) ∈ lw_all := lw_g (lw_at lw_m0 156 rfl) rfl
theorem q189 : (Jvm.Cond.methodLink "FrequentSetsLaw" (17 : Nat) ({ cls := "FrequentSetsModel", name := "add", desc := "(I)I" } : Jvm.MethodName)) ∈ lw_all := lw_g (lw_at lw_m0 171 rfl) rfl
theorem q197 : (Jvm.Cond.methodLink "FrequentSetsLaw" (22 : Nat) ({ cls := "FrequentSetsModel", name := "drop", desc := "()I" } : Jvm.MethodName)) ∈ lw_all := lw_g (lw_at lw_m0 179 rfl) rfl
theorem q201 : (Jvm.Cond.methodLink "FrequentSetsLaw" (26 : Nat) ({ cls := "FrequentSetsModel", name := "count", desc := "(I)I" } : Jvm.MethodName)) ∈ lw_all := lw_g (lw_at lw_m0 183 rfl) rfl
theorem q209 : (Jvm.Cond.methodLink "FrequentSetsLaw" (30 : Nat) ({ cls := "FrequentSetsModel", name := "frequent", desc := "(I)I" } : Jvm.MethodName)) ∈ lw_all := lw_g (lw_at lw_m0 191 rfl) rfl
theorem q217 : (Jvm.Cond.methodLink "FrequentSetsLaw" (34 : Nat) ({ cls := "FrequentSetsModel", name := "closed", desc := "(I)I" } : Jvm.MethodName)) ∈ lw_all := lw_g (lw_at lw_m0 199 rfl) rfl
theorem q229 : (Jvm.Cond.methodLink "FrequentSetsLaw" (38 : Nat) ({ cls := "FrequentSetsModel", name := "largest", desc := "(I)I" } : Jvm.MethodName)) ∈ lw_all := lw_g (lw_at lw_m0 211 rfl) rfl
theorem q233 : (Jvm.Cond.methodLink "FrequentSetsLaw" (43 : Nat) ({ cls := "FrequentSetsModel", name := "closedSet", desc := "(II)I" } : Jvm.MethodName)) ∈ lw_all := lw_g (lw_at lw_m0 215 rfl) rfl
theorem q237 : (Jvm.Cond.methodLink "FrequentSetsLaw" (47 : Nat) ({ cls := "FrequentSetsModel", name := "closure", desc := "(I)I" } : Jvm.MethodName)) ∈ lw_all := lw_g (lw_at lw_m0 219 rfl) rfl
theorem q241 : (Jvm.Cond.methodLink "FrequentSetsLaw" (51 : Nat) ({ cls := "FrequentSetsModel", name := "widest", desc := "(I)I" } : Jvm.MethodName)) ∈ lw_all := lw_g (lw_at lw_m0 223 rfl) rfl
theorem q249 : (Jvm.Cond.methodLink "FrequentSetsLaw" (55 : Nat) ({ cls := "FrequentSetsModel", name := "rules", desc := "(II)I" } : Jvm.MethodName)) ∈ lw_all := lw_g (lw_at lw_m0 231 rfl) rfl
theorem q253 : (Jvm.Cond.methodLink "FrequentSetsLaw" (59 : Nat) ({ cls := "FrequentSetsModel", name := "companion", desc := "(I)I" } : Jvm.MethodName)) ∈ lw_all := lw_g (lw_at lw_m0 235 rfl) rfl
/-! FrequentSets -/
def RX0 : String := "FrequentSets"
def TX0 : u_T := fun k => match k with
  | 0 => ("FrequentSets", "basketCount", "I", false)
  | 1 => ("FrequentSets", "baskets", "[S", true)
  | 2 => ("FrequentSets", "built", "Z", false)
  | 3 => ("FrequentSets", "nodeCount", "I", false)
  | 4 => ("FrequentSets", "thingAt", "[B", true)
  | 5 => ("FrequentSets", "through", "[B", true)
  | 6 => ("FrequentSets", "above", "[S", true)
  | 7 => ("FrequentSets", "sameThing", "[S", true)
  | 8 => ("FrequentSets", "firstOf", "[S", true)
  | 9 => ("FrequentSets", "order", "[B", true)
  | 10 => ("FrequentSets", "placeOf", "[B", true)
  | 11 => ("FrequentSets", "howOften", "[B", true)
  | 12 => ("FrequentSets", "counts", "[B", true)
  | 13 => ("FrequentSets", "weights", "[B", true)
  | 14 => ("FrequentSets", "setAt", "[S", true)
  | _ => ("FrequentSets", "goesOnAt", "[B", true)
def tyX0 : Nat → FieldType := fun k => match k with
  | 0 => .int
  | 1 => .array .short
  | 2 => .boolean
  | 3 => .int
  | 4 => .array .byte
  | 5 => .array .byte
  | 6 => .array .short
  | 7 => .array .short
  | 8 => .array .short
  | 9 => .array .byte
  | 10 => .array .byte
  | 11 => .array .byte
  | 12 => .array .byte
  | 13 => .array .byte
  | 14 => .array .short
  | _ => .array .byte
abbrev wsX00 : List Cond := u_ws RX0 TX0 16
set_option maxRecDepth 100000 in
theorem nmX0 : ∀ a, a < 16 → ∀ b, b < 16 → a ≠ b → (TX0 a).2.1 ≠ (TX0 b).2.1 := by decide +kernel
set_option maxRecDepth 100000 in
theorem tyX0_ok : ∀ k, k < 16 → parseFieldDescriptor (TX0 k).2.2.1 = some (tyX0 k) := by decide +kernel
abbrev cX0_init : ByteArray := prog_1_method_1_code
def yX0_init : MethodName := ⟨RX0, "<init>", "()V"⟩
theorem dX0_init_0 : decode cX0_init 0 = .ok (.aload_n 0, 1) := by decide +kernel
theorem dX0_init_1 : decode cX0_init 1 = .ok (.invokespecial 1, 3) := by decide +kernel
theorem dX0_init_4 : decode cX0_init 4 = .ok (.aload_n 0, 1) := by decide +kernel
theorem dX0_init_5 : decode cX0_init 5 = .ok (.bipush 20, 2) := by decide +kernel
theorem dX0_init_7 : decode cX0_init 7 = .ok (.newarray .short, 2) := by decide +kernel
theorem dX0_init_9 : decode cX0_init 9 = .ok (.putfield 7, 3) := by decide +kernel
theorem dX0_init_12 : decode cX0_init 12 = .ok (.aload_n 0, 1) := by decide +kernel
theorem dX0_init_13 : decode cX0_init 13 = .ok (.sipush 161, 3) := by decide +kernel
theorem dX0_init_16 : decode cX0_init 16 = .ok (.newarray .byte, 2) := by decide +kernel
theorem dX0_init_18 : decode cX0_init 18 = .ok (.putfield 13, 3) := by decide +kernel
theorem dX0_init_21 : decode cX0_init 21 = .ok (.aload_n 0, 1) := by decide +kernel
theorem dX0_init_22 : decode cX0_init 22 = .ok (.sipush 161, 3) := by decide +kernel
theorem dX0_init_25 : decode cX0_init 25 = .ok (.newarray .byte, 2) := by decide +kernel
theorem dX0_init_27 : decode cX0_init 27 = .ok (.putfield 17, 3) := by decide +kernel
theorem dX0_init_30 : decode cX0_init 30 = .ok (.aload_n 0, 1) := by decide +kernel
theorem dX0_init_31 : decode cX0_init 31 = .ok (.sipush 161, 3) := by decide +kernel
theorem dX0_init_34 : decode cX0_init 34 = .ok (.newarray .short, 2) := by decide +kernel
theorem dX0_init_36 : decode cX0_init 36 = .ok (.putfield 20, 3) := by decide +kernel
theorem dX0_init_39 : decode cX0_init 39 = .ok (.aload_n 0, 1) := by decide +kernel
theorem dX0_init_40 : decode cX0_init 40 = .ok (.sipush 161, 3) := by decide +kernel
theorem dX0_init_43 : decode cX0_init 43 = .ok (.newarray .short, 2) := by decide +kernel
theorem dX0_init_45 : decode cX0_init 45 = .ok (.putfield 23, 3) := by decide +kernel
theorem dX0_init_48 : decode cX0_init 48 = .ok (.aload_n 0, 1) := by decide +kernel
theorem dX0_init_49 : decode cX0_init 49 = .ok (.bipush 8, 2) := by decide +kernel
theorem dX0_init_51 : decode cX0_init 51 = .ok (.newarray .short, 2) := by decide +kernel
theorem dX0_init_53 : decode cX0_init 53 = .ok (.putfield 26, 3) := by decide +kernel
theorem dX0_init_56 : decode cX0_init 56 = .ok (.aload_n 0, 1) := by decide +kernel
theorem dX0_init_57 : decode cX0_init 57 = .ok (.bipush 8, 2) := by decide +kernel
theorem dX0_init_59 : decode cX0_init 59 = .ok (.newarray .byte, 2) := by decide +kernel
theorem dX0_init_61 : decode cX0_init 61 = .ok (.putfield 29, 3) := by decide +kernel
theorem dX0_init_64 : decode cX0_init 64 = .ok (.aload_n 0, 1) := by decide +kernel
theorem dX0_init_65 : decode cX0_init 65 = .ok (.bipush 8, 2) := by decide +kernel
theorem dX0_init_67 : decode cX0_init 67 = .ok (.newarray .byte, 2) := by decide +kernel
theorem dX0_init_69 : decode cX0_init 69 = .ok (.putfield 32, 3) := by decide +kernel
theorem dX0_init_72 : decode cX0_init 72 = .ok (.aload_n 0, 1) := by decide +kernel
theorem dX0_init_73 : decode cX0_init 73 = .ok (.bipush 8, 2) := by decide +kernel
theorem dX0_init_75 : decode cX0_init 75 = .ok (.newarray .byte, 2) := by decide +kernel
theorem dX0_init_77 : decode cX0_init 77 = .ok (.putfield 35, 3) := by decide +kernel
theorem dX0_init_80 : decode cX0_init 80 = .ok (.aload_n 0, 1) := by decide +kernel
theorem dX0_init_81 : decode cX0_init 81 = .ok (.sipush 256, 3) := by decide +kernel
theorem dX0_init_84 : decode cX0_init 84 = .ok (.newarray .byte, 2) := by decide +kernel
theorem dX0_init_86 : decode cX0_init 86 = .ok (.putfield 38, 3) := by decide +kernel
theorem dX0_init_89 : decode cX0_init 89 = .ok (.aload_n 0, 1) := by decide +kernel
theorem dX0_init_90 : decode cX0_init 90 = .ok (.sipush 1449, 3) := by decide +kernel
theorem dX0_init_93 : decode cX0_init 93 = .ok (.newarray .byte, 2) := by decide +kernel
theorem dX0_init_95 : decode cX0_init 95 = .ok (.putfield 41, 3) := by decide +kernel
theorem dX0_init_98 : decode cX0_init 98 = .ok (.aload_n 0, 1) := by decide +kernel
theorem dX0_init_99 : decode cX0_init 99 = .ok (.bipush 9, 2) := by decide +kernel
theorem dX0_init_101 : decode cX0_init 101 = .ok (.newarray .short, 2) := by decide +kernel
theorem dX0_init_103 : decode cX0_init 103 = .ok (.putfield 44, 3) := by decide +kernel
theorem dX0_init_106 : decode cX0_init 106 = .ok (.aload_n 0, 1) := by decide +kernel
theorem dX0_init_107 : decode cX0_init 107 = .ok (.bipush 9, 2) := by decide +kernel
theorem dX0_init_109 : decode cX0_init 109 = .ok (.newarray .byte, 2) := by decide +kernel
theorem dX0_init_111 : decode cX0_init 111 = .ok (.putfield 47, 3) := by decide +kernel
theorem dX0_init_114 : decode cX0_init 114 = .ok (.return_, 1) := by decide +kernel
abbrev cX0_add : ByteArray := prog_1_method_2_code
def yX0_add : MethodName := ⟨RX0, "add", "(I)I"⟩
theorem dX0_add_0 : decode cX0_add 0 = .ok (.aload_n 0, 1) := by decide +kernel
theorem dX0_add_1 : decode cX0_add 1 = .ok (.getfield 50, 3) := by decide +kernel
theorem dX0_add_4 : decode cX0_add 4 = .ok (.bipush 20, 2) := by decide +kernel
theorem dX0_add_6 : decode cX0_add 6 = .ok (.if_icmp .lt 6, 3) := by decide +kernel
theorem dX0_add_9 : decode cX0_add 9 = .ok (.bipush (-2), 2) := by decide +kernel
theorem dX0_add_11 : decode cX0_add 11 = .ok (.ireturn, 1) := by decide +kernel
theorem dX0_add_12 : decode cX0_add 12 = .ok (.aload_n 0, 1) := by decide +kernel
theorem dX0_add_13 : decode cX0_add 13 = .ok (.iload_n 1, 1) := by decide +kernel
theorem dX0_add_14 : decode cX0_add 14 = .ok (.invokevirtual 54, 3) := by decide +kernel
theorem dX0_add_17 : decode cX0_add 17 = .ok (.ifCond .ne 5, 3) := by decide +kernel
theorem dX0_add_20 : decode cX0_add 20 = .ok (.iconst (-1), 1) := by decide +kernel
theorem dX0_add_21 : decode cX0_add 21 = .ok (.ireturn, 1) := by decide +kernel
theorem dX0_add_22 : decode cX0_add 22 = .ok (.aload_n 0, 1) := by decide +kernel
theorem dX0_add_23 : decode cX0_add 23 = .ok (.getfield 7, 3) := by decide +kernel
theorem dX0_add_26 : decode cX0_add 26 = .ok (.aload_n 0, 1) := by decide +kernel
theorem dX0_add_27 : decode cX0_add 27 = .ok (.getfield 50, 3) := by decide +kernel
theorem dX0_add_30 : decode cX0_add 30 = .ok (.iload_n 1, 1) := by decide +kernel
theorem dX0_add_31 : decode cX0_add 31 = .ok (.i2s, 1) := by decide +kernel
theorem dX0_add_32 : decode cX0_add 32 = .ok (.sastore, 1) := by decide +kernel
theorem dX0_add_33 : decode cX0_add 33 = .ok (.aload_n 0, 1) := by decide +kernel
theorem dX0_add_34 : decode cX0_add 34 = .ok (.dup, 1) := by decide +kernel
theorem dX0_add_35 : decode cX0_add 35 = .ok (.getfield 50, 3) := by decide +kernel
theorem dX0_add_38 : decode cX0_add 38 = .ok (.iconst 1, 1) := by decide +kernel
theorem dX0_add_39 : decode cX0_add 39 = .ok (.iadd, 1) := by decide +kernel
theorem dX0_add_40 : decode cX0_add 40 = .ok (.putfield 50, 3) := by decide +kernel
theorem dX0_add_43 : decode cX0_add 43 = .ok (.aload_n 0, 1) := by decide +kernel
theorem dX0_add_44 : decode cX0_add 44 = .ok (.iconst 0, 1) := by decide +kernel
theorem dX0_add_45 : decode cX0_add 45 = .ok (.putfield 58, 3) := by decide +kernel
theorem dX0_add_48 : decode cX0_add 48 = .ok (.aload_n 0, 1) := by decide +kernel
theorem dX0_add_49 : decode cX0_add 49 = .ok (.getfield 50, 3) := by decide +kernel
theorem dX0_add_52 : decode cX0_add 52 = .ok (.ireturn, 1) := by decide +kernel
abbrev cX0_isSet : ByteArray := prog_1_method_4_code
def yX0_isSet : MethodName := ⟨RX0, "isSet", "(I)Z"⟩
theorem dX0_isSet_0 : decode cX0_isSet 0 = .ok (.iload_n 1, 1) := by decide +kernel
theorem dX0_isSet_1 : decode cX0_isSet 1 = .ok (.ifCond .lt 14, 3) := by decide +kernel
theorem dX0_isSet_4 : decode cX0_isSet 4 = .ok (.iload_n 1, 1) := by decide +kernel
theorem dX0_isSet_5 : decode cX0_isSet 5 = .ok (.sipush 255, 3) := by decide +kernel
theorem dX0_isSet_8 : decode cX0_isSet 8 = .ok (.if_icmp .gt 7, 3) := by decide +kernel
theorem dX0_isSet_11 : decode cX0_isSet 11 = .ok (.iconst 1, 1) := by decide +kernel
theorem dX0_isSet_12 : decode cX0_isSet 12 = .ok (.goto 4, 3) := by decide +kernel
theorem dX0_isSet_15 : decode cX0_isSet 15 = .ok (.iconst 0, 1) := by decide +kernel
theorem dX0_isSet_16 : decode cX0_isSet 16 = .ok (.ireturn, 1) := by decide +kernel
abbrev cX0_drop : ByteArray := prog_1_method_3_code
def yX0_drop : MethodName := ⟨RX0, "drop", "()I"⟩
theorem dX0_drop_0 : decode cX0_drop 0 = .ok (.aload_n 0, 1) := by decide +kernel
theorem dX0_drop_1 : decode cX0_drop 1 = .ok (.getfield 50, 3) := by decide +kernel
theorem dX0_drop_4 : decode cX0_drop 4 = .ok (.ifCond .ne 6, 3) := by decide +kernel
theorem dX0_drop_7 : decode cX0_drop 7 = .ok (.bipush (-3), 2) := by decide +kernel
theorem dX0_drop_9 : decode cX0_drop 9 = .ok (.ireturn, 1) := by decide +kernel
theorem dX0_drop_10 : decode cX0_drop 10 = .ok (.aload_n 0, 1) := by decide +kernel
theorem dX0_drop_11 : decode cX0_drop 11 = .ok (.dup, 1) := by decide +kernel
theorem dX0_drop_12 : decode cX0_drop 12 = .ok (.getfield 50, 3) := by decide +kernel
theorem dX0_drop_15 : decode cX0_drop 15 = .ok (.iconst 1, 1) := by decide +kernel
theorem dX0_drop_16 : decode cX0_drop 16 = .ok (.isub, 1) := by decide +kernel
theorem dX0_drop_17 : decode cX0_drop 17 = .ok (.putfield 50, 3) := by decide +kernel
theorem dX0_drop_20 : decode cX0_drop 20 = .ok (.iconst 0, 1) := by decide +kernel
theorem dX0_drop_21 : decode cX0_drop 21 = .ok (.istore_n 1, 1) := by decide +kernel
theorem dX0_drop_22 : decode cX0_drop 22 = .ok (.iload_n 1, 1) := by decide +kernel
theorem dX0_drop_23 : decode cX0_drop 23 = .ok (.aload_n 0, 1) := by decide +kernel
theorem dX0_drop_24 : decode cX0_drop 24 = .ok (.getfield 50, 3) := by decide +kernel
theorem dX0_drop_27 : decode cX0_drop 27 = .ok (.if_icmp .ge 23, 3) := by decide +kernel
theorem dX0_drop_30 : decode cX0_drop 30 = .ok (.aload_n 0, 1) := by decide +kernel
theorem dX0_drop_31 : decode cX0_drop 31 = .ok (.getfield 7, 3) := by decide +kernel
theorem dX0_drop_34 : decode cX0_drop 34 = .ok (.iload_n 1, 1) := by decide +kernel
theorem dX0_drop_35 : decode cX0_drop 35 = .ok (.aload_n 0, 1) := by decide +kernel
theorem dX0_drop_36 : decode cX0_drop 36 = .ok (.getfield 7, 3) := by decide +kernel
theorem dX0_drop_39 : decode cX0_drop 39 = .ok (.iload_n 1, 1) := by decide +kernel
theorem dX0_drop_40 : decode cX0_drop 40 = .ok (.iconst 1, 1) := by decide +kernel
theorem dX0_drop_41 : decode cX0_drop 41 = .ok (.iadd, 1) := by decide +kernel
theorem dX0_drop_42 : decode cX0_drop 42 = .ok (.saload, 1) := by decide +kernel
theorem dX0_drop_43 : decode cX0_drop 43 = .ok (.sastore, 1) := by decide +kernel
theorem dX0_drop_44 : decode cX0_drop 44 = .ok (.iinc 1 1, 3) := by decide +kernel
theorem dX0_drop_47 : decode cX0_drop 47 = .ok (.goto (-25), 3) := by decide +kernel
theorem dX0_drop_50 : decode cX0_drop 50 = .ok (.aload_n 0, 1) := by decide +kernel
theorem dX0_drop_51 : decode cX0_drop 51 = .ok (.iconst 0, 1) := by decide +kernel
theorem dX0_drop_52 : decode cX0_drop 52 = .ok (.putfield 58, 3) := by decide +kernel
theorem dX0_drop_55 : decode cX0_drop 55 = .ok (.aload_n 0, 1) := by decide +kernel
theorem dX0_drop_56 : decode cX0_drop 56 = .ok (.getfield 50, 3) := by decide +kernel
theorem dX0_drop_59 : decode cX0_drop 59 = .ok (.ireturn, 1) := by decide +kernel
abbrev cX0_count : ByteArray := prog_1_method_6_code
def yX0_count : MethodName := ⟨RX0, "count", "(I)I"⟩
theorem dX0_count_0 : decode cX0_count 0 = .ok (.aload_n 0, 1) := by decide +kernel
theorem dX0_count_1 : decode cX0_count 1 = .ok (.iload_n 1, 1) := by decide +kernel
theorem dX0_count_2 : decode cX0_count 2 = .ok (.invokevirtual 54, 3) := by decide +kernel
theorem dX0_count_5 : decode cX0_count 5 = .ok (.ifCond .ne 5, 3) := by decide +kernel
theorem dX0_count_8 : decode cX0_count 8 = .ok (.iconst (-1), 1) := by decide +kernel
theorem dX0_count_9 : decode cX0_count 9 = .ok (.ireturn, 1) := by decide +kernel
theorem dX0_count_10 : decode cX0_count 10 = .ok (.aload_n 0, 1) := by decide +kernel
theorem dX0_count_11 : decode cX0_count 11 = .ok (.invokevirtual 62, 3) := by decide +kernel
theorem dX0_count_14 : decode cX0_count 14 = .ok (.aload_n 0, 1) := by decide +kernel
theorem dX0_count_15 : decode cX0_count 15 = .ok (.getfield 38, 3) := by decide +kernel
theorem dX0_count_18 : decode cX0_count 18 = .ok (.iload_n 1, 1) := by decide +kernel
theorem dX0_count_19 : decode cX0_count 19 = .ok (.baload, 1) := by decide +kernel
theorem dX0_count_20 : decode cX0_count 20 = .ok (.ireturn, 1) := by decide +kernel
abbrev cX0_build : ByteArray := prog_1_method_18_code
def yX0_build : MethodName := ⟨RX0, "build", "()V"⟩
theorem dX0_build_0 : decode cX0_build 0 = .ok (.aload_n 0, 1) := by decide +kernel
theorem dX0_build_1 : decode cX0_build 1 = .ok (.getfield 58, 3) := by decide +kernel
theorem dX0_build_4 : decode cX0_build 4 = .ok (.ifCond .eq 4, 3) := by decide +kernel
theorem dX0_build_7 : decode cX0_build 7 = .ok (.return_, 1) := by decide +kernel
theorem dX0_build_8 : decode cX0_build 8 = .ok (.aload_n 0, 1) := by decide +kernel
theorem dX0_build_9 : decode cX0_build 9 = .ok (.iconst 1, 1) := by decide +kernel
theorem dX0_build_10 : decode cX0_build 10 = .ok (.putfield 58, 3) := by decide +kernel
theorem dX0_build_13 : decode cX0_build 13 = .ok (.aload_n 0, 1) := by decide +kernel
theorem dX0_build_14 : decode cX0_build 14 = .ok (.invokevirtual 79, 3) := by decide +kernel
theorem dX0_build_17 : decode cX0_build 17 = .ok (.aload_n 0, 1) := by decide +kernel
theorem dX0_build_18 : decode cX0_build 18 = .ok (.iconst 1, 1) := by decide +kernel
theorem dX0_build_19 : decode cX0_build 19 = .ok (.putfield 82, 3) := by decide +kernel
theorem dX0_build_22 : decode cX0_build 22 = .ok (.aload_n 0, 1) := by decide +kernel
theorem dX0_build_23 : decode cX0_build 23 = .ok (.getfield 17, 3) := by decide +kernel
theorem dX0_build_26 : decode cX0_build 26 = .ok (.iconst 0, 1) := by decide +kernel
theorem dX0_build_27 : decode cX0_build 27 = .ok (.aload_n 0, 1) := by decide +kernel
theorem dX0_build_28 : decode cX0_build 28 = .ok (.getfield 50, 3) := by decide +kernel
theorem dX0_build_31 : decode cX0_build 31 = .ok (.i2b, 1) := by decide +kernel
theorem dX0_build_32 : decode cX0_build 32 = .ok (.bastore, 1) := by decide +kernel
theorem dX0_build_33 : decode cX0_build 33 = .ok (.iconst 0, 1) := by decide +kernel
theorem dX0_build_34 : decode cX0_build 34 = .ok (.istore_n 1, 1) := by decide +kernel
theorem dX0_build_35 : decode cX0_build 35 = .ok (.iload_n 1, 1) := by decide +kernel
theorem dX0_build_36 : decode cX0_build 36 = .ok (.bipush 8, 2) := by decide +kernel
theorem dX0_build_38 : decode cX0_build 38 = .ok (.if_icmp .ge 16, 3) := by decide +kernel
theorem dX0_build_41 : decode cX0_build 41 = .ok (.aload_n 0, 1) := by decide +kernel
theorem dX0_build_42 : decode cX0_build 42 = .ok (.getfield 26, 3) := by decide +kernel
theorem dX0_build_45 : decode cX0_build 45 = .ok (.iload_n 1, 1) := by decide +kernel
theorem dX0_build_46 : decode cX0_build 46 = .ok (.iconst 0, 1) := by decide +kernel
theorem dX0_build_47 : decode cX0_build 47 = .ok (.sastore, 1) := by decide +kernel
theorem dX0_build_48 : decode cX0_build 48 = .ok (.iinc 1 1, 3) := by decide +kernel
theorem dX0_build_51 : decode cX0_build 51 = .ok (.goto (-16), 3) := by decide +kernel
theorem dX0_build_54 : decode cX0_build 54 = .ok (.iconst 0, 1) := by decide +kernel
theorem dX0_build_55 : decode cX0_build 55 = .ok (.istore_n 1, 1) := by decide +kernel
theorem dX0_build_56 : decode cX0_build 56 = .ok (.iload_n 1, 1) := by decide +kernel
theorem dX0_build_57 : decode cX0_build 57 = .ok (.aload_n 0, 1) := by decide +kernel
theorem dX0_build_58 : decode cX0_build 58 = .ok (.getfield 50, 3) := by decide +kernel
theorem dX0_build_61 : decode cX0_build 61 = .ok (.if_icmp .ge 19, 3) := by decide +kernel
theorem dX0_build_64 : decode cX0_build 64 = .ok (.aload_n 0, 1) := by decide +kernel
theorem dX0_build_65 : decode cX0_build 65 = .ok (.aload_n 0, 1) := by decide +kernel
theorem dX0_build_66 : decode cX0_build 66 = .ok (.getfield 7, 3) := by decide +kernel
theorem dX0_build_69 : decode cX0_build 69 = .ok (.iload_n 1, 1) := by decide +kernel
theorem dX0_build_70 : decode cX0_build 70 = .ok (.saload, 1) := by decide +kernel
theorem dX0_build_71 : decode cX0_build 71 = .ok (.invokevirtual 85, 3) := by decide +kernel
theorem dX0_build_74 : decode cX0_build 74 = .ok (.iinc 1 1, 3) := by decide +kernel
theorem dX0_build_77 : decode cX0_build 77 = .ok (.goto (-21), 3) := by decide +kernel
theorem dX0_build_80 : decode cX0_build 80 = .ok (.aload_n 0, 1) := by decide +kernel
theorem dX0_build_81 : decode cX0_build 81 = .ok (.invokevirtual 89, 3) := by decide +kernel
theorem dX0_build_84 : decode cX0_build 84 = .ok (.return_, 1) := by decide +kernel
abbrev cX0_orderThings : ByteArray := prog_1_method_19_code
def yX0_orderThings : MethodName := ⟨RX0, "orderThings", "()V"⟩
theorem dX0_orderThings_0 : decode cX0_orderThings 0 = .ok (.iconst 0, 1) := by decide +kernel
theorem dX0_orderThings_1 : decode cX0_orderThings 1 = .ok (.istore_n 1, 1) := by decide +kernel
theorem dX0_orderThings_2 : decode cX0_orderThings 2 = .ok (.iload_n 1, 1) := by decide +kernel
theorem dX0_orderThings_3 : decode cX0_orderThings 3 = .ok (.bipush 8, 2) := by decide +kernel
theorem dX0_orderThings_5 : decode cX0_orderThings 5 = .ok (.if_icmp .ge 52, 3) := by decide +kernel
theorem dX0_orderThings_8 : decode cX0_orderThings 8 = .ok (.aload_n 0, 1) := by decide +kernel
theorem dX0_orderThings_9 : decode cX0_orderThings 9 = .ok (.getfield 35, 3) := by decide +kernel
theorem dX0_orderThings_12 : decode cX0_orderThings 12 = .ok (.iload_n 1, 1) := by decide +kernel
theorem dX0_orderThings_13 : decode cX0_orderThings 13 = .ok (.iconst 0, 1) := by decide +kernel
theorem dX0_orderThings_14 : decode cX0_orderThings 14 = .ok (.bastore, 1) := by decide +kernel
theorem dX0_orderThings_15 : decode cX0_orderThings 15 = .ok (.iconst 0, 1) := by decide +kernel
theorem dX0_orderThings_16 : decode cX0_orderThings 16 = .ok (.istore_n 2, 1) := by decide +kernel
theorem dX0_orderThings_17 : decode cX0_orderThings 17 = .ok (.iload_n 2, 1) := by decide +kernel
theorem dX0_orderThings_18 : decode cX0_orderThings 18 = .ok (.aload_n 0, 1) := by decide +kernel
theorem dX0_orderThings_19 : decode cX0_orderThings 19 = .ok (.getfield 50, 3) := by decide +kernel
theorem dX0_orderThings_22 : decode cX0_orderThings 22 = .ok (.if_icmp .ge 29, 3) := by decide +kernel
theorem dX0_orderThings_25 : decode cX0_orderThings 25 = .ok (.aload_n 0, 1) := by decide +kernel
theorem dX0_orderThings_26 : decode cX0_orderThings 26 = .ok (.getfield 35, 3) := by decide +kernel
theorem dX0_orderThings_29 : decode cX0_orderThings 29 = .ok (.iload_n 1, 1) := by decide +kernel
theorem dX0_orderThings_30 : decode cX0_orderThings 30 = .ok (.dup2, 1) := by decide +kernel
theorem dX0_orderThings_31 : decode cX0_orderThings 31 = .ok (.baload, 1) := by decide +kernel
theorem dX0_orderThings_32 : decode cX0_orderThings 32 = .ok (.aload_n 0, 1) := by decide +kernel
theorem dX0_orderThings_33 : decode cX0_orderThings 33 = .ok (.getfield 7, 3) := by decide +kernel
theorem dX0_orderThings_36 : decode cX0_orderThings 36 = .ok (.iload_n 2, 1) := by decide +kernel
theorem dX0_orderThings_37 : decode cX0_orderThings 37 = .ok (.saload, 1) := by decide +kernel
theorem dX0_orderThings_38 : decode cX0_orderThings 38 = .ok (.iload_n 1, 1) := by decide +kernel
theorem dX0_orderThings_39 : decode cX0_orderThings 39 = .ok (.ishr, 1) := by decide +kernel
theorem dX0_orderThings_40 : decode cX0_orderThings 40 = .ok (.iconst 1, 1) := by decide +kernel
theorem dX0_orderThings_41 : decode cX0_orderThings 41 = .ok (.iand, 1) := by decide +kernel
theorem dX0_orderThings_42 : decode cX0_orderThings 42 = .ok (.iadd, 1) := by decide +kernel
theorem dX0_orderThings_43 : decode cX0_orderThings 43 = .ok (.i2b, 1) := by decide +kernel
theorem dX0_orderThings_44 : decode cX0_orderThings 44 = .ok (.bastore, 1) := by decide +kernel
theorem dX0_orderThings_45 : decode cX0_orderThings 45 = .ok (.iinc 2 1, 3) := by decide +kernel
theorem dX0_orderThings_48 : decode cX0_orderThings 48 = .ok (.goto (-31), 3) := by decide +kernel
theorem dX0_orderThings_51 : decode cX0_orderThings 51 = .ok (.iinc 1 1, 3) := by decide +kernel
theorem dX0_orderThings_54 : decode cX0_orderThings 54 = .ok (.goto (-52), 3) := by decide +kernel
theorem dX0_orderThings_57 : decode cX0_orderThings 57 = .ok (.iconst 0, 1) := by decide +kernel
theorem dX0_orderThings_58 : decode cX0_orderThings 58 = .ok (.istore_n 1, 1) := by decide +kernel
theorem dX0_orderThings_59 : decode cX0_orderThings 59 = .ok (.iload_n 1, 1) := by decide +kernel
theorem dX0_orderThings_60 : decode cX0_orderThings 60 = .ok (.bipush 8, 2) := by decide +kernel
theorem dX0_orderThings_62 : decode cX0_orderThings 62 = .ok (.if_icmp .ge 65, 3) := by decide +kernel
theorem dX0_orderThings_65 : decode cX0_orderThings 65 = .ok (.iload_n 1, 1) := by decide +kernel
theorem dX0_orderThings_66 : decode cX0_orderThings 66 = .ok (.istore_n 2, 1) := by decide +kernel
theorem dX0_orderThings_67 : decode cX0_orderThings 67 = .ok (.iload_n 2, 1) := by decide +kernel
theorem dX0_orderThings_68 : decode cX0_orderThings 68 = .ok (.ifCond .le 45, 3) := by decide +kernel
theorem dX0_orderThings_71 : decode cX0_orderThings 71 = .ok (.aload_n 0, 1) := by decide +kernel
theorem dX0_orderThings_72 : decode cX0_orderThings 72 = .ok (.getfield 35, 3) := by decide +kernel
theorem dX0_orderThings_75 : decode cX0_orderThings 75 = .ok (.aload_n 0, 1) := by decide +kernel
theorem dX0_orderThings_76 : decode cX0_orderThings 76 = .ok (.getfield 29, 3) := by decide +kernel
theorem dX0_orderThings_79 : decode cX0_orderThings 79 = .ok (.iload_n 2, 1) := by decide +kernel
theorem dX0_orderThings_80 : decode cX0_orderThings 80 = .ok (.iconst 1, 1) := by decide +kernel
theorem dX0_orderThings_81 : decode cX0_orderThings 81 = .ok (.isub, 1) := by decide +kernel
theorem dX0_orderThings_82 : decode cX0_orderThings 82 = .ok (.baload, 1) := by decide +kernel
theorem dX0_orderThings_83 : decode cX0_orderThings 83 = .ok (.baload, 1) := by decide +kernel
theorem dX0_orderThings_84 : decode cX0_orderThings 84 = .ok (.aload_n 0, 1) := by decide +kernel
theorem dX0_orderThings_85 : decode cX0_orderThings 85 = .ok (.getfield 35, 3) := by decide +kernel
theorem dX0_orderThings_88 : decode cX0_orderThings 88 = .ok (.iload_n 1, 1) := by decide +kernel
theorem dX0_orderThings_89 : decode cX0_orderThings 89 = .ok (.baload, 1) := by decide +kernel
theorem dX0_orderThings_90 : decode cX0_orderThings 90 = .ok (.if_icmp .ge 23, 3) := by decide +kernel
theorem dX0_orderThings_93 : decode cX0_orderThings 93 = .ok (.aload_n 0, 1) := by decide +kernel
theorem dX0_orderThings_94 : decode cX0_orderThings 94 = .ok (.getfield 29, 3) := by decide +kernel
theorem dX0_orderThings_97 : decode cX0_orderThings 97 = .ok (.iload_n 2, 1) := by decide +kernel
theorem dX0_orderThings_98 : decode cX0_orderThings 98 = .ok (.aload_n 0, 1) := by decide +kernel
theorem dX0_orderThings_99 : decode cX0_orderThings 99 = .ok (.getfield 29, 3) := by decide +kernel
theorem dX0_orderThings_102 : decode cX0_orderThings 102 = .ok (.iload_n 2, 1) := by decide +kernel
theorem dX0_orderThings_103 : decode cX0_orderThings 103 = .ok (.iconst 1, 1) := by decide +kernel
theorem dX0_orderThings_104 : decode cX0_orderThings 104 = .ok (.isub, 1) := by decide +kernel
theorem dX0_orderThings_105 : decode cX0_orderThings 105 = .ok (.baload, 1) := by decide +kernel
theorem dX0_orderThings_106 : decode cX0_orderThings 106 = .ok (.bastore, 1) := by decide +kernel
theorem dX0_orderThings_107 : decode cX0_orderThings 107 = .ok (.iinc 2 (-1), 3) := by decide +kernel
theorem dX0_orderThings_110 : decode cX0_orderThings 110 = .ok (.goto (-43), 3) := by decide +kernel
theorem dX0_orderThings_113 : decode cX0_orderThings 113 = .ok (.aload_n 0, 1) := by decide +kernel
theorem dX0_orderThings_114 : decode cX0_orderThings 114 = .ok (.getfield 29, 3) := by decide +kernel
theorem dX0_orderThings_117 : decode cX0_orderThings 117 = .ok (.iload_n 2, 1) := by decide +kernel
theorem dX0_orderThings_118 : decode cX0_orderThings 118 = .ok (.iload_n 1, 1) := by decide +kernel
theorem dX0_orderThings_119 : decode cX0_orderThings 119 = .ok (.i2b, 1) := by decide +kernel
theorem dX0_orderThings_120 : decode cX0_orderThings 120 = .ok (.bastore, 1) := by decide +kernel
theorem dX0_orderThings_121 : decode cX0_orderThings 121 = .ok (.iinc 1 1, 3) := by decide +kernel
theorem dX0_orderThings_124 : decode cX0_orderThings 124 = .ok (.goto (-65), 3) := by decide +kernel
theorem dX0_orderThings_127 : decode cX0_orderThings 127 = .ok (.iconst 0, 1) := by decide +kernel
theorem dX0_orderThings_128 : decode cX0_orderThings 128 = .ok (.istore_n 1, 1) := by decide +kernel
theorem dX0_orderThings_129 : decode cX0_orderThings 129 = .ok (.iload_n 1, 1) := by decide +kernel
theorem dX0_orderThings_130 : decode cX0_orderThings 130 = .ok (.bipush 8, 2) := by decide +kernel
theorem dX0_orderThings_132 : decode cX0_orderThings 132 = .ok (.if_icmp .ge 22, 3) := by decide +kernel
theorem dX0_orderThings_135 : decode cX0_orderThings 135 = .ok (.aload_n 0, 1) := by decide +kernel
theorem dX0_orderThings_136 : decode cX0_orderThings 136 = .ok (.getfield 32, 3) := by decide +kernel
theorem dX0_orderThings_139 : decode cX0_orderThings 139 = .ok (.aload_n 0, 1) := by decide +kernel
theorem dX0_orderThings_140 : decode cX0_orderThings 140 = .ok (.getfield 29, 3) := by decide +kernel
theorem dX0_orderThings_143 : decode cX0_orderThings 143 = .ok (.iload_n 1, 1) := by decide +kernel
theorem dX0_orderThings_144 : decode cX0_orderThings 144 = .ok (.baload, 1) := by decide +kernel
theorem dX0_orderThings_145 : decode cX0_orderThings 145 = .ok (.iload_n 1, 1) := by decide +kernel
theorem dX0_orderThings_146 : decode cX0_orderThings 146 = .ok (.i2b, 1) := by decide +kernel
theorem dX0_orderThings_147 : decode cX0_orderThings 147 = .ok (.bastore, 1) := by decide +kernel
theorem dX0_orderThings_148 : decode cX0_orderThings 148 = .ok (.iinc 1 1, 3) := by decide +kernel
theorem dX0_orderThings_151 : decode cX0_orderThings 151 = .ok (.goto (-22), 3) := by decide +kernel
theorem dX0_orderThings_154 : decode cX0_orderThings 154 = .ok (.return_, 1) := by decide +kernel
abbrev cX0_plant : ByteArray := prog_1_method_21_code
def yX0_plant : MethodName := ⟨RX0, "plant", "(I)V"⟩
theorem dX0_plant_0 : decode cX0_plant 0 = .ok (.iconst 0, 1) := by decide +kernel
theorem dX0_plant_1 : decode cX0_plant 1 = .ok (.istore_n 2, 1) := by decide +kernel
theorem dX0_plant_2 : decode cX0_plant 2 = .ok (.iconst 0, 1) := by decide +kernel
theorem dX0_plant_3 : decode cX0_plant 3 = .ok (.istore_n 3, 1) := by decide +kernel
theorem dX0_plant_4 : decode cX0_plant 4 = .ok (.iload_n 3, 1) := by decide +kernel
theorem dX0_plant_5 : decode cX0_plant 5 = .ok (.bipush 8, 2) := by decide +kernel
theorem dX0_plant_7 : decode cX0_plant 7 = .ok (.if_icmp .ge 125, 3) := by decide +kernel
theorem dX0_plant_10 : decode cX0_plant 10 = .ok (.aload_n 0, 1) := by decide +kernel
theorem dX0_plant_11 : decode cX0_plant 11 = .ok (.getfield 29, 3) := by decide +kernel
theorem dX0_plant_14 : decode cX0_plant 14 = .ok (.iload_n 3, 1) := by decide +kernel
theorem dX0_plant_15 : decode cX0_plant 15 = .ok (.baload, 1) := by decide +kernel
theorem dX0_plant_16 : decode cX0_plant 16 = .ok (.istore 4, 2) := by decide +kernel
theorem dX0_plant_18 : decode cX0_plant 18 = .ok (.iload_n 1, 1) := by decide +kernel
theorem dX0_plant_19 : decode cX0_plant 19 = .ok (.iload 4, 2) := by decide +kernel
theorem dX0_plant_21 : decode cX0_plant 21 = .ok (.ishr, 1) := by decide +kernel
theorem dX0_plant_22 : decode cX0_plant 22 = .ok (.iconst 1, 1) := by decide +kernel
theorem dX0_plant_23 : decode cX0_plant 23 = .ok (.iand, 1) := by decide +kernel
theorem dX0_plant_24 : decode cX0_plant 24 = .ok (.ifCond .ne 6, 3) := by decide +kernel
theorem dX0_plant_27 : decode cX0_plant 27 = .ok (.goto 99, 3) := by decide +kernel
theorem dX0_plant_30 : decode cX0_plant 30 = .ok (.aload_n 0, 1) := by decide +kernel
theorem dX0_plant_31 : decode cX0_plant 31 = .ok (.iload_n 2, 1) := by decide +kernel
theorem dX0_plant_32 : decode cX0_plant 32 = .ok (.iload 4, 2) := by decide +kernel
theorem dX0_plant_34 : decode cX0_plant 34 = .ok (.invokevirtual 92, 3) := by decide +kernel
theorem dX0_plant_37 : decode cX0_plant 37 = .ok (.istore 5, 2) := by decide +kernel
theorem dX0_plant_39 : decode cX0_plant 39 = .ok (.iload 5, 2) := by decide +kernel
theorem dX0_plant_41 : decode cX0_plant 41 = .ok (.ifCond .ne 70, 3) := by decide +kernel
theorem dX0_plant_44 : decode cX0_plant 44 = .ok (.aload_n 0, 1) := by decide +kernel
theorem dX0_plant_45 : decode cX0_plant 45 = .ok (.getfield 82, 3) := by decide +kernel
theorem dX0_plant_48 : decode cX0_plant 48 = .ok (.istore 5, 2) := by decide +kernel
theorem dX0_plant_50 : decode cX0_plant 50 = .ok (.aload_n 0, 1) := by decide +kernel
theorem dX0_plant_51 : decode cX0_plant 51 = .ok (.dup, 1) := by decide +kernel
theorem dX0_plant_52 : decode cX0_plant 52 = .ok (.getfield 82, 3) := by decide +kernel
theorem dX0_plant_55 : decode cX0_plant 55 = .ok (.iconst 1, 1) := by decide +kernel
theorem dX0_plant_56 : decode cX0_plant 56 = .ok (.iadd, 1) := by decide +kernel
theorem dX0_plant_57 : decode cX0_plant 57 = .ok (.putfield 82, 3) := by decide +kernel
theorem dX0_plant_60 : decode cX0_plant 60 = .ok (.aload_n 0, 1) := by decide +kernel
theorem dX0_plant_61 : decode cX0_plant 61 = .ok (.getfield 13, 3) := by decide +kernel
theorem dX0_plant_64 : decode cX0_plant 64 = .ok (.iload 5, 2) := by decide +kernel
theorem dX0_plant_66 : decode cX0_plant 66 = .ok (.iload 4, 2) := by decide +kernel
theorem dX0_plant_68 : decode cX0_plant 68 = .ok (.i2b, 1) := by decide +kernel
theorem dX0_plant_69 : decode cX0_plant 69 = .ok (.bastore, 1) := by decide +kernel
theorem dX0_plant_70 : decode cX0_plant 70 = .ok (.aload_n 0, 1) := by decide +kernel
theorem dX0_plant_71 : decode cX0_plant 71 = .ok (.getfield 17, 3) := by decide +kernel
theorem dX0_plant_74 : decode cX0_plant 74 = .ok (.iload 5, 2) := by decide +kernel
theorem dX0_plant_76 : decode cX0_plant 76 = .ok (.iconst 0, 1) := by decide +kernel
theorem dX0_plant_77 : decode cX0_plant 77 = .ok (.bastore, 1) := by decide +kernel
theorem dX0_plant_78 : decode cX0_plant 78 = .ok (.aload_n 0, 1) := by decide +kernel
theorem dX0_plant_79 : decode cX0_plant 79 = .ok (.getfield 20, 3) := by decide +kernel
theorem dX0_plant_82 : decode cX0_plant 82 = .ok (.iload 5, 2) := by decide +kernel
theorem dX0_plant_84 : decode cX0_plant 84 = .ok (.iload_n 2, 1) := by decide +kernel
theorem dX0_plant_85 : decode cX0_plant 85 = .ok (.i2s, 1) := by decide +kernel
theorem dX0_plant_86 : decode cX0_plant 86 = .ok (.sastore, 1) := by decide +kernel
theorem dX0_plant_87 : decode cX0_plant 87 = .ok (.aload_n 0, 1) := by decide +kernel
theorem dX0_plant_88 : decode cX0_plant 88 = .ok (.getfield 23, 3) := by decide +kernel
theorem dX0_plant_91 : decode cX0_plant 91 = .ok (.iload 5, 2) := by decide +kernel
theorem dX0_plant_93 : decode cX0_plant 93 = .ok (.aload_n 0, 1) := by decide +kernel
theorem dX0_plant_94 : decode cX0_plant 94 = .ok (.getfield 26, 3) := by decide +kernel
theorem dX0_plant_97 : decode cX0_plant 97 = .ok (.iload 4, 2) := by decide +kernel
theorem dX0_plant_99 : decode cX0_plant 99 = .ok (.saload, 1) := by decide +kernel
theorem dX0_plant_100 : decode cX0_plant 100 = .ok (.sastore, 1) := by decide +kernel
theorem dX0_plant_101 : decode cX0_plant 101 = .ok (.aload_n 0, 1) := by decide +kernel
theorem dX0_plant_102 : decode cX0_plant 102 = .ok (.getfield 26, 3) := by decide +kernel
theorem dX0_plant_105 : decode cX0_plant 105 = .ok (.iload 4, 2) := by decide +kernel
theorem dX0_plant_107 : decode cX0_plant 107 = .ok (.iload 5, 2) := by decide +kernel
theorem dX0_plant_109 : decode cX0_plant 109 = .ok (.i2s, 1) := by decide +kernel
theorem dX0_plant_110 : decode cX0_plant 110 = .ok (.sastore, 1) := by decide +kernel
theorem dX0_plant_111 : decode cX0_plant 111 = .ok (.aload_n 0, 1) := by decide +kernel
theorem dX0_plant_112 : decode cX0_plant 112 = .ok (.getfield 17, 3) := by decide +kernel
theorem dX0_plant_115 : decode cX0_plant 115 = .ok (.iload 5, 2) := by decide +kernel
theorem dX0_plant_117 : decode cX0_plant 117 = .ok (.dup2, 1) := by decide +kernel
theorem dX0_plant_118 : decode cX0_plant 118 = .ok (.baload, 1) := by decide +kernel
theorem dX0_plant_119 : decode cX0_plant 119 = .ok (.iconst 1, 1) := by decide +kernel
theorem dX0_plant_120 : decode cX0_plant 120 = .ok (.iadd, 1) := by decide +kernel
theorem dX0_plant_121 : decode cX0_plant 121 = .ok (.i2b, 1) := by decide +kernel
theorem dX0_plant_122 : decode cX0_plant 122 = .ok (.bastore, 1) := by decide +kernel
theorem dX0_plant_123 : decode cX0_plant 123 = .ok (.iload 5, 2) := by decide +kernel
theorem dX0_plant_125 : decode cX0_plant 125 = .ok (.istore_n 2, 1) := by decide +kernel
theorem dX0_plant_126 : decode cX0_plant 126 = .ok (.iinc 3 1, 3) := by decide +kernel
theorem dX0_plant_129 : decode cX0_plant 129 = .ok (.goto (-125), 3) := by decide +kernel
theorem dX0_plant_132 : decode cX0_plant 132 = .ok (.return_, 1) := by decide +kernel
end
section
set_option maxRecDepth 100000
abbrev cX0_childWith : ByteArray := prog_1_method_20_code
def yX0_childWith : MethodName := ⟨RX0, "childWith", "(II)I"⟩
theorem dX0_childWith_0 : decode cX0_childWith 0 = .ok (.aload_n 0, 1) := by decide +kernel
theorem dX0_childWith_1 : decode cX0_childWith 1 = .ok (.getfield 26, 3) := by decide +kernel
theorem dX0_childWith_4 : decode cX0_childWith 4 = .ok (.iload_n 2, 1) := by decide +kernel
theorem dX0_childWith_5 : decode cX0_childWith 5 = .ok (.saload, 1) := by decide +kernel
theorem dX0_childWith_6 : decode cX0_childWith 6 = .ok (.istore_n 3, 1) := by decide +kernel
theorem dX0_childWith_7 : decode cX0_childWith 7 = .ok (.iload_n 3, 1) := by decide +kernel
theorem dX0_childWith_8 : decode cX0_childWith 8 = .ok (.ifCond .eq 25, 3) := by decide +kernel
theorem dX0_childWith_11 : decode cX0_childWith 11 = .ok (.aload_n 0, 1) := by decide +kernel
theorem dX0_childWith_12 : decode cX0_childWith 12 = .ok (.getfield 20, 3) := by decide +kernel
theorem dX0_childWith_15 : decode cX0_childWith 15 = .ok (.iload_n 3, 1) := by decide +kernel
theorem dX0_childWith_16 : decode cX0_childWith 16 = .ok (.saload, 1) := by decide +kernel
theorem dX0_childWith_17 : decode cX0_childWith 17 = .ok (.iload_n 1, 1) := by decide +kernel
theorem dX0_childWith_18 : decode cX0_childWith 18 = .ok (.if_icmp .ne 5, 3) := by decide +kernel
theorem dX0_childWith_21 : decode cX0_childWith 21 = .ok (.iload_n 3, 1) := by decide +kernel
theorem dX0_childWith_22 : decode cX0_childWith 22 = .ok (.ireturn, 1) := by decide +kernel
theorem dX0_childWith_23 : decode cX0_childWith 23 = .ok (.aload_n 0, 1) := by decide +kernel
theorem dX0_childWith_24 : decode cX0_childWith 24 = .ok (.getfield 23, 3) := by decide +kernel
theorem dX0_childWith_27 : decode cX0_childWith 27 = .ok (.iload_n 3, 1) := by decide +kernel
theorem dX0_childWith_28 : decode cX0_childWith 28 = .ok (.saload, 1) := by decide +kernel
theorem dX0_childWith_29 : decode cX0_childWith 29 = .ok (.istore_n 3, 1) := by decide +kernel
theorem dX0_childWith_30 : decode cX0_childWith 30 = .ok (.goto (-23), 3) := by decide +kernel
theorem dX0_childWith_33 : decode cX0_childWith 33 = .ok (.iconst 0, 1) := by decide +kernel
theorem dX0_childWith_34 : decode cX0_childWith 34 = .ok (.ireturn, 1) := by decide +kernel
abbrev cX0_growSets : ByteArray := prog_1_method_22_code
def yX0_growSets : MethodName := ⟨RX0, "growSets", "()V"⟩
theorem dX0_growSets_0 : decode cX0_growSets 0 = .ok (.iconst 0, 1) := by decide +kernel
theorem dX0_growSets_1 : decode cX0_growSets 1 = .ok (.istore_n 1, 1) := by decide +kernel
theorem dX0_growSets_2 : decode cX0_growSets 2 = .ok (.iload_n 1, 1) := by decide +kernel
theorem dX0_growSets_3 : decode cX0_growSets 3 = .ok (.sipush 256, 3) := by decide +kernel
theorem dX0_growSets_6 : decode cX0_growSets 6 = .ok (.if_icmp .ge 16, 3) := by decide +kernel
theorem dX0_growSets_9 : decode cX0_growSets 9 = .ok (.aload_n 0, 1) := by decide +kernel
theorem dX0_growSets_10 : decode cX0_growSets 10 = .ok (.getfield 38, 3) := by decide +kernel
theorem dX0_growSets_13 : decode cX0_growSets 13 = .ok (.iload_n 1, 1) := by decide +kernel
theorem dX0_growSets_14 : decode cX0_growSets 14 = .ok (.iconst 0, 1) := by decide +kernel
theorem dX0_growSets_15 : decode cX0_growSets 15 = .ok (.bastore, 1) := by decide +kernel
theorem dX0_growSets_16 : decode cX0_growSets 16 = .ok (.iinc 1 1, 3) := by decide +kernel
theorem dX0_growSets_19 : decode cX0_growSets 19 = .ok (.goto (-17), 3) := by decide +kernel
theorem dX0_growSets_22 : decode cX0_growSets 22 = .ok (.aload_n 0, 1) := by decide +kernel
theorem dX0_growSets_23 : decode cX0_growSets 23 = .ok (.getfield 38, 3) := by decide +kernel
theorem dX0_growSets_26 : decode cX0_growSets 26 = .ok (.iconst 0, 1) := by decide +kernel
theorem dX0_growSets_27 : decode cX0_growSets 27 = .ok (.aload_n 0, 1) := by decide +kernel
theorem dX0_growSets_28 : decode cX0_growSets 28 = .ok (.getfield 50, 3) := by decide +kernel
theorem dX0_growSets_31 : decode cX0_growSets 31 = .ok (.i2b, 1) := by decide +kernel
theorem dX0_growSets_32 : decode cX0_growSets 32 = .ok (.bastore, 1) := by decide +kernel
theorem dX0_growSets_33 : decode cX0_growSets 33 = .ok (.iconst 0, 1) := by decide +kernel
theorem dX0_growSets_34 : decode cX0_growSets 34 = .ok (.istore_n 1, 1) := by decide +kernel
theorem dX0_growSets_35 : decode cX0_growSets 35 = .ok (.iload_n 1, 1) := by decide +kernel
theorem dX0_growSets_36 : decode cX0_growSets 36 = .ok (.aload_n 0, 1) := by decide +kernel
theorem dX0_growSets_37 : decode cX0_growSets 37 = .ok (.getfield 82, 3) := by decide +kernel
theorem dX0_growSets_40 : decode cX0_growSets 40 = .ok (.if_icmp .ge 21, 3) := by decide +kernel
theorem dX0_growSets_43 : decode cX0_growSets 43 = .ok (.aload_n 0, 1) := by decide +kernel
theorem dX0_growSets_44 : decode cX0_growSets 44 = .ok (.getfield 41, 3) := by decide +kernel
theorem dX0_growSets_47 : decode cX0_growSets 47 = .ok (.iload_n 1, 1) := by decide +kernel
theorem dX0_growSets_48 : decode cX0_growSets 48 = .ok (.aload_n 0, 1) := by decide +kernel
theorem dX0_growSets_49 : decode cX0_growSets 49 = .ok (.getfield 17, 3) := by decide +kernel
theorem dX0_growSets_52 : decode cX0_growSets 52 = .ok (.iload_n 1, 1) := by decide +kernel
theorem dX0_growSets_53 : decode cX0_growSets 53 = .ok (.baload, 1) := by decide +kernel
theorem dX0_growSets_54 : decode cX0_growSets 54 = .ok (.bastore, 1) := by decide +kernel
theorem dX0_growSets_55 : decode cX0_growSets 55 = .ok (.iinc 1 1, 3) := by decide +kernel
theorem dX0_growSets_58 : decode cX0_growSets 58 = .ok (.goto (-23), 3) := by decide +kernel
theorem dX0_growSets_61 : decode cX0_growSets 61 = .ok (.iconst 0, 1) := by decide +kernel
theorem dX0_growSets_62 : decode cX0_growSets 62 = .ok (.istore_n 1, 1) := by decide +kernel
theorem dX0_growSets_63 : decode cX0_growSets 63 = .ok (.aload_n 0, 1) := by decide +kernel
theorem dX0_growSets_64 : decode cX0_growSets 64 = .ok (.getfield 44, 3) := by decide +kernel
theorem dX0_growSets_67 : decode cX0_growSets 67 = .ok (.iconst 0, 1) := by decide +kernel
theorem dX0_growSets_68 : decode cX0_growSets 68 = .ok (.iconst 0, 1) := by decide +kernel
theorem dX0_growSets_69 : decode cX0_growSets 69 = .ok (.sastore, 1) := by decide +kernel
theorem dX0_growSets_70 : decode cX0_growSets 70 = .ok (.aload_n 0, 1) := by decide +kernel
theorem dX0_growSets_71 : decode cX0_growSets 71 = .ok (.getfield 47, 3) := by decide +kernel
theorem dX0_growSets_74 : decode cX0_growSets 74 = .ok (.iconst 0, 1) := by decide +kernel
theorem dX0_growSets_75 : decode cX0_growSets 75 = .ok (.bipush 7, 2) := by decide +kernel
theorem dX0_growSets_77 : decode cX0_growSets 77 = .ok (.bastore, 1) := by decide +kernel
theorem dX0_growSets_78 : decode cX0_growSets 78 = .ok (.iload_n 1, 1) := by decide +kernel
theorem dX0_growSets_79 : decode cX0_growSets 79 = .ok (.ifCond .lt 107, 3) := by decide +kernel
theorem dX0_growSets_82 : decode cX0_growSets 82 = .ok (.aload_n 0, 1) := by decide +kernel
theorem dX0_growSets_83 : decode cX0_growSets 83 = .ok (.getfield 47, 3) := by decide +kernel
theorem dX0_growSets_86 : decode cX0_growSets 86 = .ok (.iload_n 1, 1) := by decide +kernel
theorem dX0_growSets_87 : decode cX0_growSets 87 = .ok (.baload, 1) := by decide +kernel
theorem dX0_growSets_88 : decode cX0_growSets 88 = .ok (.istore_n 2, 1) := by decide +kernel
theorem dX0_growSets_89 : decode cX0_growSets 89 = .ok (.iload_n 2, 1) := by decide +kernel
theorem dX0_growSets_90 : decode cX0_growSets 90 = .ok (.ifCond .ge 9, 3) := by decide +kernel
theorem dX0_growSets_93 : decode cX0_growSets 93 = .ok (.iinc 1 (-1), 3) := by decide +kernel
theorem dX0_growSets_96 : decode cX0_growSets 96 = .ok (.goto (-18), 3) := by decide +kernel
theorem dX0_growSets_99 : decode cX0_growSets 99 = .ok (.aload_n 0, 1) := by decide +kernel
theorem dX0_growSets_100 : decode cX0_growSets 100 = .ok (.getfield 47, 3) := by decide +kernel
theorem dX0_growSets_103 : decode cX0_growSets 103 = .ok (.iload_n 1, 1) := by decide +kernel
theorem dX0_growSets_104 : decode cX0_growSets 104 = .ok (.dup2, 1) := by decide +kernel
theorem dX0_growSets_105 : decode cX0_growSets 105 = .ok (.baload, 1) := by decide +kernel
theorem dX0_growSets_106 : decode cX0_growSets 106 = .ok (.iconst 1, 1) := by decide +kernel
theorem dX0_growSets_107 : decode cX0_growSets 107 = .ok (.isub, 1) := by decide +kernel
theorem dX0_growSets_108 : decode cX0_growSets 108 = .ok (.i2b, 1) := by decide +kernel
theorem dX0_growSets_109 : decode cX0_growSets 109 = .ok (.bastore, 1) := by decide +kernel
theorem dX0_growSets_110 : decode cX0_growSets 110 = .ok (.aload_n 0, 1) := by decide +kernel
theorem dX0_growSets_111 : decode cX0_growSets 111 = .ok (.getfield 29, 3) := by decide +kernel
theorem dX0_growSets_114 : decode cX0_growSets 114 = .ok (.iload_n 2, 1) := by decide +kernel
theorem dX0_growSets_115 : decode cX0_growSets 115 = .ok (.baload, 1) := by decide +kernel
theorem dX0_growSets_116 : decode cX0_growSets 116 = .ok (.istore_n 3, 1) := by decide +kernel
theorem dX0_growSets_117 : decode cX0_growSets 117 = .ok (.aload_n 0, 1) := by decide +kernel
theorem dX0_growSets_118 : decode cX0_growSets 118 = .ok (.iload_n 1, 1) := by decide +kernel
theorem dX0_growSets_119 : decode cX0_growSets 119 = .ok (.iload_n 3, 1) := by decide +kernel
theorem dX0_growSets_120 : decode cX0_growSets 120 = .ok (.invokevirtual 96, 3) := by decide +kernel
theorem dX0_growSets_123 : decode cX0_growSets 123 = .ok (.istore 4, 2) := by decide +kernel
theorem dX0_growSets_125 : decode cX0_growSets 125 = .ok (.iload 4, 2) := by decide +kernel
theorem dX0_growSets_127 : decode cX0_growSets 127 = .ok (.ifCond .ne 6, 3) := by decide +kernel
theorem dX0_growSets_130 : decode cX0_growSets 130 = .ok (.goto (-52), 3) := by decide +kernel
theorem dX0_growSets_133 : decode cX0_growSets 133 = .ok (.aload_n 0, 1) := by decide +kernel
theorem dX0_growSets_134 : decode cX0_growSets 134 = .ok (.getfield 44, 3) := by decide +kernel
theorem dX0_growSets_137 : decode cX0_growSets 137 = .ok (.iload_n 1, 1) := by decide +kernel
theorem dX0_growSets_138 : decode cX0_growSets 138 = .ok (.saload, 1) := by decide +kernel
theorem dX0_growSets_139 : decode cX0_growSets 139 = .ok (.iconst 1, 1) := by decide +kernel
theorem dX0_growSets_140 : decode cX0_growSets 140 = .ok (.iload_n 3, 1) := by decide +kernel
theorem dX0_growSets_141 : decode cX0_growSets 141 = .ok (.ishl, 1) := by decide +kernel
theorem dX0_growSets_142 : decode cX0_growSets 142 = .ok (.ior, 1) := by decide +kernel
theorem dX0_growSets_143 : decode cX0_growSets 143 = .ok (.istore 5, 2) := by decide +kernel
theorem dX0_growSets_145 : decode cX0_growSets 145 = .ok (.aload_n 0, 1) := by decide +kernel
theorem dX0_growSets_146 : decode cX0_growSets 146 = .ok (.getfield 38, 3) := by decide +kernel
theorem dX0_growSets_149 : decode cX0_growSets 149 = .ok (.iload 5, 2) := by decide +kernel
theorem dX0_growSets_151 : decode cX0_growSets 151 = .ok (.iload 4, 2) := by decide +kernel
theorem dX0_growSets_153 : decode cX0_growSets 153 = .ok (.i2b, 1) := by decide +kernel
theorem dX0_growSets_154 : decode cX0_growSets 154 = .ok (.bastore, 1) := by decide +kernel
theorem dX0_growSets_155 : decode cX0_growSets 155 = .ok (.aload_n 0, 1) := by decide +kernel
theorem dX0_growSets_156 : decode cX0_growSets 156 = .ok (.iload_n 1, 1) := by decide +kernel
theorem dX0_growSets_157 : decode cX0_growSets 157 = .ok (.iload_n 3, 1) := by decide +kernel
theorem dX0_growSets_158 : decode cX0_growSets 158 = .ok (.invokevirtual 99, 3) := by decide +kernel
theorem dX0_growSets_161 : decode cX0_growSets 161 = .ok (.iinc 1 1, 3) := by decide +kernel
theorem dX0_growSets_164 : decode cX0_growSets 164 = .ok (.aload_n 0, 1) := by decide +kernel
theorem dX0_growSets_165 : decode cX0_growSets 165 = .ok (.getfield 44, 3) := by decide +kernel
theorem dX0_growSets_168 : decode cX0_growSets 168 = .ok (.iload_n 1, 1) := by decide +kernel
theorem dX0_growSets_169 : decode cX0_growSets 169 = .ok (.iload 5, 2) := by decide +kernel
theorem dX0_growSets_171 : decode cX0_growSets 171 = .ok (.i2s, 1) := by decide +kernel
theorem dX0_growSets_172 : decode cX0_growSets 172 = .ok (.sastore, 1) := by decide +kernel
theorem dX0_growSets_173 : decode cX0_growSets 173 = .ok (.aload_n 0, 1) := by decide +kernel
theorem dX0_growSets_174 : decode cX0_growSets 174 = .ok (.getfield 47, 3) := by decide +kernel
theorem dX0_growSets_177 : decode cX0_growSets 177 = .ok (.iload_n 1, 1) := by decide +kernel
theorem dX0_growSets_178 : decode cX0_growSets 178 = .ok (.iload_n 2, 1) := by decide +kernel
theorem dX0_growSets_179 : decode cX0_growSets 179 = .ok (.iconst 1, 1) := by decide +kernel
theorem dX0_growSets_180 : decode cX0_growSets 180 = .ok (.isub, 1) := by decide +kernel
theorem dX0_growSets_181 : decode cX0_growSets 181 = .ok (.i2b, 1) := by decide +kernel
theorem dX0_growSets_182 : decode cX0_growSets 182 = .ok (.bastore, 1) := by decide +kernel
theorem dX0_growSets_183 : decode cX0_growSets 183 = .ok (.goto (-105), 3) := by decide +kernel
theorem dX0_growSets_186 : decode cX0_growSets 186 = .ok (.return_, 1) := by decide +kernel
abbrev cX0_countOn : ByteArray := prog_1_method_23_code
def yX0_countOn : MethodName := ⟨RX0, "countOn", "(II)I"⟩
theorem dX0_countOn_0 : decode cX0_countOn 0 = .ok (.iconst 0, 1) := by decide +kernel
theorem dX0_countOn_1 : decode cX0_countOn 1 = .ok (.istore_n 3, 1) := by decide +kernel
theorem dX0_countOn_2 : decode cX0_countOn 2 = .ok (.aload_n 0, 1) := by decide +kernel
theorem dX0_countOn_3 : decode cX0_countOn 3 = .ok (.getfield 26, 3) := by decide +kernel
theorem dX0_countOn_6 : decode cX0_countOn 6 = .ok (.iload_n 2, 1) := by decide +kernel
theorem dX0_countOn_7 : decode cX0_countOn 7 = .ok (.saload, 1) := by decide +kernel
theorem dX0_countOn_8 : decode cX0_countOn 8 = .ok (.istore 4, 2) := by decide +kernel
theorem dX0_countOn_10 : decode cX0_countOn 10 = .ok (.iload 4, 2) := by decide +kernel
theorem dX0_countOn_12 : decode cX0_countOn 12 = .ok (.ifCond .eq 31, 3) := by decide +kernel
theorem dX0_countOn_15 : decode cX0_countOn 15 = .ok (.iload_n 3, 1) := by decide +kernel
theorem dX0_countOn_16 : decode cX0_countOn 16 = .ok (.aload_n 0, 1) := by decide +kernel
theorem dX0_countOn_17 : decode cX0_countOn 17 = .ok (.getfield 41, 3) := by decide +kernel
theorem dX0_countOn_20 : decode cX0_countOn 20 = .ok (.sipush 161, 3) := by decide +kernel
theorem dX0_countOn_23 : decode cX0_countOn 23 = .ok (.iload_n 1, 1) := by decide +kernel
theorem dX0_countOn_24 : decode cX0_countOn 24 = .ok (.imul, 1) := by decide +kernel
theorem dX0_countOn_25 : decode cX0_countOn 25 = .ok (.iload 4, 2) := by decide +kernel
theorem dX0_countOn_27 : decode cX0_countOn 27 = .ok (.iadd, 1) := by decide +kernel
theorem dX0_countOn_28 : decode cX0_countOn 28 = .ok (.baload, 1) := by decide +kernel
theorem dX0_countOn_29 : decode cX0_countOn 29 = .ok (.iadd, 1) := by decide +kernel
theorem dX0_countOn_30 : decode cX0_countOn 30 = .ok (.istore_n 3, 1) := by decide +kernel
theorem dX0_countOn_31 : decode cX0_countOn 31 = .ok (.aload_n 0, 1) := by decide +kernel
theorem dX0_countOn_32 : decode cX0_countOn 32 = .ok (.getfield 23, 3) := by decide +kernel
theorem dX0_countOn_35 : decode cX0_countOn 35 = .ok (.iload 4, 2) := by decide +kernel
theorem dX0_countOn_37 : decode cX0_countOn 37 = .ok (.saload, 1) := by decide +kernel
theorem dX0_countOn_38 : decode cX0_countOn 38 = .ok (.istore 4, 2) := by decide +kernel
theorem dX0_countOn_40 : decode cX0_countOn 40 = .ok (.goto (-30), 3) := by decide +kernel
theorem dX0_countOn_43 : decode cX0_countOn 43 = .ok (.iload_n 3, 1) := by decide +kernel
theorem dX0_countOn_44 : decode cX0_countOn 44 = .ok (.ireturn, 1) := by decide +kernel
abbrev cX0_liftWeights : ByteArray := prog_1_method_24_code
def yX0_liftWeights : MethodName := ⟨RX0, "liftWeights", "(II)V"⟩
theorem dX0_liftWeights_0 : decode cX0_liftWeights 0 = .ok (.sipush 161, 3) := by decide +kernel
theorem dX0_liftWeights_3 : decode cX0_liftWeights 3 = .ok (.iload_n 1, 1) := by decide +kernel
theorem dX0_liftWeights_4 : decode cX0_liftWeights 4 = .ok (.imul, 1) := by decide +kernel
theorem dX0_liftWeights_5 : decode cX0_liftWeights 5 = .ok (.istore_n 3, 1) := by decide +kernel
theorem dX0_liftWeights_6 : decode cX0_liftWeights 6 = .ok (.iload_n 3, 1) := by decide +kernel
theorem dX0_liftWeights_7 : decode cX0_liftWeights 7 = .ok (.sipush 161, 3) := by decide +kernel
theorem dX0_liftWeights_10 : decode cX0_liftWeights 10 = .ok (.iadd, 1) := by decide +kernel
theorem dX0_liftWeights_11 : decode cX0_liftWeights 11 = .ok (.istore 4, 2) := by decide +kernel
theorem dX0_liftWeights_13 : decode cX0_liftWeights 13 = .ok (.iconst 0, 1) := by decide +kernel
theorem dX0_liftWeights_14 : decode cX0_liftWeights 14 = .ok (.istore 5, 2) := by decide +kernel
theorem dX0_liftWeights_16 : decode cX0_liftWeights 16 = .ok (.iload 5, 2) := by decide +kernel
theorem dX0_liftWeights_18 : decode cX0_liftWeights 18 = .ok (.aload_n 0, 1) := by decide +kernel
theorem dX0_liftWeights_19 : decode cX0_liftWeights 19 = .ok (.getfield 82, 3) := by decide +kernel
theorem dX0_liftWeights_22 : decode cX0_liftWeights 22 = .ok (.if_icmp .ge 20, 3) := by decide +kernel
theorem dX0_liftWeights_25 : decode cX0_liftWeights 25 = .ok (.aload_n 0, 1) := by decide +kernel
theorem dX0_liftWeights_26 : decode cX0_liftWeights 26 = .ok (.getfield 41, 3) := by decide +kernel
theorem dX0_liftWeights_29 : decode cX0_liftWeights 29 = .ok (.iload 4, 2) := by decide +kernel
theorem dX0_liftWeights_31 : decode cX0_liftWeights 31 = .ok (.iload 5, 2) := by decide +kernel
theorem dX0_liftWeights_33 : decode cX0_liftWeights 33 = .ok (.iadd, 1) := by decide +kernel
theorem dX0_liftWeights_34 : decode cX0_liftWeights 34 = .ok (.iconst 0, 1) := by decide +kernel
theorem dX0_liftWeights_35 : decode cX0_liftWeights 35 = .ok (.bastore, 1) := by decide +kernel
theorem dX0_liftWeights_36 : decode cX0_liftWeights 36 = .ok (.iinc 5 1, 3) := by decide +kernel
theorem dX0_liftWeights_39 : decode cX0_liftWeights 39 = .ok (.goto (-23), 3) := by decide +kernel
theorem dX0_liftWeights_42 : decode cX0_liftWeights 42 = .ok (.aload_n 0, 1) := by decide +kernel
theorem dX0_liftWeights_43 : decode cX0_liftWeights 43 = .ok (.getfield 26, 3) := by decide +kernel
theorem dX0_liftWeights_46 : decode cX0_liftWeights 46 = .ok (.iload_n 2, 1) := by decide +kernel
theorem dX0_liftWeights_47 : decode cX0_liftWeights 47 = .ok (.saload, 1) := by decide +kernel
theorem dX0_liftWeights_48 : decode cX0_liftWeights 48 = .ok (.istore 5, 2) := by decide +kernel
theorem dX0_liftWeights_50 : decode cX0_liftWeights 50 = .ok (.iload 5, 2) := by decide +kernel
theorem dX0_liftWeights_52 : decode cX0_liftWeights 52 = .ok (.ifCond .eq 34, 3) := by decide +kernel
theorem dX0_liftWeights_55 : decode cX0_liftWeights 55 = .ok (.aload_n 0, 1) := by decide +kernel
theorem dX0_liftWeights_56 : decode cX0_liftWeights 56 = .ok (.getfield 41, 3) := by decide +kernel
theorem dX0_liftWeights_59 : decode cX0_liftWeights 59 = .ok (.iload 4, 2) := by decide +kernel
theorem dX0_liftWeights_61 : decode cX0_liftWeights 61 = .ok (.iload 5, 2) := by decide +kernel
theorem dX0_liftWeights_63 : decode cX0_liftWeights 63 = .ok (.iadd, 1) := by decide +kernel
theorem dX0_liftWeights_64 : decode cX0_liftWeights 64 = .ok (.aload_n 0, 1) := by decide +kernel
theorem dX0_liftWeights_65 : decode cX0_liftWeights 65 = .ok (.getfield 41, 3) := by decide +kernel
theorem dX0_liftWeights_68 : decode cX0_liftWeights 68 = .ok (.iload_n 3, 1) := by decide +kernel
theorem dX0_liftWeights_69 : decode cX0_liftWeights 69 = .ok (.iload 5, 2) := by decide +kernel
theorem dX0_liftWeights_71 : decode cX0_liftWeights 71 = .ok (.iadd, 1) := by decide +kernel
theorem dX0_liftWeights_72 : decode cX0_liftWeights 72 = .ok (.baload, 1) := by decide +kernel
theorem dX0_liftWeights_73 : decode cX0_liftWeights 73 = .ok (.bastore, 1) := by decide +kernel
theorem dX0_liftWeights_74 : decode cX0_liftWeights 74 = .ok (.aload_n 0, 1) := by decide +kernel
theorem dX0_liftWeights_75 : decode cX0_liftWeights 75 = .ok (.getfield 23, 3) := by decide +kernel
theorem dX0_liftWeights_78 : decode cX0_liftWeights 78 = .ok (.iload 5, 2) := by decide +kernel
theorem dX0_liftWeights_80 : decode cX0_liftWeights 80 = .ok (.saload, 1) := by decide +kernel
theorem dX0_liftWeights_81 : decode cX0_liftWeights 81 = .ok (.istore 5, 2) := by decide +kernel
theorem dX0_liftWeights_83 : decode cX0_liftWeights 83 = .ok (.goto (-33), 3) := by decide +kernel
theorem dX0_liftWeights_86 : decode cX0_liftWeights 86 = .ok (.aload_n 0, 1) := by decide +kernel
theorem dX0_liftWeights_87 : decode cX0_liftWeights 87 = .ok (.getfield 82, 3) := by decide +kernel
theorem dX0_liftWeights_90 : decode cX0_liftWeights 90 = .ok (.iconst 1, 1) := by decide +kernel
theorem dX0_liftWeights_91 : decode cX0_liftWeights 91 = .ok (.isub, 1) := by decide +kernel
theorem dX0_liftWeights_92 : decode cX0_liftWeights 92 = .ok (.istore 5, 2) := by decide +kernel
theorem dX0_liftWeights_94 : decode cX0_liftWeights 94 = .ok (.iload 5, 2) := by decide +kernel
theorem dX0_liftWeights_96 : decode cX0_liftWeights 96 = .ok (.ifCond .le 38, 3) := by decide +kernel
theorem dX0_liftWeights_99 : decode cX0_liftWeights 99 = .ok (.aload_n 0, 1) := by decide +kernel
theorem dX0_liftWeights_100 : decode cX0_liftWeights 100 = .ok (.getfield 41, 3) := by decide +kernel
theorem dX0_liftWeights_103 : decode cX0_liftWeights 103 = .ok (.iload 4, 2) := by decide +kernel
theorem dX0_liftWeights_105 : decode cX0_liftWeights 105 = .ok (.aload_n 0, 1) := by decide +kernel
theorem dX0_liftWeights_106 : decode cX0_liftWeights 106 = .ok (.getfield 20, 3) := by decide +kernel
theorem dX0_liftWeights_109 : decode cX0_liftWeights 109 = .ok (.iload 5, 2) := by decide +kernel
theorem dX0_liftWeights_111 : decode cX0_liftWeights 111 = .ok (.saload, 1) := by decide +kernel
theorem dX0_liftWeights_112 : decode cX0_liftWeights 112 = .ok (.iadd, 1) := by decide +kernel
theorem dX0_liftWeights_113 : decode cX0_liftWeights 113 = .ok (.dup2, 1) := by decide +kernel
theorem dX0_liftWeights_114 : decode cX0_liftWeights 114 = .ok (.baload, 1) := by decide +kernel
theorem dX0_liftWeights_115 : decode cX0_liftWeights 115 = .ok (.aload_n 0, 1) := by decide +kernel
theorem dX0_liftWeights_116 : decode cX0_liftWeights 116 = .ok (.getfield 41, 3) := by decide +kernel
theorem dX0_liftWeights_119 : decode cX0_liftWeights 119 = .ok (.iload 4, 2) := by decide +kernel
theorem dX0_liftWeights_121 : decode cX0_liftWeights 121 = .ok (.iload 5, 2) := by decide +kernel
theorem dX0_liftWeights_123 : decode cX0_liftWeights 123 = .ok (.iadd, 1) := by decide +kernel
theorem dX0_liftWeights_124 : decode cX0_liftWeights 124 = .ok (.baload, 1) := by decide +kernel
theorem dX0_liftWeights_125 : decode cX0_liftWeights 125 = .ok (.iadd, 1) := by decide +kernel
theorem dX0_liftWeights_126 : decode cX0_liftWeights 126 = .ok (.i2b, 1) := by decide +kernel
theorem dX0_liftWeights_127 : decode cX0_liftWeights 127 = .ok (.bastore, 1) := by decide +kernel
theorem dX0_liftWeights_128 : decode cX0_liftWeights 128 = .ok (.iinc 5 (-1), 3) := by decide +kernel
theorem dX0_liftWeights_131 : decode cX0_liftWeights 131 = .ok (.goto (-37), 3) := by decide +kernel
theorem dX0_liftWeights_134 : decode cX0_liftWeights 134 = .ok (.return_, 1) := by decide +kernel
abbrev cX0_frequent : ByteArray := prog_1_method_7_code
def yX0_frequent : MethodName := ⟨RX0, "frequent", "(I)I"⟩
theorem dX0_frequent_0 : decode cX0_frequent 0 = .ok (.aload_n 0, 1) := by decide +kernel
theorem dX0_frequent_1 : decode cX0_frequent 1 = .ok (.iload_n 1, 1) := by decide +kernel
theorem dX0_frequent_2 : decode cX0_frequent 2 = .ok (.invokevirtual 65, 3) := by decide +kernel
theorem dX0_frequent_5 : decode cX0_frequent 5 = .ok (.ifCond .ne 5, 3) := by decide +kernel
theorem dX0_frequent_8 : decode cX0_frequent 8 = .ok (.iconst (-1), 1) := by decide +kernel
theorem dX0_frequent_9 : decode cX0_frequent 9 = .ok (.ireturn, 1) := by decide +kernel
theorem dX0_frequent_10 : decode cX0_frequent 10 = .ok (.aload_n 0, 1) := by decide +kernel
theorem dX0_frequent_11 : decode cX0_frequent 11 = .ok (.invokevirtual 62, 3) := by decide +kernel
theorem dX0_frequent_14 : decode cX0_frequent 14 = .ok (.iconst 0, 1) := by decide +kernel
theorem dX0_frequent_15 : decode cX0_frequent 15 = .ok (.istore_n 2, 1) := by decide +kernel
theorem dX0_frequent_16 : decode cX0_frequent 16 = .ok (.iconst 1, 1) := by decide +kernel
theorem dX0_frequent_17 : decode cX0_frequent 17 = .ok (.istore_n 3, 1) := by decide +kernel
theorem dX0_frequent_18 : decode cX0_frequent 18 = .ok (.iload_n 3, 1) := by decide +kernel
theorem dX0_frequent_19 : decode cX0_frequent 19 = .ok (.sipush 256, 3) := by decide +kernel
theorem dX0_frequent_22 : decode cX0_frequent 22 = .ok (.if_icmp .ge 22, 3) := by decide +kernel
theorem dX0_frequent_25 : decode cX0_frequent 25 = .ok (.aload_n 0, 1) := by decide +kernel
theorem dX0_frequent_26 : decode cX0_frequent 26 = .ok (.getfield 38, 3) := by decide +kernel
theorem dX0_frequent_29 : decode cX0_frequent 29 = .ok (.iload_n 3, 1) := by decide +kernel
theorem dX0_frequent_30 : decode cX0_frequent 30 = .ok (.baload, 1) := by decide +kernel
theorem dX0_frequent_31 : decode cX0_frequent 31 = .ok (.iload_n 1, 1) := by decide +kernel
theorem dX0_frequent_32 : decode cX0_frequent 32 = .ok (.if_icmp .lt 6, 3) := by decide +kernel
theorem dX0_frequent_35 : decode cX0_frequent 35 = .ok (.iinc 2 1, 3) := by decide +kernel
theorem dX0_frequent_38 : decode cX0_frequent 38 = .ok (.iinc 3 1, 3) := by decide +kernel
theorem dX0_frequent_41 : decode cX0_frequent 41 = .ok (.goto (-23), 3) := by decide +kernel
theorem dX0_frequent_44 : decode cX0_frequent 44 = .ok (.iload_n 2, 1) := by decide +kernel
theorem dX0_frequent_45 : decode cX0_frequent 45 = .ok (.ireturn, 1) := by decide +kernel
abbrev cX0_isBound : ByteArray := prog_1_method_5_code
def yX0_isBound : MethodName := ⟨RX0, "isBound", "(I)Z"⟩
theorem dX0_isBound_0 : decode cX0_isBound 0 = .ok (.iload_n 1, 1) := by decide +kernel
theorem dX0_isBound_1 : decode cX0_isBound 1 = .ok (.iconst 1, 1) := by decide +kernel
theorem dX0_isBound_2 : decode cX0_isBound 2 = .ok (.if_icmp .lt 13, 3) := by decide +kernel
theorem dX0_isBound_5 : decode cX0_isBound 5 = .ok (.iload_n 1, 1) := by decide +kernel
theorem dX0_isBound_6 : decode cX0_isBound 6 = .ok (.bipush 20, 2) := by decide +kernel
theorem dX0_isBound_8 : decode cX0_isBound 8 = .ok (.if_icmp .gt 7, 3) := by decide +kernel
theorem dX0_isBound_11 : decode cX0_isBound 11 = .ok (.iconst 1, 1) := by decide +kernel
theorem dX0_isBound_12 : decode cX0_isBound 12 = .ok (.goto 4, 3) := by decide +kernel
theorem dX0_isBound_15 : decode cX0_isBound 15 = .ok (.iconst 0, 1) := by decide +kernel
theorem dX0_isBound_16 : decode cX0_isBound 16 = .ok (.ireturn, 1) := by decide +kernel
abbrev cX0_closed : ByteArray := prog_1_method_8_code
def yX0_closed : MethodName := ⟨RX0, "closed", "(I)I"⟩
theorem dX0_closed_0 : decode cX0_closed 0 = .ok (.aload_n 0, 1) := by decide +kernel
theorem dX0_closed_1 : decode cX0_closed 1 = .ok (.iload_n 1, 1) := by decide +kernel
theorem dX0_closed_2 : decode cX0_closed 2 = .ok (.invokevirtual 65, 3) := by decide +kernel
theorem dX0_closed_5 : decode cX0_closed 5 = .ok (.ifCond .ne 5, 3) := by decide +kernel
theorem dX0_closed_8 : decode cX0_closed 8 = .ok (.iconst (-1), 1) := by decide +kernel
theorem dX0_closed_9 : decode cX0_closed 9 = .ok (.ireturn, 1) := by decide +kernel
theorem dX0_closed_10 : decode cX0_closed 10 = .ok (.aload_n 0, 1) := by decide +kernel
theorem dX0_closed_11 : decode cX0_closed 11 = .ok (.invokevirtual 62, 3) := by decide +kernel
theorem dX0_closed_14 : decode cX0_closed 14 = .ok (.iconst 0, 1) := by decide +kernel
theorem dX0_closed_15 : decode cX0_closed 15 = .ok (.istore_n 2, 1) := by decide +kernel
theorem dX0_closed_16 : decode cX0_closed 16 = .ok (.iconst 1, 1) := by decide +kernel
theorem dX0_closed_17 : decode cX0_closed 17 = .ok (.istore_n 3, 1) := by decide +kernel
theorem dX0_closed_18 : decode cX0_closed 18 = .ok (.iload_n 3, 1) := by decide +kernel
theorem dX0_closed_19 : decode cX0_closed 19 = .ok (.sipush 256, 3) := by decide +kernel
theorem dX0_closed_22 : decode cX0_closed 22 = .ok (.if_icmp .ge 21, 3) := by decide +kernel
theorem dX0_closed_25 : decode cX0_closed 25 = .ok (.aload_n 0, 1) := by decide +kernel
theorem dX0_closed_26 : decode cX0_closed 26 = .ok (.iload_n 3, 1) := by decide +kernel
theorem dX0_closed_27 : decode cX0_closed 27 = .ok (.iload_n 1, 1) := by decide +kernel
theorem dX0_closed_28 : decode cX0_closed 28 = .ok (.invokevirtual 68, 3) := by decide +kernel
theorem dX0_closed_31 : decode cX0_closed 31 = .ok (.ifCond .eq 6, 3) := by decide +kernel
theorem dX0_closed_34 : decode cX0_closed 34 = .ok (.iinc 2 1, 3) := by decide +kernel
theorem dX0_closed_37 : decode cX0_closed 37 = .ok (.iinc 3 1, 3) := by decide +kernel
theorem dX0_closed_40 : decode cX0_closed 40 = .ok (.goto (-22), 3) := by decide +kernel
theorem dX0_closed_43 : decode cX0_closed 43 = .ok (.iload_n 2, 1) := by decide +kernel
theorem dX0_closed_44 : decode cX0_closed 44 = .ok (.ireturn, 1) := by decide +kernel
abbrev cX0_isClosed : ByteArray := prog_1_method_16_code
def yX0_isClosed : MethodName := ⟨RX0, "isClosed", "(II)Z"⟩
theorem dX0_isClosed_0 : decode cX0_isClosed 0 = .ok (.aload_n 0, 1) := by decide +kernel
theorem dX0_isClosed_1 : decode cX0_isClosed 1 = .ok (.getfield 38, 3) := by decide +kernel
theorem dX0_isClosed_4 : decode cX0_isClosed 4 = .ok (.iload_n 1, 1) := by decide +kernel
theorem dX0_isClosed_5 : decode cX0_isClosed 5 = .ok (.baload, 1) := by decide +kernel
theorem dX0_isClosed_6 : decode cX0_isClosed 6 = .ok (.iload_n 2, 1) := by decide +kernel
theorem dX0_isClosed_7 : decode cX0_isClosed 7 = .ok (.if_icmp .ge 5, 3) := by decide +kernel
theorem dX0_isClosed_10 : decode cX0_isClosed 10 = .ok (.iconst 0, 1) := by decide +kernel
theorem dX0_isClosed_11 : decode cX0_isClosed 11 = .ok (.ireturn, 1) := by decide +kernel
theorem dX0_isClosed_12 : decode cX0_isClosed 12 = .ok (.iconst 0, 1) := by decide +kernel
theorem dX0_isClosed_13 : decode cX0_isClosed 13 = .ok (.istore_n 3, 1) := by decide +kernel
theorem dX0_isClosed_14 : decode cX0_isClosed 14 = .ok (.iload_n 3, 1) := by decide +kernel
theorem dX0_isClosed_15 : decode cX0_isClosed 15 = .ok (.bipush 8, 2) := by decide +kernel
theorem dX0_isClosed_17 : decode cX0_isClosed 17 = .ok (.if_icmp .ge 38, 3) := by decide +kernel
theorem dX0_isClosed_20 : decode cX0_isClosed 20 = .ok (.iload_n 1, 1) := by decide +kernel
theorem dX0_isClosed_21 : decode cX0_isClosed 21 = .ok (.iload_n 3, 1) := by decide +kernel
theorem dX0_isClosed_22 : decode cX0_isClosed 22 = .ok (.ishr, 1) := by decide +kernel
theorem dX0_isClosed_23 : decode cX0_isClosed 23 = .ok (.iconst 1, 1) := by decide +kernel
theorem dX0_isClosed_24 : decode cX0_isClosed 24 = .ok (.iand, 1) := by decide +kernel
theorem dX0_isClosed_25 : decode cX0_isClosed 25 = .ok (.ifCond .ne 24, 3) := by decide +kernel
theorem dX0_isClosed_28 : decode cX0_isClosed 28 = .ok (.aload_n 0, 1) := by decide +kernel
theorem dX0_isClosed_29 : decode cX0_isClosed 29 = .ok (.getfield 38, 3) := by decide +kernel
theorem dX0_isClosed_32 : decode cX0_isClosed 32 = .ok (.iload_n 1, 1) := by decide +kernel
theorem dX0_isClosed_33 : decode cX0_isClosed 33 = .ok (.iconst 1, 1) := by decide +kernel
theorem dX0_isClosed_34 : decode cX0_isClosed 34 = .ok (.iload_n 3, 1) := by decide +kernel
theorem dX0_isClosed_35 : decode cX0_isClosed 35 = .ok (.ishl, 1) := by decide +kernel
theorem dX0_isClosed_36 : decode cX0_isClosed 36 = .ok (.ior, 1) := by decide +kernel
theorem dX0_isClosed_37 : decode cX0_isClosed 37 = .ok (.baload, 1) := by decide +kernel
theorem dX0_isClosed_38 : decode cX0_isClosed 38 = .ok (.aload_n 0, 1) := by decide +kernel
theorem dX0_isClosed_39 : decode cX0_isClosed 39 = .ok (.getfield 38, 3) := by decide +kernel
theorem dX0_isClosed_42 : decode cX0_isClosed 42 = .ok (.iload_n 1, 1) := by decide +kernel
theorem dX0_isClosed_43 : decode cX0_isClosed 43 = .ok (.baload, 1) := by decide +kernel
theorem dX0_isClosed_44 : decode cX0_isClosed 44 = .ok (.if_icmp .ne 5, 3) := by decide +kernel
theorem dX0_isClosed_47 : decode cX0_isClosed 47 = .ok (.iconst 0, 1) := by decide +kernel
theorem dX0_isClosed_48 : decode cX0_isClosed 48 = .ok (.ireturn, 1) := by decide +kernel
theorem dX0_isClosed_49 : decode cX0_isClosed 49 = .ok (.iinc 3 1, 3) := by decide +kernel
theorem dX0_isClosed_52 : decode cX0_isClosed 52 = .ok (.goto (-38), 3) := by decide +kernel
theorem dX0_isClosed_55 : decode cX0_isClosed 55 = .ok (.iconst 1, 1) := by decide +kernel
theorem dX0_isClosed_56 : decode cX0_isClosed 56 = .ok (.ireturn, 1) := by decide +kernel
end
section
set_option maxRecDepth 100000
abbrev cX0_largest : ByteArray := prog_1_method_9_code
def yX0_largest : MethodName := ⟨RX0, "largest", "(I)I"⟩
theorem dX0_largest_0 : decode cX0_largest 0 = .ok (.aload_n 0, 1) := by decide +kernel
theorem dX0_largest_1 : decode cX0_largest 1 = .ok (.iload_n 1, 1) := by decide +kernel
theorem dX0_largest_2 : decode cX0_largest 2 = .ok (.invokevirtual 65, 3) := by decide +kernel
theorem dX0_largest_5 : decode cX0_largest 5 = .ok (.ifCond .ne 5, 3) := by decide +kernel
theorem dX0_largest_8 : decode cX0_largest 8 = .ok (.iconst (-1), 1) := by decide +kernel
theorem dX0_largest_9 : decode cX0_largest 9 = .ok (.ireturn, 1) := by decide +kernel
theorem dX0_largest_10 : decode cX0_largest 10 = .ok (.aload_n 0, 1) := by decide +kernel
theorem dX0_largest_11 : decode cX0_largest 11 = .ok (.invokevirtual 62, 3) := by decide +kernel
theorem dX0_largest_14 : decode cX0_largest 14 = .ok (.iconst 0, 1) := by decide +kernel
theorem dX0_largest_15 : decode cX0_largest 15 = .ok (.istore_n 2, 1) := by decide +kernel
theorem dX0_largest_16 : decode cX0_largest 16 = .ok (.iconst 1, 1) := by decide +kernel
theorem dX0_largest_17 : decode cX0_largest 17 = .ok (.istore_n 3, 1) := by decide +kernel
theorem dX0_largest_18 : decode cX0_largest 18 = .ok (.iload_n 3, 1) := by decide +kernel
theorem dX0_largest_19 : decode cX0_largest 19 = .ok (.sipush 256, 3) := by decide +kernel
theorem dX0_largest_22 : decode cX0_largest 22 = .ok (.if_icmp .ge 21, 3) := by decide +kernel
theorem dX0_largest_25 : decode cX0_largest 25 = .ok (.aload_n 0, 1) := by decide +kernel
theorem dX0_largest_26 : decode cX0_largest 26 = .ok (.iload_n 3, 1) := by decide +kernel
theorem dX0_largest_27 : decode cX0_largest 27 = .ok (.iload_n 1, 1) := by decide +kernel
theorem dX0_largest_28 : decode cX0_largest 28 = .ok (.invokevirtual 72, 3) := by decide +kernel
theorem dX0_largest_31 : decode cX0_largest 31 = .ok (.ifCond .eq 6, 3) := by decide +kernel
theorem dX0_largest_34 : decode cX0_largest 34 = .ok (.iinc 2 1, 3) := by decide +kernel
theorem dX0_largest_37 : decode cX0_largest 37 = .ok (.iinc 3 1, 3) := by decide +kernel
theorem dX0_largest_40 : decode cX0_largest 40 = .ok (.goto (-22), 3) := by decide +kernel
theorem dX0_largest_43 : decode cX0_largest 43 = .ok (.iload_n 2, 1) := by decide +kernel
theorem dX0_largest_44 : decode cX0_largest 44 = .ok (.ireturn, 1) := by decide +kernel
abbrev cX0_isLargest : ByteArray := prog_1_method_17_code
def yX0_isLargest : MethodName := ⟨RX0, "isLargest", "(II)Z"⟩
theorem dX0_isLargest_0 : decode cX0_isLargest 0 = .ok (.aload_n 0, 1) := by decide +kernel
theorem dX0_isLargest_1 : decode cX0_isLargest 1 = .ok (.getfield 38, 3) := by decide +kernel
theorem dX0_isLargest_4 : decode cX0_isLargest 4 = .ok (.iload_n 1, 1) := by decide +kernel
theorem dX0_isLargest_5 : decode cX0_isLargest 5 = .ok (.baload, 1) := by decide +kernel
theorem dX0_isLargest_6 : decode cX0_isLargest 6 = .ok (.iload_n 2, 1) := by decide +kernel
theorem dX0_isLargest_7 : decode cX0_isLargest 7 = .ok (.if_icmp .ge 5, 3) := by decide +kernel
theorem dX0_isLargest_10 : decode cX0_isLargest 10 = .ok (.iconst 0, 1) := by decide +kernel
theorem dX0_isLargest_11 : decode cX0_isLargest 11 = .ok (.ireturn, 1) := by decide +kernel
theorem dX0_isLargest_12 : decode cX0_isLargest 12 = .ok (.iconst 0, 1) := by decide +kernel
theorem dX0_isLargest_13 : decode cX0_isLargest 13 = .ok (.istore_n 3, 1) := by decide +kernel
theorem dX0_isLargest_14 : decode cX0_isLargest 14 = .ok (.iload_n 3, 1) := by decide +kernel
theorem dX0_isLargest_15 : decode cX0_isLargest 15 = .ok (.bipush 8, 2) := by decide +kernel
theorem dX0_isLargest_17 : decode cX0_isLargest 17 = .ok (.if_icmp .ge 33, 3) := by decide +kernel
theorem dX0_isLargest_20 : decode cX0_isLargest 20 = .ok (.iload_n 1, 1) := by decide +kernel
theorem dX0_isLargest_21 : decode cX0_isLargest 21 = .ok (.iload_n 3, 1) := by decide +kernel
theorem dX0_isLargest_22 : decode cX0_isLargest 22 = .ok (.ishr, 1) := by decide +kernel
theorem dX0_isLargest_23 : decode cX0_isLargest 23 = .ok (.iconst 1, 1) := by decide +kernel
theorem dX0_isLargest_24 : decode cX0_isLargest 24 = .ok (.iand, 1) := by decide +kernel
theorem dX0_isLargest_25 : decode cX0_isLargest 25 = .ok (.ifCond .ne 19, 3) := by decide +kernel
theorem dX0_isLargest_28 : decode cX0_isLargest 28 = .ok (.aload_n 0, 1) := by decide +kernel
theorem dX0_isLargest_29 : decode cX0_isLargest 29 = .ok (.getfield 38, 3) := by decide +kernel
theorem dX0_isLargest_32 : decode cX0_isLargest 32 = .ok (.iload_n 1, 1) := by decide +kernel
theorem dX0_isLargest_33 : decode cX0_isLargest 33 = .ok (.iconst 1, 1) := by decide +kernel
theorem dX0_isLargest_34 : decode cX0_isLargest 34 = .ok (.iload_n 3, 1) := by decide +kernel
theorem dX0_isLargest_35 : decode cX0_isLargest 35 = .ok (.ishl, 1) := by decide +kernel
theorem dX0_isLargest_36 : decode cX0_isLargest 36 = .ok (.ior, 1) := by decide +kernel
theorem dX0_isLargest_37 : decode cX0_isLargest 37 = .ok (.baload, 1) := by decide +kernel
theorem dX0_isLargest_38 : decode cX0_isLargest 38 = .ok (.iload_n 2, 1) := by decide +kernel
theorem dX0_isLargest_39 : decode cX0_isLargest 39 = .ok (.if_icmp .lt 5, 3) := by decide +kernel
theorem dX0_isLargest_42 : decode cX0_isLargest 42 = .ok (.iconst 0, 1) := by decide +kernel
theorem dX0_isLargest_43 : decode cX0_isLargest 43 = .ok (.ireturn, 1) := by decide +kernel
theorem dX0_isLargest_44 : decode cX0_isLargest 44 = .ok (.iinc 3 1, 3) := by decide +kernel
theorem dX0_isLargest_47 : decode cX0_isLargest 47 = .ok (.goto (-33), 3) := by decide +kernel
theorem dX0_isLargest_50 : decode cX0_isLargest 50 = .ok (.iconst 1, 1) := by decide +kernel
theorem dX0_isLargest_51 : decode cX0_isLargest 51 = .ok (.ireturn, 1) := by decide +kernel
abbrev cX0_closedSet : ByteArray := prog_1_method_10_code
def yX0_closedSet : MethodName := ⟨RX0, "closedSet", "(II)I"⟩
theorem dX0_closedSet_0 : decode cX0_closedSet 0 = .ok (.aload_n 0, 1) := by decide +kernel
theorem dX0_closedSet_1 : decode cX0_closedSet 1 = .ok (.iload_n 1, 1) := by decide +kernel
theorem dX0_closedSet_2 : decode cX0_closedSet 2 = .ok (.invokevirtual 65, 3) := by decide +kernel
theorem dX0_closedSet_5 : decode cX0_closedSet 5 = .ok (.ifCond .ne 5, 3) := by decide +kernel
theorem dX0_closedSet_8 : decode cX0_closedSet 8 = .ok (.iconst (-1), 1) := by decide +kernel
theorem dX0_closedSet_9 : decode cX0_closedSet 9 = .ok (.ireturn, 1) := by decide +kernel
theorem dX0_closedSet_10 : decode cX0_closedSet 10 = .ok (.aload_n 0, 1) := by decide +kernel
theorem dX0_closedSet_11 : decode cX0_closedSet 11 = .ok (.invokevirtual 62, 3) := by decide +kernel
theorem dX0_closedSet_14 : decode cX0_closedSet 14 = .ok (.iload_n 2, 1) := by decide +kernel
theorem dX0_closedSet_15 : decode cX0_closedSet 15 = .ok (.istore_n 3, 1) := by decide +kernel
theorem dX0_closedSet_16 : decode cX0_closedSet 16 = .ok (.iconst 1, 1) := by decide +kernel
theorem dX0_closedSet_17 : decode cX0_closedSet 17 = .ok (.istore 4, 2) := by decide +kernel
theorem dX0_closedSet_19 : decode cX0_closedSet 19 = .ok (.iload 4, 2) := by decide +kernel
theorem dX0_closedSet_21 : decode cX0_closedSet 21 = .ok (.sipush 256, 3) := by decide +kernel
theorem dX0_closedSet_24 : decode cX0_closedSet 24 = .ok (.if_icmp .ge 36, 3) := by decide +kernel
theorem dX0_closedSet_27 : decode cX0_closedSet 27 = .ok (.iload_n 3, 1) := by decide +kernel
theorem dX0_closedSet_28 : decode cX0_closedSet 28 = .ok (.ifCond .lt 32, 3) := by decide +kernel
theorem dX0_closedSet_31 : decode cX0_closedSet 31 = .ok (.aload_n 0, 1) := by decide +kernel
theorem dX0_closedSet_32 : decode cX0_closedSet 32 = .ok (.iload 4, 2) := by decide +kernel
theorem dX0_closedSet_34 : decode cX0_closedSet 34 = .ok (.iload_n 1, 1) := by decide +kernel
theorem dX0_closedSet_35 : decode cX0_closedSet 35 = .ok (.invokevirtual 68, 3) := by decide +kernel
theorem dX0_closedSet_38 : decode cX0_closedSet 38 = .ok (.ifCond .ne 6, 3) := by decide +kernel
theorem dX0_closedSet_41 : decode cX0_closedSet 41 = .ok (.goto 13, 3) := by decide +kernel
theorem dX0_closedSet_44 : decode cX0_closedSet 44 = .ok (.iload_n 3, 1) := by decide +kernel
theorem dX0_closedSet_45 : decode cX0_closedSet 45 = .ok (.ifCond .ne 6, 3) := by decide +kernel
theorem dX0_closedSet_48 : decode cX0_closedSet 48 = .ok (.iload 4, 2) := by decide +kernel
theorem dX0_closedSet_50 : decode cX0_closedSet 50 = .ok (.ireturn, 1) := by decide +kernel
theorem dX0_closedSet_51 : decode cX0_closedSet 51 = .ok (.iinc 3 (-1), 3) := by decide +kernel
theorem dX0_closedSet_54 : decode cX0_closedSet 54 = .ok (.iinc 4 1, 3) := by decide +kernel
theorem dX0_closedSet_57 : decode cX0_closedSet 57 = .ok (.goto (-38), 3) := by decide +kernel
theorem dX0_closedSet_60 : decode cX0_closedSet 60 = .ok (.bipush (-3), 2) := by decide +kernel
theorem dX0_closedSet_62 : decode cX0_closedSet 62 = .ok (.ireturn, 1) := by decide +kernel
abbrev cX0_closure : ByteArray := prog_1_method_11_code
def yX0_closure : MethodName := ⟨RX0, "closure", "(I)I"⟩
theorem dX0_closure_0 : decode cX0_closure 0 = .ok (.aload_n 0, 1) := by decide +kernel
theorem dX0_closure_1 : decode cX0_closure 1 = .ok (.iload_n 1, 1) := by decide +kernel
theorem dX0_closure_2 : decode cX0_closure 2 = .ok (.invokevirtual 54, 3) := by decide +kernel
theorem dX0_closure_5 : decode cX0_closure 5 = .ok (.ifCond .ne 5, 3) := by decide +kernel
theorem dX0_closure_8 : decode cX0_closure 8 = .ok (.iconst (-1), 1) := by decide +kernel
theorem dX0_closure_9 : decode cX0_closure 9 = .ok (.ireturn, 1) := by decide +kernel
theorem dX0_closure_10 : decode cX0_closure 10 = .ok (.aload_n 0, 1) := by decide +kernel
theorem dX0_closure_11 : decode cX0_closure 11 = .ok (.invokevirtual 62, 3) := by decide +kernel
theorem dX0_closure_14 : decode cX0_closure 14 = .ok (.aload_n 0, 1) := by decide +kernel
theorem dX0_closure_15 : decode cX0_closure 15 = .ok (.getfield 38, 3) := by decide +kernel
theorem dX0_closure_18 : decode cX0_closure 18 = .ok (.iload_n 1, 1) := by decide +kernel
theorem dX0_closure_19 : decode cX0_closure 19 = .ok (.baload, 1) := by decide +kernel
theorem dX0_closure_20 : decode cX0_closure 20 = .ok (.ifCond .ne 6, 3) := by decide +kernel
theorem dX0_closure_23 : decode cX0_closure 23 = .ok (.bipush (-3), 2) := by decide +kernel
theorem dX0_closure_25 : decode cX0_closure 25 = .ok (.ireturn, 1) := by decide +kernel
theorem dX0_closure_26 : decode cX0_closure 26 = .ok (.iload_n 1, 1) := by decide +kernel
theorem dX0_closure_27 : decode cX0_closure 27 = .ok (.istore_n 2, 1) := by decide +kernel
theorem dX0_closure_28 : decode cX0_closure 28 = .ok (.iconst 0, 1) := by decide +kernel
theorem dX0_closure_29 : decode cX0_closure 29 = .ok (.istore_n 3, 1) := by decide +kernel
theorem dX0_closure_30 : decode cX0_closure 30 = .ok (.iload_n 3, 1) := by decide +kernel
theorem dX0_closure_31 : decode cX0_closure 31 = .ok (.bipush 8, 2) := by decide +kernel
theorem dX0_closure_33 : decode cX0_closure 33 = .ok (.if_icmp .ge 34, 3) := by decide +kernel
theorem dX0_closure_36 : decode cX0_closure 36 = .ok (.aload_n 0, 1) := by decide +kernel
theorem dX0_closure_37 : decode cX0_closure 37 = .ok (.getfield 38, 3) := by decide +kernel
theorem dX0_closure_40 : decode cX0_closure 40 = .ok (.iload_n 1, 1) := by decide +kernel
theorem dX0_closure_41 : decode cX0_closure 41 = .ok (.iconst 1, 1) := by decide +kernel
theorem dX0_closure_42 : decode cX0_closure 42 = .ok (.iload_n 3, 1) := by decide +kernel
theorem dX0_closure_43 : decode cX0_closure 43 = .ok (.ishl, 1) := by decide +kernel
theorem dX0_closure_44 : decode cX0_closure 44 = .ok (.ior, 1) := by decide +kernel
theorem dX0_closure_45 : decode cX0_closure 45 = .ok (.baload, 1) := by decide +kernel
theorem dX0_closure_46 : decode cX0_closure 46 = .ok (.aload_n 0, 1) := by decide +kernel
theorem dX0_closure_47 : decode cX0_closure 47 = .ok (.getfield 38, 3) := by decide +kernel
theorem dX0_closure_50 : decode cX0_closure 50 = .ok (.iload_n 1, 1) := by decide +kernel
theorem dX0_closure_51 : decode cX0_closure 51 = .ok (.baload, 1) := by decide +kernel
theorem dX0_closure_52 : decode cX0_closure 52 = .ok (.if_icmp .ne 9, 3) := by decide +kernel
theorem dX0_closure_55 : decode cX0_closure 55 = .ok (.iload_n 2, 1) := by decide +kernel
theorem dX0_closure_56 : decode cX0_closure 56 = .ok (.iconst 1, 1) := by decide +kernel
theorem dX0_closure_57 : decode cX0_closure 57 = .ok (.iload_n 3, 1) := by decide +kernel
theorem dX0_closure_58 : decode cX0_closure 58 = .ok (.ishl, 1) := by decide +kernel
theorem dX0_closure_59 : decode cX0_closure 59 = .ok (.ior, 1) := by decide +kernel
theorem dX0_closure_60 : decode cX0_closure 60 = .ok (.istore_n 2, 1) := by decide +kernel
theorem dX0_closure_61 : decode cX0_closure 61 = .ok (.iinc 3 1, 3) := by decide +kernel
theorem dX0_closure_64 : decode cX0_closure 64 = .ok (.goto (-34), 3) := by decide +kernel
theorem dX0_closure_67 : decode cX0_closure 67 = .ok (.iload_n 2, 1) := by decide +kernel
theorem dX0_closure_68 : decode cX0_closure 68 = .ok (.ireturn, 1) := by decide +kernel
abbrev cX0_widest : ByteArray := prog_1_method_12_code
def yX0_widest : MethodName := ⟨RX0, "widest", "(I)I"⟩
theorem dX0_widest_0 : decode cX0_widest 0 = .ok (.aload_n 0, 1) := by decide +kernel
theorem dX0_widest_1 : decode cX0_widest 1 = .ok (.iload_n 1, 1) := by decide +kernel
theorem dX0_widest_2 : decode cX0_widest 2 = .ok (.invokevirtual 65, 3) := by decide +kernel
theorem dX0_widest_5 : decode cX0_widest 5 = .ok (.ifCond .ne 5, 3) := by decide +kernel
theorem dX0_widest_8 : decode cX0_widest 8 = .ok (.iconst (-1), 1) := by decide +kernel
theorem dX0_widest_9 : decode cX0_widest 9 = .ok (.ireturn, 1) := by decide +kernel
theorem dX0_widest_10 : decode cX0_widest 10 = .ok (.aload_n 0, 1) := by decide +kernel
theorem dX0_widest_11 : decode cX0_widest 11 = .ok (.invokevirtual 62, 3) := by decide +kernel
theorem dX0_widest_14 : decode cX0_widest 14 = .ok (.iconst 0, 1) := by decide +kernel
theorem dX0_widest_15 : decode cX0_widest 15 = .ok (.istore_n 2, 1) := by decide +kernel
theorem dX0_widest_16 : decode cX0_widest 16 = .ok (.iconst 1, 1) := by decide +kernel
theorem dX0_widest_17 : decode cX0_widest 17 = .ok (.istore_n 3, 1) := by decide +kernel
theorem dX0_widest_18 : decode cX0_widest 18 = .ok (.iload_n 3, 1) := by decide +kernel
theorem dX0_widest_19 : decode cX0_widest 19 = .ok (.sipush 256, 3) := by decide +kernel
theorem dX0_widest_22 : decode cX0_widest 22 = .ok (.if_icmp .ge 35, 3) := by decide +kernel
theorem dX0_widest_25 : decode cX0_widest 25 = .ok (.aload_n 0, 1) := by decide +kernel
theorem dX0_widest_26 : decode cX0_widest 26 = .ok (.iload_n 3, 1) := by decide +kernel
theorem dX0_widest_27 : decode cX0_widest 27 = .ok (.invokevirtual 75, 3) := by decide +kernel
theorem dX0_widest_30 : decode cX0_widest 30 = .ok (.istore 4, 2) := by decide +kernel
theorem dX0_widest_32 : decode cX0_widest 32 = .ok (.aload_n 0, 1) := by decide +kernel
theorem dX0_widest_33 : decode cX0_widest 33 = .ok (.getfield 38, 3) := by decide +kernel
theorem dX0_widest_36 : decode cX0_widest 36 = .ok (.iload_n 3, 1) := by decide +kernel
theorem dX0_widest_37 : decode cX0_widest 37 = .ok (.baload, 1) := by decide +kernel
theorem dX0_widest_38 : decode cX0_widest 38 = .ok (.iload_n 1, 1) := by decide +kernel
theorem dX0_widest_39 : decode cX0_widest 39 = .ok (.if_icmp .lt 12, 3) := by decide +kernel
theorem dX0_widest_42 : decode cX0_widest 42 = .ok (.iload 4, 2) := by decide +kernel
theorem dX0_widest_44 : decode cX0_widest 44 = .ok (.iload_n 2, 1) := by decide +kernel
theorem dX0_widest_45 : decode cX0_widest 45 = .ok (.if_icmp .le 6, 3) := by decide +kernel
theorem dX0_widest_48 : decode cX0_widest 48 = .ok (.iload 4, 2) := by decide +kernel
theorem dX0_widest_50 : decode cX0_widest 50 = .ok (.istore_n 2, 1) := by decide +kernel
theorem dX0_widest_51 : decode cX0_widest 51 = .ok (.iinc 3 1, 3) := by decide +kernel
theorem dX0_widest_54 : decode cX0_widest 54 = .ok (.goto (-36), 3) := by decide +kernel
theorem dX0_widest_57 : decode cX0_widest 57 = .ok (.iload_n 2, 1) := by decide +kernel
theorem dX0_widest_58 : decode cX0_widest 58 = .ok (.ireturn, 1) := by decide +kernel
abbrev cX0_sizeOf : ByteArray := prog_1_method_15_code
def yX0_sizeOf : MethodName := ⟨RX0, "sizeOf", "(I)I"⟩
theorem dX0_sizeOf_0 : decode cX0_sizeOf 0 = .ok (.iconst 0, 1) := by decide +kernel
theorem dX0_sizeOf_1 : decode cX0_sizeOf 1 = .ok (.istore_n 2, 1) := by decide +kernel
theorem dX0_sizeOf_2 : decode cX0_sizeOf 2 = .ok (.iconst 0, 1) := by decide +kernel
theorem dX0_sizeOf_3 : decode cX0_sizeOf 3 = .ok (.istore_n 3, 1) := by decide +kernel
theorem dX0_sizeOf_4 : decode cX0_sizeOf 4 = .ok (.iload_n 3, 1) := by decide +kernel
theorem dX0_sizeOf_5 : decode cX0_sizeOf 5 = .ok (.bipush 8, 2) := by decide +kernel
theorem dX0_sizeOf_7 : decode cX0_sizeOf 7 = .ok (.if_icmp .ge 17, 3) := by decide +kernel
theorem dX0_sizeOf_10 : decode cX0_sizeOf 10 = .ok (.iload_n 2, 1) := by decide +kernel
theorem dX0_sizeOf_11 : decode cX0_sizeOf 11 = .ok (.iload_n 1, 1) := by decide +kernel
theorem dX0_sizeOf_12 : decode cX0_sizeOf 12 = .ok (.iload_n 3, 1) := by decide +kernel
theorem dX0_sizeOf_13 : decode cX0_sizeOf 13 = .ok (.ishr, 1) := by decide +kernel
theorem dX0_sizeOf_14 : decode cX0_sizeOf 14 = .ok (.iconst 1, 1) := by decide +kernel
theorem dX0_sizeOf_15 : decode cX0_sizeOf 15 = .ok (.iand, 1) := by decide +kernel
theorem dX0_sizeOf_16 : decode cX0_sizeOf 16 = .ok (.iadd, 1) := by decide +kernel
theorem dX0_sizeOf_17 : decode cX0_sizeOf 17 = .ok (.istore_n 2, 1) := by decide +kernel
theorem dX0_sizeOf_18 : decode cX0_sizeOf 18 = .ok (.iinc 3 1, 3) := by decide +kernel
theorem dX0_sizeOf_21 : decode cX0_sizeOf 21 = .ok (.goto (-17), 3) := by decide +kernel
theorem dX0_sizeOf_24 : decode cX0_sizeOf 24 = .ok (.iload_n 2, 1) := by decide +kernel
theorem dX0_sizeOf_25 : decode cX0_sizeOf 25 = .ok (.ireturn, 1) := by decide +kernel
abbrev cX0_rules : ByteArray := prog_1_method_13_code
def yX0_rules : MethodName := ⟨RX0, "rules", "(II)I"⟩
theorem dX0_rules_0 : decode cX0_rules 0 = .ok (.aload_n 0, 1) := by decide +kernel
theorem dX0_rules_1 : decode cX0_rules 1 = .ok (.iload_n 1, 1) := by decide +kernel
theorem dX0_rules_2 : decode cX0_rules 2 = .ok (.invokevirtual 65, 3) := by decide +kernel
theorem dX0_rules_5 : decode cX0_rules 5 = .ok (.ifCond .eq 13, 3) := by decide +kernel
theorem dX0_rules_8 : decode cX0_rules 8 = .ok (.iload_n 2, 1) := by decide +kernel
theorem dX0_rules_9 : decode cX0_rules 9 = .ok (.ifCond .lt 9, 3) := by decide +kernel
theorem dX0_rules_12 : decode cX0_rules 12 = .ok (.iload_n 2, 1) := by decide +kernel
theorem dX0_rules_13 : decode cX0_rules 13 = .ok (.bipush 100, 2) := by decide +kernel
theorem dX0_rules_15 : decode cX0_rules 15 = .ok (.if_icmp .le 5, 3) := by decide +kernel
theorem dX0_rules_18 : decode cX0_rules 18 = .ok (.iconst (-1), 1) := by decide +kernel
theorem dX0_rules_19 : decode cX0_rules 19 = .ok (.ireturn, 1) := by decide +kernel
theorem dX0_rules_20 : decode cX0_rules 20 = .ok (.aload_n 0, 1) := by decide +kernel
theorem dX0_rules_21 : decode cX0_rules 21 = .ok (.invokevirtual 62, 3) := by decide +kernel
theorem dX0_rules_24 : decode cX0_rules 24 = .ok (.iconst 0, 1) := by decide +kernel
theorem dX0_rules_25 : decode cX0_rules 25 = .ok (.istore_n 3, 1) := by decide +kernel
theorem dX0_rules_26 : decode cX0_rules 26 = .ok (.iconst 1, 1) := by decide +kernel
theorem dX0_rules_27 : decode cX0_rules 27 = .ok (.istore 4, 2) := by decide +kernel
theorem dX0_rules_29 : decode cX0_rules 29 = .ok (.iload 4, 2) := by decide +kernel
theorem dX0_rules_31 : decode cX0_rules 31 = .ok (.sipush 256, 3) := by decide +kernel
theorem dX0_rules_34 : decode cX0_rules 34 = .ok (.if_icmp .ge 74, 3) := by decide +kernel
theorem dX0_rules_37 : decode cX0_rules 37 = .ok (.aload_n 0, 1) := by decide +kernel
theorem dX0_rules_38 : decode cX0_rules 38 = .ok (.getfield 38, 3) := by decide +kernel
theorem dX0_rules_41 : decode cX0_rules 41 = .ok (.iload 4, 2) := by decide +kernel
theorem dX0_rules_43 : decode cX0_rules 43 = .ok (.baload, 1) := by decide +kernel
theorem dX0_rules_44 : decode cX0_rules 44 = .ok (.iload_n 1, 1) := by decide +kernel
theorem dX0_rules_45 : decode cX0_rules 45 = .ok (.if_icmp .ge 6, 3) := by decide +kernel
theorem dX0_rules_48 : decode cX0_rules 48 = .ok (.goto 54, 3) := by decide +kernel
theorem dX0_rules_51 : decode cX0_rules 51 = .ok (.iload 4, 2) := by decide +kernel
theorem dX0_rules_53 : decode cX0_rules 53 = .ok (.iconst 1, 1) := by decide +kernel
theorem dX0_rules_54 : decode cX0_rules 54 = .ok (.isub, 1) := by decide +kernel
theorem dX0_rules_55 : decode cX0_rules 55 = .ok (.iload 4, 2) := by decide +kernel
theorem dX0_rules_57 : decode cX0_rules 57 = .ok (.iand, 1) := by decide +kernel
theorem dX0_rules_58 : decode cX0_rules 58 = .ok (.istore 5, 2) := by decide +kernel
theorem dX0_rules_60 : decode cX0_rules 60 = .ok (.iload 5, 2) := by decide +kernel
theorem dX0_rules_62 : decode cX0_rules 62 = .ok (.ifCond .le 40, 3) := by decide +kernel
theorem dX0_rules_65 : decode cX0_rules 65 = .ok (.bipush 100, 2) := by decide +kernel
theorem dX0_rules_67 : decode cX0_rules 67 = .ok (.aload_n 0, 1) := by decide +kernel
theorem dX0_rules_68 : decode cX0_rules 68 = .ok (.getfield 38, 3) := by decide +kernel
theorem dX0_rules_71 : decode cX0_rules 71 = .ok (.iload 4, 2) := by decide +kernel
theorem dX0_rules_73 : decode cX0_rules 73 = .ok (.baload, 1) := by decide +kernel
theorem dX0_rules_74 : decode cX0_rules 74 = .ok (.imul, 1) := by decide +kernel
theorem dX0_rules_75 : decode cX0_rules 75 = .ok (.iload_n 2, 1) := by decide +kernel
theorem dX0_rules_76 : decode cX0_rules 76 = .ok (.aload_n 0, 1) := by decide +kernel
theorem dX0_rules_77 : decode cX0_rules 77 = .ok (.getfield 38, 3) := by decide +kernel
theorem dX0_rules_80 : decode cX0_rules 80 = .ok (.iload 5, 2) := by decide +kernel
theorem dX0_rules_82 : decode cX0_rules 82 = .ok (.baload, 1) := by decide +kernel
theorem dX0_rules_83 : decode cX0_rules 83 = .ok (.imul, 1) := by decide +kernel
theorem dX0_rules_84 : decode cX0_rules 84 = .ok (.if_icmp .lt 6, 3) := by decide +kernel
theorem dX0_rules_87 : decode cX0_rules 87 = .ok (.iinc 3 1, 3) := by decide +kernel
theorem dX0_rules_90 : decode cX0_rules 90 = .ok (.iload 5, 2) := by decide +kernel
theorem dX0_rules_92 : decode cX0_rules 92 = .ok (.iconst 1, 1) := by decide +kernel
theorem dX0_rules_93 : decode cX0_rules 93 = .ok (.isub, 1) := by decide +kernel
theorem dX0_rules_94 : decode cX0_rules 94 = .ok (.iload 4, 2) := by decide +kernel
theorem dX0_rules_96 : decode cX0_rules 96 = .ok (.iand, 1) := by decide +kernel
theorem dX0_rules_97 : decode cX0_rules 97 = .ok (.istore 5, 2) := by decide +kernel
theorem dX0_rules_99 : decode cX0_rules 99 = .ok (.goto (-39), 3) := by decide +kernel
theorem dX0_rules_102 : decode cX0_rules 102 = .ok (.iinc 4 1, 3) := by decide +kernel
theorem dX0_rules_105 : decode cX0_rules 105 = .ok (.goto (-76), 3) := by decide +kernel
theorem dX0_rules_108 : decode cX0_rules 108 = .ok (.iload_n 3, 1) := by decide +kernel
theorem dX0_rules_109 : decode cX0_rules 109 = .ok (.ireturn, 1) := by decide +kernel
abbrev cX0_companion : ByteArray := prog_1_method_14_code
def yX0_companion : MethodName := ⟨RX0, "companion", "(I)I"⟩
theorem dX0_companion_0 : decode cX0_companion 0 = .ok (.iload_n 1, 1) := by decide +kernel
theorem dX0_companion_1 : decode cX0_companion 1 = .ok (.iconst 1, 1) := by decide +kernel
theorem dX0_companion_2 : decode cX0_companion 2 = .ok (.if_icmp .lt 10, 3) := by decide +kernel
theorem dX0_companion_5 : decode cX0_companion 5 = .ok (.iload_n 1, 1) := by decide +kernel
theorem dX0_companion_6 : decode cX0_companion 6 = .ok (.sipush 255, 3) := by decide +kernel
theorem dX0_companion_9 : decode cX0_companion 9 = .ok (.if_icmp .le 5, 3) := by decide +kernel
theorem dX0_companion_12 : decode cX0_companion 12 = .ok (.iconst (-1), 1) := by decide +kernel
theorem dX0_companion_13 : decode cX0_companion 13 = .ok (.ireturn, 1) := by decide +kernel
theorem dX0_companion_14 : decode cX0_companion 14 = .ok (.aload_n 0, 1) := by decide +kernel
theorem dX0_companion_15 : decode cX0_companion 15 = .ok (.invokevirtual 62, 3) := by decide +kernel
theorem dX0_companion_18 : decode cX0_companion 18 = .ok (.aload_n 0, 1) := by decide +kernel
theorem dX0_companion_19 : decode cX0_companion 19 = .ok (.getfield 38, 3) := by decide +kernel
theorem dX0_companion_22 : decode cX0_companion 22 = .ok (.iload_n 1, 1) := by decide +kernel
theorem dX0_companion_23 : decode cX0_companion 23 = .ok (.baload, 1) := by decide +kernel
theorem dX0_companion_24 : decode cX0_companion 24 = .ok (.ifCond .eq 10, 3) := by decide +kernel
theorem dX0_companion_27 : decode cX0_companion 27 = .ok (.iload_n 1, 1) := by decide +kernel
theorem dX0_companion_28 : decode cX0_companion 28 = .ok (.sipush 255, 3) := by decide +kernel
theorem dX0_companion_31 : decode cX0_companion 31 = .ok (.if_icmp .ne 6, 3) := by decide +kernel
theorem dX0_companion_34 : decode cX0_companion 34 = .ok (.bipush (-3), 2) := by decide +kernel
theorem dX0_companion_36 : decode cX0_companion 36 = .ok (.ireturn, 1) := by decide +kernel
theorem dX0_companion_37 : decode cX0_companion 37 = .ok (.bipush (-3), 2) := by decide +kernel
theorem dX0_companion_39 : decode cX0_companion 39 = .ok (.istore_n 2, 1) := by decide +kernel
theorem dX0_companion_40 : decode cX0_companion 40 = .ok (.iconst (-1), 1) := by decide +kernel
theorem dX0_companion_41 : decode cX0_companion 41 = .ok (.istore_n 3, 1) := by decide +kernel
theorem dX0_companion_42 : decode cX0_companion 42 = .ok (.iconst 0, 1) := by decide +kernel
theorem dX0_companion_43 : decode cX0_companion 43 = .ok (.istore 4, 2) := by decide +kernel
theorem dX0_companion_45 : decode cX0_companion 45 = .ok (.iload 4, 2) := by decide +kernel
theorem dX0_companion_47 : decode cX0_companion 47 = .ok (.bipush 8, 2) := by decide +kernel
theorem dX0_companion_49 : decode cX0_companion 49 = .ok (.if_icmp .ge 51, 3) := by decide +kernel
theorem dX0_companion_52 : decode cX0_companion 52 = .ok (.iload_n 1, 1) := by decide +kernel
theorem dX0_companion_53 : decode cX0_companion 53 = .ok (.iload 4, 2) := by decide +kernel
theorem dX0_companion_55 : decode cX0_companion 55 = .ok (.ishr, 1) := by decide +kernel
theorem dX0_companion_56 : decode cX0_companion 56 = .ok (.iconst 1, 1) := by decide +kernel
theorem dX0_companion_57 : decode cX0_companion 57 = .ok (.iand, 1) := by decide +kernel
theorem dX0_companion_58 : decode cX0_companion 58 = .ok (.ifCond .ne 36, 3) := by decide +kernel
theorem dX0_companion_61 : decode cX0_companion 61 = .ok (.aload_n 0, 1) := by decide +kernel
theorem dX0_companion_62 : decode cX0_companion 62 = .ok (.getfield 38, 3) := by decide +kernel
theorem dX0_companion_65 : decode cX0_companion 65 = .ok (.iload_n 1, 1) := by decide +kernel
theorem dX0_companion_66 : decode cX0_companion 66 = .ok (.iconst 1, 1) := by decide +kernel
theorem dX0_companion_67 : decode cX0_companion 67 = .ok (.iload 4, 2) := by decide +kernel
theorem dX0_companion_69 : decode cX0_companion 69 = .ok (.ishl, 1) := by decide +kernel
theorem dX0_companion_70 : decode cX0_companion 70 = .ok (.ior, 1) := by decide +kernel
theorem dX0_companion_71 : decode cX0_companion 71 = .ok (.baload, 1) := by decide +kernel
theorem dX0_companion_72 : decode cX0_companion 72 = .ok (.iload_n 3, 1) := by decide +kernel
theorem dX0_companion_73 : decode cX0_companion 73 = .ok (.if_icmp .gt 6, 3) := by decide +kernel
theorem dX0_companion_76 : decode cX0_companion 76 = .ok (.goto 18, 3) := by decide +kernel
theorem dX0_companion_79 : decode cX0_companion 79 = .ok (.aload_n 0, 1) := by decide +kernel
theorem dX0_companion_80 : decode cX0_companion 80 = .ok (.getfield 38, 3) := by decide +kernel
theorem dX0_companion_83 : decode cX0_companion 83 = .ok (.iload_n 1, 1) := by decide +kernel
theorem dX0_companion_84 : decode cX0_companion 84 = .ok (.iconst 1, 1) := by decide +kernel
theorem dX0_companion_85 : decode cX0_companion 85 = .ok (.iload 4, 2) := by decide +kernel
theorem dX0_companion_87 : decode cX0_companion 87 = .ok (.ishl, 1) := by decide +kernel
theorem dX0_companion_88 : decode cX0_companion 88 = .ok (.ior, 1) := by decide +kernel
theorem dX0_companion_89 : decode cX0_companion 89 = .ok (.baload, 1) := by decide +kernel
theorem dX0_companion_90 : decode cX0_companion 90 = .ok (.istore_n 3, 1) := by decide +kernel
theorem dX0_companion_91 : decode cX0_companion 91 = .ok (.iload 4, 2) := by decide +kernel
theorem dX0_companion_93 : decode cX0_companion 93 = .ok (.istore_n 2, 1) := by decide +kernel
theorem dX0_companion_94 : decode cX0_companion 94 = .ok (.iinc 4 1, 3) := by decide +kernel
theorem dX0_companion_97 : decode cX0_companion 97 = .ok (.goto (-52), 3) := by decide +kernel
theorem dX0_companion_100 : decode cX0_companion 100 = .ok (.iload_n 2, 1) := by decide +kernel
theorem dX0_companion_101 : decode cX0_companion 101 = .ok (.ireturn, 1) := by decide +kernel
theorem q19 : (Jvm.Cond.initialized "FrequentSets") ∈ lw_all := lw_g (lw_at lw_m0 1 rfl) rfl
theorem q22 : (Jvm.Cond.instantiable "FrequentSets" (16 : Nat)) ∈ lw_all := lw_g (lw_at lw_m0 4 rfl) rfl
theorem q24 : (Jvm.Cond.instanceMethod ({ cls := "FrequentSets", name := "<init>", desc := "()V" } : Jvm.MethodName)) ∈ lw_all := lw_g (lw_at lw_m0 6 rfl) rfl
theorem q25 : (Jvm.Cond.code ({ cls := "FrequentSets", name := "<init>", desc := "()V" } : Jvm.MethodName) prog_1_method_1_code (1 : Nat) (Option.none : Option Jvm.ClassFile.FieldType)) ∈ lw_all := lw_g (lw_at lw_m0 7 rfl) rfl
theorem q26 : (Jvm.Cond.methodLink "FrequentSets" (1 : Nat) ({ cls := "java/lang/Object", name := "<init>", desc := "()V" } : Jvm.MethodName)) ∈ lw_all := lw_g (lw_at lw_m0 8 rfl) rfl
theorem q29 : (Jvm.Cond.fieldLink "FrequentSets" (50 : Nat) "FrequentSets" "basketCount" "I") ∈ lw_all := lw_g (lw_at lw_m0 11 rfl) rfl
theorem q30 : (Jvm.Cond.fieldLink "FrequentSets" (7 : Nat) "FrequentSets" "baskets" "[S") ∈ lw_all := lw_g (lw_at lw_m0 12 rfl) rfl
theorem q31 : (Jvm.Cond.fieldLink "FrequentSets" (58 : Nat) "FrequentSets" "built" "Z") ∈ lw_all := lw_g (lw_at lw_m0 13 rfl) rfl
theorem q32 : (Jvm.Cond.fieldLink "FrequentSets" (82 : Nat) "FrequentSets" "nodeCount" "I") ∈ lw_all := lw_g (lw_at lw_m0 14 rfl) rfl
theorem q33 : (Jvm.Cond.fieldLink "FrequentSets" (13 : Nat) "FrequentSets" "thingAt" "[B") ∈ lw_all := lw_g (lw_at lw_m0 15 rfl) rfl
theorem q34 : (Jvm.Cond.fieldLink "FrequentSets" (17 : Nat) "FrequentSets" "through" "[B") ∈ lw_all := lw_g (lw_at lw_m0 16 rfl) rfl
theorem q35 : (Jvm.Cond.fieldLink "FrequentSets" (20 : Nat) "FrequentSets" "above" "[S") ∈ lw_all := lw_g (lw_at lw_m0 17 rfl) rfl
theorem q36 : (Jvm.Cond.fieldLink "FrequentSets" (23 : Nat) "FrequentSets" "sameThing" "[S") ∈ lw_all := lw_g (lw_at lw_m0 18 rfl) rfl
theorem q37 : (Jvm.Cond.fieldLink "FrequentSets" (26 : Nat) "FrequentSets" "firstOf" "[S") ∈ lw_all := lw_g (lw_at lw_m0 19 rfl) rfl
theorem q38 : (Jvm.Cond.fieldLink "FrequentSets" (29 : Nat) "FrequentSets" "order" "[B") ∈ lw_all := lw_g (lw_at lw_m0 20 rfl) rfl
theorem q39 : (Jvm.Cond.fieldLink "FrequentSets" (32 : Nat) "FrequentSets" "placeOf" "[B") ∈ lw_all := lw_g (lw_at lw_m0 21 rfl) rfl
theorem q40 : (Jvm.Cond.fieldLink "FrequentSets" (35 : Nat) "FrequentSets" "howOften" "[B") ∈ lw_all := lw_g (lw_at lw_m0 22 rfl) rfl
theorem q41 : (Jvm.Cond.fieldLink "FrequentSets" (38 : Nat) "FrequentSets" "counts" "[B") ∈ lw_all := lw_g (lw_at lw_m0 23 rfl) rfl
theorem q42 : (Jvm.Cond.fieldLink "FrequentSets" (41 : Nat) "FrequentSets" "weights" "[B") ∈ lw_all := lw_g (lw_at lw_m0 24 rfl) rfl
theorem q43 : (Jvm.Cond.fieldLink "FrequentSets" (44 : Nat) "FrequentSets" "setAt" "[S") ∈ lw_all := lw_g (lw_at lw_m0 25 rfl) rfl
theorem q44 : (Jvm.Cond.fieldLink "FrequentSets" (47 : Nat) "FrequentSets" "goesOnAt" "[B") ∈ lw_all := lw_g (lw_at lw_m0 26 rfl) rfl
theorem q45 : (Jvm.Cond.lays "FrequentSets" "FrequentSets" "basketCount" "I") ∈ lw_all := lw_g (lw_at lw_m0 27 rfl) rfl
theorem q46 : (Jvm.Cond.soleField "FrequentSets" "basketCount") ∈ lw_all := lw_g (lw_at lw_m0 28 rfl) rfl
theorem q47 : (Jvm.Cond.laysFinal "FrequentSets" "FrequentSets" "baskets" "[S") ∈ lw_all := lw_g (lw_at lw_m0 29 rfl) rfl
theorem q48 : (Jvm.Cond.soleField "FrequentSets" "baskets") ∈ lw_all := lw_g (lw_at lw_m0 30 rfl) rfl
theorem q49 : (Jvm.Cond.lays "FrequentSets" "FrequentSets" "built" "Z") ∈ lw_all := lw_g (lw_at lw_m0 31 rfl) rfl
theorem q50 : (Jvm.Cond.soleField "FrequentSets" "built") ∈ lw_all := lw_g (lw_at lw_m0 32 rfl) rfl
theorem q51 : (Jvm.Cond.lays "FrequentSets" "FrequentSets" "nodeCount" "I") ∈ lw_all := lw_g (lw_at lw_m0 33 rfl) rfl
theorem q52 : (Jvm.Cond.soleField "FrequentSets" "nodeCount") ∈ lw_all := lw_g (lw_at lw_m0 34 rfl) rfl
theorem q53 : (Jvm.Cond.laysFinal "FrequentSets" "FrequentSets" "thingAt" "[B") ∈ lw_all := lw_g (lw_at lw_m0 35 rfl) rfl
theorem q54 : (Jvm.Cond.soleField "FrequentSets" "thingAt") ∈ lw_all := lw_g (lw_at lw_m0 36 rfl) rfl
theorem q55 : (Jvm.Cond.laysFinal "FrequentSets" "FrequentSets" "through" "[B") ∈ lw_all := lw_g (lw_at lw_m0 37 rfl) rfl
theorem q56 : (Jvm.Cond.soleField "FrequentSets" "through") ∈ lw_all := lw_g (lw_at lw_m0 38 rfl) rfl
theorem q57 : (Jvm.Cond.laysFinal "FrequentSets" "FrequentSets" "above" "[S") ∈ lw_all := lw_g (lw_at lw_m0 39 rfl) rfl
theorem q58 : (Jvm.Cond.soleField "FrequentSets" "above") ∈ lw_all := lw_g (lw_at lw_m0 40 rfl) rfl
theorem q59 : (Jvm.Cond.laysFinal "FrequentSets" "FrequentSets" "sameThing" "[S") ∈ lw_all := lw_g (lw_at lw_m0 41 rfl) rfl
theorem q60 : (Jvm.Cond.soleField "FrequentSets" "sameThing") ∈ lw_all := lw_g (lw_at lw_m0 42 rfl) rfl
theorem q61 : (Jvm.Cond.laysFinal "FrequentSets" "FrequentSets" "firstOf" "[S") ∈ lw_all := lw_g (lw_at lw_m0 43 rfl) rfl
theorem q62 : (Jvm.Cond.soleField "FrequentSets" "firstOf") ∈ lw_all := lw_g (lw_at lw_m0 44 rfl) rfl
theorem q63 : (Jvm.Cond.laysFinal "FrequentSets" "FrequentSets" "order" "[B") ∈ lw_all := lw_g (lw_at lw_m0 45 rfl) rfl
theorem q64 : (Jvm.Cond.soleField "FrequentSets" "order") ∈ lw_all := lw_g (lw_at lw_m0 46 rfl) rfl
theorem q65 : (Jvm.Cond.laysFinal "FrequentSets" "FrequentSets" "placeOf" "[B") ∈ lw_all := lw_g (lw_at lw_m0 47 rfl) rfl
theorem q66 : (Jvm.Cond.soleField "FrequentSets" "placeOf") ∈ lw_all := lw_g (lw_at lw_m0 48 rfl) rfl
theorem q67 : (Jvm.Cond.laysFinal "FrequentSets" "FrequentSets" "howOften" "[B") ∈ lw_all := lw_g (lw_at lw_m0 49 rfl) rfl
theorem q68 : (Jvm.Cond.soleField "FrequentSets" "howOften") ∈ lw_all := lw_g (lw_at lw_m0 50 rfl) rfl
theorem q69 : (Jvm.Cond.laysFinal "FrequentSets" "FrequentSets" "counts" "[B") ∈ lw_all := lw_g (lw_at lw_m0 51 rfl) rfl
theorem q70 : (Jvm.Cond.soleField "FrequentSets" "counts") ∈ lw_all := lw_g (lw_at lw_m0 52 rfl) rfl
theorem q71 : (Jvm.Cond.laysFinal "FrequentSets" "FrequentSets" "weights" "[B") ∈ lw_all := lw_g (lw_at lw_m0 53 rfl) rfl
theorem q72 : (Jvm.Cond.soleField "FrequentSets" "weights") ∈ lw_all := lw_g (lw_at lw_m0 54 rfl) rfl
theorem q73 : (Jvm.Cond.laysFinal "FrequentSets" "FrequentSets" "setAt" "[S") ∈ lw_all := lw_g (lw_at lw_m0 55 rfl) rfl
theorem q74 : (Jvm.Cond.soleField "FrequentSets" "setAt") ∈ lw_all := lw_g (lw_at lw_m0 56 rfl) rfl
theorem q75 : (Jvm.Cond.laysFinal "FrequentSets" "FrequentSets" "goesOnAt" "[B") ∈ lw_all := lw_g (lw_at lw_m0 57 rfl) rfl
theorem q76 : (Jvm.Cond.soleField "FrequentSets" "goesOnAt") ∈ lw_all := lw_g (lw_at lw_m0 58 rfl) rfl
theorem q77 : (Jvm.Cond.superclass "FrequentSets" "java/lang/Object") ∈ lw_all := lw_g (lw_at lw_m0 59 rfl) rfl
theorem q81 : (Jvm.Cond.instanceMethod ({ cls := "FrequentSets", name := "add", desc := "(I)I" } : Jvm.MethodName)) ∈ lw_all := lw_g (lw_at lw_m0 63 rfl) rfl
theorem q82 : (Jvm.Cond.selects "FrequentSets" ({ cls := "FrequentSets", name := "add", desc := "(I)I" } : Jvm.MethodName) ({ cls := "FrequentSets", name := "add", desc := "(I)I" } : Jvm.MethodName)) ∈ lw_all := lw_g (lw_at lw_m0 64 rfl) rfl
theorem q83 : (Jvm.Cond.code ({ cls := "FrequentSets", name := "add", desc := "(I)I" } : Jvm.MethodName) prog_1_method_2_code (2 : Nat) (Option.some Jvm.ClassFile.FieldType.int)) ∈ lw_all := lw_g (lw_at lw_m0 65 rfl) rfl
theorem q84 : (Jvm.Cond.methodLink "FrequentSets" (54 : Nat) ({ cls := "FrequentSets", name := "isSet", desc := "(I)Z" } : Jvm.MethodName)) ∈ lw_all := lw_g (lw_at lw_m0 66 rfl) rfl
theorem q85 : (Jvm.Cond.privateMethod ({ cls := "FrequentSets", name := "isSet", desc := "(I)Z" } : Jvm.MethodName)) ∈ lw_tbl := lw_at lw_m0 67 rfl
theorem q86 : (Jvm.Cond.instanceMethod ({ cls := "FrequentSets", name := "isSet", desc := "(I)Z" } : Jvm.MethodName)) ∈ lw_all := lw_g (lw_at lw_m0 68 rfl) rfl
theorem q87 : (Jvm.Cond.code ({ cls := "FrequentSets", name := "isSet", desc := "(I)Z" } : Jvm.MethodName) prog_1_method_4_code (2 : Nat) (Option.some Jvm.ClassFile.FieldType.boolean)) ∈ lw_all := lw_g (lw_at lw_m0 69 rfl) rfl
theorem q89 : (Jvm.Cond.instanceMethod ({ cls := "FrequentSets", name := "drop", desc := "()I" } : Jvm.MethodName)) ∈ lw_all := lw_g (lw_at lw_m0 71 rfl) rfl
theorem q90 : (Jvm.Cond.selects "FrequentSets" ({ cls := "FrequentSets", name := "drop", desc := "()I" } : Jvm.MethodName) ({ cls := "FrequentSets", name := "drop", desc := "()I" } : Jvm.MethodName)) ∈ lw_all := lw_g (lw_at lw_m0 72 rfl) rfl
theorem q91 : (Jvm.Cond.code ({ cls := "FrequentSets", name := "drop", desc := "()I" } : Jvm.MethodName) prog_1_method_3_code (2 : Nat) (Option.some Jvm.ClassFile.FieldType.int)) ∈ lw_all := lw_g (lw_at lw_m0 73 rfl) rfl
theorem q93 : (Jvm.Cond.instanceMethod ({ cls := "FrequentSets", name := "count", desc := "(I)I" } : Jvm.MethodName)) ∈ lw_all := lw_g (lw_at lw_m0 75 rfl) rfl
theorem q94 : (Jvm.Cond.selects "FrequentSets" ({ cls := "FrequentSets", name := "count", desc := "(I)I" } : Jvm.MethodName) ({ cls := "FrequentSets", name := "count", desc := "(I)I" } : Jvm.MethodName)) ∈ lw_all := lw_g (lw_at lw_m0 76 rfl) rfl
theorem q95 : (Jvm.Cond.code ({ cls := "FrequentSets", name := "count", desc := "(I)I" } : Jvm.MethodName) prog_1_method_6_code (2 : Nat) (Option.some Jvm.ClassFile.FieldType.int)) ∈ lw_all := lw_g (lw_at lw_m0 77 rfl) rfl
theorem q96 : (Jvm.Cond.methodLink "FrequentSets" (62 : Nat) ({ cls := "FrequentSets", name := "build", desc := "()V" } : Jvm.MethodName)) ∈ lw_all := lw_g (lw_at lw_m0 78 rfl) rfl
theorem q97 : (Jvm.Cond.privateMethod ({ cls := "FrequentSets", name := "build", desc := "()V" } : Jvm.MethodName)) ∈ lw_tbl := lw_at lw_m0 79 rfl
theorem q98 : (Jvm.Cond.instanceMethod ({ cls := "FrequentSets", name := "build", desc := "()V" } : Jvm.MethodName)) ∈ lw_all := lw_g (lw_at lw_m0 80 rfl) rfl
theorem q99 : (Jvm.Cond.code ({ cls := "FrequentSets", name := "build", desc := "()V" } : Jvm.MethodName) prog_1_method_18_code (2 : Nat) (Option.none : Option Jvm.ClassFile.FieldType)) ∈ lw_all := lw_g (lw_at lw_m0 81 rfl) rfl
theorem q100 : (Jvm.Cond.methodLink "FrequentSets" (79 : Nat) ({ cls := "FrequentSets", name := "orderThings", desc := "()V" } : Jvm.MethodName)) ∈ lw_all := lw_g (lw_at lw_m0 82 rfl) rfl
theorem q101 : (Jvm.Cond.privateMethod ({ cls := "FrequentSets", name := "orderThings", desc := "()V" } : Jvm.MethodName)) ∈ lw_tbl := lw_at lw_m0 83 rfl
theorem q102 : (Jvm.Cond.instanceMethod ({ cls := "FrequentSets", name := "orderThings", desc := "()V" } : Jvm.MethodName)) ∈ lw_all := lw_g (lw_at lw_m0 84 rfl) rfl
theorem q103 : (Jvm.Cond.code ({ cls := "FrequentSets", name := "orderThings", desc := "()V" } : Jvm.MethodName) prog_1_method_19_code (3 : Nat) (Option.none : Option Jvm.ClassFile.FieldType)) ∈ lw_all := lw_g (lw_at lw_m0 85 rfl) rfl
theorem q104 : (Jvm.Cond.methodLink "FrequentSets" (85 : Nat) ({ cls := "FrequentSets", name := "plant", desc := "(I)V" } : Jvm.MethodName)) ∈ lw_all := lw_g (lw_at lw_m0 86 rfl) rfl
theorem q105 : (Jvm.Cond.privateMethod ({ cls := "FrequentSets", name := "plant", desc := "(I)V" } : Jvm.MethodName)) ∈ lw_tbl := lw_at lw_m0 87 rfl
theorem q106 : (Jvm.Cond.instanceMethod ({ cls := "FrequentSets", name := "plant", desc := "(I)V" } : Jvm.MethodName)) ∈ lw_all := lw_g (lw_at lw_m0 88 rfl) rfl
theorem q107 : (Jvm.Cond.code ({ cls := "FrequentSets", name := "plant", desc := "(I)V" } : Jvm.MethodName) prog_1_method_21_code (6 : Nat) (Option.none : Option Jvm.ClassFile.FieldType)) ∈ lw_all := lw_g (lw_at lw_m0 89 rfl) rfl
theorem q108 : (Jvm.Cond.methodLink "FrequentSets" (92 : Nat) ({ cls := "FrequentSets", name := "childWith", desc := "(II)I" } : Jvm.MethodName)) ∈ lw_all := lw_g (lw_at lw_m0 90 rfl) rfl
theorem q109 : (Jvm.Cond.privateMethod ({ cls := "FrequentSets", name := "childWith", desc := "(II)I" } : Jvm.MethodName)) ∈ lw_tbl := lw_at lw_m0 91 rfl
theorem q110 : (Jvm.Cond.instanceMethod ({ cls := "FrequentSets", name := "childWith", desc := "(II)I" } : Jvm.MethodName)) ∈ lw_all := lw_g (lw_at lw_m0 92 rfl) rfl
theorem q111 : (Jvm.Cond.code ({ cls := "FrequentSets", name := "childWith", desc := "(II)I" } : Jvm.MethodName) prog_1_method_20_code (4 : Nat) (Option.some Jvm.ClassFile.FieldType.int)) ∈ lw_all := lw_g (lw_at lw_m0 93 rfl) rfl
theorem q112 : (Jvm.Cond.methodLink "FrequentSets" (89 : Nat) ({ cls := "FrequentSets", name := "growSets", desc := "()V" } : Jvm.MethodName)) ∈ lw_all := lw_g (lw_at lw_m0 94 rfl) rfl
theorem q113 : (Jvm.Cond.privateMethod ({ cls := "FrequentSets", name := "growSets", desc := "()V" } : Jvm.MethodName)) ∈ lw_tbl := lw_at lw_m0 95 rfl
theorem q114 : (Jvm.Cond.instanceMethod ({ cls := "FrequentSets", name := "growSets", desc := "()V" } : Jvm.MethodName)) ∈ lw_all := lw_g (lw_at lw_m0 96 rfl) rfl
theorem q115 : (Jvm.Cond.code ({ cls := "FrequentSets", name := "growSets", desc := "()V" } : Jvm.MethodName) prog_1_method_22_code (6 : Nat) (Option.none : Option Jvm.ClassFile.FieldType)) ∈ lw_all := lw_g (lw_at lw_m0 97 rfl) rfl
theorem q116 : (Jvm.Cond.methodLink "FrequentSets" (96 : Nat) ({ cls := "FrequentSets", name := "countOn", desc := "(II)I" } : Jvm.MethodName)) ∈ lw_all := lw_g (lw_at lw_m0 98 rfl) rfl
theorem q117 : (Jvm.Cond.privateMethod ({ cls := "FrequentSets", name := "countOn", desc := "(II)I" } : Jvm.MethodName)) ∈ lw_tbl := lw_at lw_m0 99 rfl
theorem q118 : (Jvm.Cond.instanceMethod ({ cls := "FrequentSets", name := "countOn", desc := "(II)I" } : Jvm.MethodName)) ∈ lw_all := lw_g (lw_at lw_m0 100 rfl) rfl
theorem q119 : (Jvm.Cond.code ({ cls := "FrequentSets", name := "countOn", desc := "(II)I" } : Jvm.MethodName) prog_1_method_23_code (5 : Nat) (Option.some Jvm.ClassFile.FieldType.int)) ∈ lw_all := lw_g (lw_at lw_m0 101 rfl) rfl
theorem q120 : (Jvm.Cond.methodLink "FrequentSets" (99 : Nat) ({ cls := "FrequentSets", name := "liftWeights", desc := "(II)V" } : Jvm.MethodName)) ∈ lw_all := lw_g (lw_at lw_m0 102 rfl) rfl
theorem q121 : (Jvm.Cond.privateMethod ({ cls := "FrequentSets", name := "liftWeights", desc := "(II)V" } : Jvm.MethodName)) ∈ lw_tbl := lw_at lw_m0 103 rfl
theorem q122 : (Jvm.Cond.instanceMethod ({ cls := "FrequentSets", name := "liftWeights", desc := "(II)V" } : Jvm.MethodName)) ∈ lw_all := lw_g (lw_at lw_m0 104 rfl) rfl
theorem q123 : (Jvm.Cond.code ({ cls := "FrequentSets", name := "liftWeights", desc := "(II)V" } : Jvm.MethodName) prog_1_method_24_code (6 : Nat) (Option.none : Option Jvm.ClassFile.FieldType)) ∈ lw_all := lw_g (lw_at lw_m0 105 rfl) rfl
theorem q125 : (Jvm.Cond.instanceMethod ({ cls := "FrequentSets", name := "frequent", desc := "(I)I" } : Jvm.MethodName)) ∈ lw_all := lw_g (lw_at lw_m0 107 rfl) rfl
theorem q126 : (Jvm.Cond.selects "FrequentSets" ({ cls := "FrequentSets", name := "frequent", desc := "(I)I" } : Jvm.MethodName) ({ cls := "FrequentSets", name := "frequent", desc := "(I)I" } : Jvm.MethodName)) ∈ lw_all := lw_g (lw_at lw_m0 108 rfl) rfl
theorem q127 : (Jvm.Cond.code ({ cls := "FrequentSets", name := "frequent", desc := "(I)I" } : Jvm.MethodName) prog_1_method_7_code (4 : Nat) (Option.some Jvm.ClassFile.FieldType.int)) ∈ lw_all := lw_g (lw_at lw_m0 109 rfl) rfl
theorem q128 : (Jvm.Cond.methodLink "FrequentSets" (65 : Nat) ({ cls := "FrequentSets", name := "isBound", desc := "(I)Z" } : Jvm.MethodName)) ∈ lw_all := lw_g (lw_at lw_m0 110 rfl) rfl
theorem q129 : (Jvm.Cond.privateMethod ({ cls := "FrequentSets", name := "isBound", desc := "(I)Z" } : Jvm.MethodName)) ∈ lw_tbl := lw_at lw_m0 111 rfl
theorem q130 : (Jvm.Cond.instanceMethod ({ cls := "FrequentSets", name := "isBound", desc := "(I)Z" } : Jvm.MethodName)) ∈ lw_all := lw_g (lw_at lw_m0 112 rfl) rfl
theorem q131 : (Jvm.Cond.code ({ cls := "FrequentSets", name := "isBound", desc := "(I)Z" } : Jvm.MethodName) prog_1_method_5_code (2 : Nat) (Option.some Jvm.ClassFile.FieldType.boolean)) ∈ lw_all := lw_g (lw_at lw_m0 113 rfl) rfl
theorem q133 : (Jvm.Cond.instanceMethod ({ cls := "FrequentSets", name := "closed", desc := "(I)I" } : Jvm.MethodName)) ∈ lw_all := lw_g (lw_at lw_m0 115 rfl) rfl
theorem q134 : (Jvm.Cond.selects "FrequentSets" ({ cls := "FrequentSets", name := "closed", desc := "(I)I" } : Jvm.MethodName) ({ cls := "FrequentSets", name := "closed", desc := "(I)I" } : Jvm.MethodName)) ∈ lw_all := lw_g (lw_at lw_m0 116 rfl) rfl
theorem q135 : (Jvm.Cond.code ({ cls := "FrequentSets", name := "closed", desc := "(I)I" } : Jvm.MethodName) prog_1_method_8_code (4 : Nat) (Option.some Jvm.ClassFile.FieldType.int)) ∈ lw_all := lw_g (lw_at lw_m0 117 rfl) rfl
theorem q136 : (Jvm.Cond.methodLink "FrequentSets" (68 : Nat) ({ cls := "FrequentSets", name := "isClosed", desc := "(II)Z" } : Jvm.MethodName)) ∈ lw_all := lw_g (lw_at lw_m0 118 rfl) rfl
theorem q137 : (Jvm.Cond.privateMethod ({ cls := "FrequentSets", name := "isClosed", desc := "(II)Z" } : Jvm.MethodName)) ∈ lw_tbl := lw_at lw_m0 119 rfl
theorem q138 : (Jvm.Cond.instanceMethod ({ cls := "FrequentSets", name := "isClosed", desc := "(II)Z" } : Jvm.MethodName)) ∈ lw_all := lw_g (lw_at lw_m0 120 rfl) rfl
theorem q139 : (Jvm.Cond.code ({ cls := "FrequentSets", name := "isClosed", desc := "(II)Z" } : Jvm.MethodName) prog_1_method_16_code (4 : Nat) (Option.some Jvm.ClassFile.FieldType.boolean)) ∈ lw_all := lw_g (lw_at lw_m0 121 rfl) rfl
theorem q141 : (Jvm.Cond.instanceMethod ({ cls := "FrequentSets", name := "largest", desc := "(I)I" } : Jvm.MethodName)) ∈ lw_all := lw_g (lw_at lw_m0 123 rfl) rfl
theorem q142 : (Jvm.Cond.selects "FrequentSets" ({ cls := "FrequentSets", name := "largest", desc := "(I)I" } : Jvm.MethodName) ({ cls := "FrequentSets", name := "largest", desc := "(I)I" } : Jvm.MethodName)) ∈ lw_all := lw_g (lw_at lw_m0 124 rfl) rfl
theorem q143 : (Jvm.Cond.code ({ cls := "FrequentSets", name := "largest", desc := "(I)I" } : Jvm.MethodName) prog_1_method_9_code (4 : Nat) (Option.some Jvm.ClassFile.FieldType.int)) ∈ lw_all := lw_g (lw_at lw_m0 125 rfl) rfl
theorem q144 : (Jvm.Cond.methodLink "FrequentSets" (72 : Nat) ({ cls := "FrequentSets", name := "isLargest", desc := "(II)Z" } : Jvm.MethodName)) ∈ lw_all := lw_g (lw_at lw_m0 126 rfl) rfl
theorem q145 : (Jvm.Cond.privateMethod ({ cls := "FrequentSets", name := "isLargest", desc := "(II)Z" } : Jvm.MethodName)) ∈ lw_tbl := lw_at lw_m0 127 rfl
theorem q146 : (Jvm.Cond.instanceMethod ({ cls := "FrequentSets", name := "isLargest", desc := "(II)Z" } : Jvm.MethodName)) ∈ lw_all := lw_g (lw_at lw_m0 128 rfl) rfl
theorem q147 : (Jvm.Cond.code ({ cls := "FrequentSets", name := "isLargest", desc := "(II)Z" } : Jvm.MethodName) prog_1_method_17_code (4 : Nat) (Option.some Jvm.ClassFile.FieldType.boolean)) ∈ lw_all := lw_g (lw_at lw_m0 129 rfl) rfl
theorem q149 : (Jvm.Cond.instanceMethod ({ cls := "FrequentSets", name := "closedSet", desc := "(II)I" } : Jvm.MethodName)) ∈ lw_all := lw_g (lw_at lw_m0 131 rfl) rfl
theorem q150 : (Jvm.Cond.selects "FrequentSets" ({ cls := "FrequentSets", name := "closedSet", desc := "(II)I" } : Jvm.MethodName) ({ cls := "FrequentSets", name := "closedSet", desc := "(II)I" } : Jvm.MethodName)) ∈ lw_all := lw_g (lw_at lw_m0 132 rfl) rfl
theorem q151 : (Jvm.Cond.code ({ cls := "FrequentSets", name := "closedSet", desc := "(II)I" } : Jvm.MethodName) prog_1_method_10_code (5 : Nat) (Option.some Jvm.ClassFile.FieldType.int)) ∈ lw_all := lw_g (lw_at lw_m0 133 rfl) rfl
theorem q153 : (Jvm.Cond.instanceMethod ({ cls := "FrequentSets", name := "closure", desc := "(I)I" } : Jvm.MethodName)) ∈ lw_all := lw_g (lw_at lw_m0 135 rfl) rfl
theorem q154 : (Jvm.Cond.selects "FrequentSets" ({ cls := "FrequentSets", name := "closure", desc := "(I)I" } : Jvm.MethodName) ({ cls := "FrequentSets", name := "closure", desc := "(I)I" } : Jvm.MethodName)) ∈ lw_all := lw_g (lw_at lw_m0 136 rfl) rfl
theorem q155 : (Jvm.Cond.code ({ cls := "FrequentSets", name := "closure", desc := "(I)I" } : Jvm.MethodName) prog_1_method_11_code (4 : Nat) (Option.some Jvm.ClassFile.FieldType.int)) ∈ lw_all := lw_g (lw_at lw_m0 137 rfl) rfl
theorem q157 : (Jvm.Cond.instanceMethod ({ cls := "FrequentSets", name := "widest", desc := "(I)I" } : Jvm.MethodName)) ∈ lw_all := lw_g (lw_at lw_m0 139 rfl) rfl
theorem q158 : (Jvm.Cond.selects "FrequentSets" ({ cls := "FrequentSets", name := "widest", desc := "(I)I" } : Jvm.MethodName) ({ cls := "FrequentSets", name := "widest", desc := "(I)I" } : Jvm.MethodName)) ∈ lw_all := lw_g (lw_at lw_m0 140 rfl) rfl
theorem q159 : (Jvm.Cond.code ({ cls := "FrequentSets", name := "widest", desc := "(I)I" } : Jvm.MethodName) prog_1_method_12_code (5 : Nat) (Option.some Jvm.ClassFile.FieldType.int)) ∈ lw_all := lw_g (lw_at lw_m0 141 rfl) rfl
theorem q160 : (Jvm.Cond.methodLink "FrequentSets" (75 : Nat) ({ cls := "FrequentSets", name := "sizeOf", desc := "(I)I" } : Jvm.MethodName)) ∈ lw_all := lw_g (lw_at lw_m0 142 rfl) rfl
theorem q161 : (Jvm.Cond.privateMethod ({ cls := "FrequentSets", name := "sizeOf", desc := "(I)I" } : Jvm.MethodName)) ∈ lw_tbl := lw_at lw_m0 143 rfl
theorem q162 : (Jvm.Cond.instanceMethod ({ cls := "FrequentSets", name := "sizeOf", desc := "(I)I" } : Jvm.MethodName)) ∈ lw_all := lw_g (lw_at lw_m0 144 rfl) rfl
theorem q163 : (Jvm.Cond.code ({ cls := "FrequentSets", name := "sizeOf", desc := "(I)I" } : Jvm.MethodName) prog_1_method_15_code (4 : Nat) (Option.some Jvm.ClassFile.FieldType.int)) ∈ lw_all := lw_g (lw_at lw_m0 145 rfl) rfl
theorem q165 : (Jvm.Cond.instanceMethod ({ cls := "FrequentSets", name := "rules", desc := "(II)I" } : Jvm.MethodName)) ∈ lw_all := lw_g (lw_at lw_m0 147 rfl) rfl
theorem q166 : (Jvm.Cond.selects "FrequentSets" ({ cls := "FrequentSets", name := "rules", desc := "(II)I" } : Jvm.MethodName) ({ cls := "FrequentSets", name := "rules", desc := "(II)I" } : Jvm.MethodName)) ∈ lw_all := lw_g (lw_at lw_m0 148 rfl) rfl
theorem q167 : (Jvm.Cond.code ({ cls := "FrequentSets", name := "rules", desc := "(II)I" } : Jvm.MethodName) prog_1_method_13_code (6 : Nat) (Option.some Jvm.ClassFile.FieldType.int)) ∈ lw_all := lw_g (lw_at lw_m0 149 rfl) rfl
theorem q169 : (Jvm.Cond.instanceMethod ({ cls := "FrequentSets", name := "companion", desc := "(I)I" } : Jvm.MethodName)) ∈ lw_all := lw_g (lw_at lw_m0 151 rfl) rfl
theorem q170 : (Jvm.Cond.selects "FrequentSets" ({ cls := "FrequentSets", name := "companion", desc := "(I)I" } : Jvm.MethodName) ({ cls := "FrequentSets", name := "companion", desc := "(I)I" } : Jvm.MethodName)) ∈ lw_all := lw_g (lw_at lw_m0 152 rfl) rfl
theorem q171 : (Jvm.Cond.code ({ cls := "FrequentSets", name := "companion", desc := "(I)I" } : Jvm.MethodName) prog_1_method_14_code (5 : Nat) (Option.some Jvm.ClassFile.FieldType.int)) ∈ lw_all := lw_g (lw_at lw_m0 153 rfl) rfl
theorem in_X0 : ∀ w ∈ wsX00, w ∈ lw_all := lw_in wsX00 [45, 47, 49, 51, 53, 55, 57, 59, 61, 63, 65, 67, 69, 71, 73, 75] (by decide +kernel) (by decide +kernel)
end
section
set_option maxRecDepth 100000
/-! FrequentSetsModel -/
def RX1 : String := "FrequentSetsModel"
def TX1 : u_T := fun k => match k with
  | 0 => ("FrequentSetsModel", "n", "I", false)
  | 1 => ("FrequentSetsModel", "baskets", "[I", false)
  | _ => ("FrequentSetsModel", "counts", "[I", false)
def tyX1 : Nat → FieldType := fun k => match k with
  | 0 => .int
  | 1 => .array .int
  | _ => .array .int
abbrev wsX10 : List Cond := u_ws RX1 TX1 3
theorem nmX1 : ∀ a, a < 3 → ∀ b, b < 3 → a ≠ b → (TX1 a).2.1 ≠ (TX1 b).2.1 := by decide +kernel
theorem tyX1_ok : ∀ k, k < 3 → parseFieldDescriptor (TX1 k).2.2.1 = some (tyX1 k) := by decide +kernel
abbrev cX1_init : ByteArray := prog_3_method_1_code
def yX1_init : MethodName := ⟨RX1, "<init>", "()V"⟩
theorem dX1_init_0 : decode cX1_init 0 = .ok (.aload_n 0, 1) := by decide +kernel
theorem dX1_init_1 : decode cX1_init 1 = .ok (.invokespecial 1, 3) := by decide +kernel
theorem dX1_init_4 : decode cX1_init 4 = .ok (.aload_n 0, 1) := by decide +kernel
theorem dX1_init_5 : decode cX1_init 5 = .ok (.iconst 0, 1) := by decide +kernel
theorem dX1_init_6 : decode cX1_init 6 = .ok (.putfield 7, 3) := by decide +kernel
theorem dX1_init_9 : decode cX1_init 9 = .ok (.aload_n 0, 1) := by decide +kernel
theorem dX1_init_10 : decode cX1_init 10 = .ok (.bipush 20, 2) := by decide +kernel
theorem dX1_init_12 : decode cX1_init 12 = .ok (.newarray .int, 2) := by decide +kernel
theorem dX1_init_14 : decode cX1_init 14 = .ok (.putfield 13, 3) := by decide +kernel
theorem dX1_init_17 : decode cX1_init 17 = .ok (.aload_n 0, 1) := by decide +kernel
theorem dX1_init_18 : decode cX1_init 18 = .ok (.sipush 256, 3) := by decide +kernel
theorem dX1_init_21 : decode cX1_init 21 = .ok (.newarray .int, 2) := by decide +kernel
theorem dX1_init_23 : decode cX1_init 23 = .ok (.putfield 17, 3) := by decide +kernel
theorem dX1_init_26 : decode cX1_init 26 = .ok (.return_, 1) := by decide +kernel
abbrev cX1_add : ByteArray := prog_3_method_5_code
def yX1_add : MethodName := ⟨RX1, "add", "(I)I"⟩
theorem dX1_add_0 : decode cX1_add 0 = .ok (.aload_n 0, 1) := by decide +kernel
theorem dX1_add_1 : decode cX1_add 1 = .ok (.getfield 7, 3) := by decide +kernel
theorem dX1_add_4 : decode cX1_add 4 = .ok (.bipush 20, 2) := by decide +kernel
theorem dX1_add_6 : decode cX1_add 6 = .ok (.if_icmp .ne 6, 3) := by decide +kernel
theorem dX1_add_9 : decode cX1_add 9 = .ok (.bipush (-2), 2) := by decide +kernel
theorem dX1_add_11 : decode cX1_add 11 = .ok (.ireturn, 1) := by decide +kernel
theorem dX1_add_12 : decode cX1_add 12 = .ok (.aload_n 0, 1) := by decide +kernel
theorem dX1_add_13 : decode cX1_add 13 = .ok (.iload_n 1, 1) := by decide +kernel
theorem dX1_add_14 : decode cX1_add 14 = .ok (.invokevirtual 20, 3) := by decide +kernel
theorem dX1_add_17 : decode cX1_add 17 = .ok (.ifCond .ne 5, 3) := by decide +kernel
theorem dX1_add_20 : decode cX1_add 20 = .ok (.iconst (-1), 1) := by decide +kernel
theorem dX1_add_21 : decode cX1_add 21 = .ok (.ireturn, 1) := by decide +kernel
theorem dX1_add_22 : decode cX1_add 22 = .ok (.aload_n 0, 1) := by decide +kernel
theorem dX1_add_23 : decode cX1_add 23 = .ok (.getfield 13, 3) := by decide +kernel
theorem dX1_add_26 : decode cX1_add 26 = .ok (.aload_n 0, 1) := by decide +kernel
theorem dX1_add_27 : decode cX1_add 27 = .ok (.getfield 7, 3) := by decide +kernel
theorem dX1_add_30 : decode cX1_add 30 = .ok (.iload_n 1, 1) := by decide +kernel
theorem dX1_add_31 : decode cX1_add 31 = .ok (.iastore, 1) := by decide +kernel
theorem dX1_add_32 : decode cX1_add 32 = .ok (.aload_n 0, 1) := by decide +kernel
theorem dX1_add_33 : decode cX1_add 33 = .ok (.dup, 1) := by decide +kernel
theorem dX1_add_34 : decode cX1_add 34 = .ok (.getfield 7, 3) := by decide +kernel
theorem dX1_add_37 : decode cX1_add 37 = .ok (.iconst 1, 1) := by decide +kernel
theorem dX1_add_38 : decode cX1_add 38 = .ok (.iadd, 1) := by decide +kernel
theorem dX1_add_39 : decode cX1_add 39 = .ok (.putfield 7, 3) := by decide +kernel
theorem dX1_add_42 : decode cX1_add 42 = .ok (.aload_n 0, 1) := by decide +kernel
theorem dX1_add_43 : decode cX1_add 43 = .ok (.getfield 7, 3) := by decide +kernel
theorem dX1_add_46 : decode cX1_add 46 = .ok (.ireturn, 1) := by decide +kernel
abbrev cX1_isSet : ByteArray := prog_3_method_2_code
def yX1_isSet : MethodName := ⟨RX1, "isSet", "(I)Z"⟩
theorem dX1_isSet_0 : decode cX1_isSet 0 = .ok (.iload_n 1, 1) := by decide +kernel
theorem dX1_isSet_1 : decode cX1_isSet 1 = .ok (.ifCond .lt 14, 3) := by decide +kernel
theorem dX1_isSet_4 : decode cX1_isSet 4 = .ok (.iload_n 1, 1) := by decide +kernel
theorem dX1_isSet_5 : decode cX1_isSet 5 = .ok (.sipush 255, 3) := by decide +kernel
theorem dX1_isSet_8 : decode cX1_isSet 8 = .ok (.if_icmp .gt 7, 3) := by decide +kernel
theorem dX1_isSet_11 : decode cX1_isSet 11 = .ok (.iconst 1, 1) := by decide +kernel
theorem dX1_isSet_12 : decode cX1_isSet 12 = .ok (.goto 4, 3) := by decide +kernel
theorem dX1_isSet_15 : decode cX1_isSet 15 = .ok (.iconst 0, 1) := by decide +kernel
theorem dX1_isSet_16 : decode cX1_isSet 16 = .ok (.ireturn, 1) := by decide +kernel
abbrev cX1_drop : ByteArray := prog_3_method_6_code
def yX1_drop : MethodName := ⟨RX1, "drop", "()I"⟩
theorem dX1_drop_0 : decode cX1_drop 0 = .ok (.aload_n 0, 1) := by decide +kernel
theorem dX1_drop_1 : decode cX1_drop 1 = .ok (.getfield 7, 3) := by decide +kernel
theorem dX1_drop_4 : decode cX1_drop 4 = .ok (.ifCond .ne 6, 3) := by decide +kernel
theorem dX1_drop_7 : decode cX1_drop 7 = .ok (.bipush (-3), 2) := by decide +kernel
theorem dX1_drop_9 : decode cX1_drop 9 = .ok (.ireturn, 1) := by decide +kernel
theorem dX1_drop_10 : decode cX1_drop 10 = .ok (.iconst 0, 1) := by decide +kernel
theorem dX1_drop_11 : decode cX1_drop 11 = .ok (.istore_n 1, 1) := by decide +kernel
theorem dX1_drop_12 : decode cX1_drop 12 = .ok (.iload_n 1, 1) := by decide +kernel
theorem dX1_drop_13 : decode cX1_drop 13 = .ok (.aload_n 0, 1) := by decide +kernel
theorem dX1_drop_14 : decode cX1_drop 14 = .ok (.getfield 7, 3) := by decide +kernel
theorem dX1_drop_17 : decode cX1_drop 17 = .ok (.iconst 1, 1) := by decide +kernel
theorem dX1_drop_18 : decode cX1_drop 18 = .ok (.isub, 1) := by decide +kernel
theorem dX1_drop_19 : decode cX1_drop 19 = .ok (.if_icmp .ge 23, 3) := by decide +kernel
theorem dX1_drop_22 : decode cX1_drop 22 = .ok (.aload_n 0, 1) := by decide +kernel
theorem dX1_drop_23 : decode cX1_drop 23 = .ok (.getfield 13, 3) := by decide +kernel
theorem dX1_drop_26 : decode cX1_drop 26 = .ok (.iload_n 1, 1) := by decide +kernel
theorem dX1_drop_27 : decode cX1_drop 27 = .ok (.aload_n 0, 1) := by decide +kernel
theorem dX1_drop_28 : decode cX1_drop 28 = .ok (.getfield 13, 3) := by decide +kernel
theorem dX1_drop_31 : decode cX1_drop 31 = .ok (.iload_n 1, 1) := by decide +kernel
theorem dX1_drop_32 : decode cX1_drop 32 = .ok (.iconst 1, 1) := by decide +kernel
theorem dX1_drop_33 : decode cX1_drop 33 = .ok (.iadd, 1) := by decide +kernel
theorem dX1_drop_34 : decode cX1_drop 34 = .ok (.iaload, 1) := by decide +kernel
theorem dX1_drop_35 : decode cX1_drop 35 = .ok (.iastore, 1) := by decide +kernel
theorem dX1_drop_36 : decode cX1_drop 36 = .ok (.iinc 1 1, 3) := by decide +kernel
theorem dX1_drop_39 : decode cX1_drop 39 = .ok (.goto (-27), 3) := by decide +kernel
theorem dX1_drop_42 : decode cX1_drop 42 = .ok (.aload_n 0, 1) := by decide +kernel
theorem dX1_drop_43 : decode cX1_drop 43 = .ok (.dup, 1) := by decide +kernel
theorem dX1_drop_44 : decode cX1_drop 44 = .ok (.getfield 7, 3) := by decide +kernel
theorem dX1_drop_47 : decode cX1_drop 47 = .ok (.iconst 1, 1) := by decide +kernel
theorem dX1_drop_48 : decode cX1_drop 48 = .ok (.isub, 1) := by decide +kernel
theorem dX1_drop_49 : decode cX1_drop 49 = .ok (.putfield 7, 3) := by decide +kernel
theorem dX1_drop_52 : decode cX1_drop 52 = .ok (.aload_n 0, 1) := by decide +kernel
theorem dX1_drop_53 : decode cX1_drop 53 = .ok (.getfield 7, 3) := by decide +kernel
theorem dX1_drop_56 : decode cX1_drop 56 = .ok (.ireturn, 1) := by decide +kernel
abbrev cX1_count : ByteArray := prog_3_method_7_code
def yX1_count : MethodName := ⟨RX1, "count", "(I)I"⟩
theorem dX1_count_0 : decode cX1_count 0 = .ok (.aload_n 0, 1) := by decide +kernel
theorem dX1_count_1 : decode cX1_count 1 = .ok (.iload_n 1, 1) := by decide +kernel
theorem dX1_count_2 : decode cX1_count 2 = .ok (.invokevirtual 20, 3) := by decide +kernel
theorem dX1_count_5 : decode cX1_count 5 = .ok (.ifCond .ne 5, 3) := by decide +kernel
theorem dX1_count_8 : decode cX1_count 8 = .ok (.iconst (-1), 1) := by decide +kernel
theorem dX1_count_9 : decode cX1_count 9 = .ok (.ireturn, 1) := by decide +kernel
theorem dX1_count_10 : decode cX1_count 10 = .ok (.aload_n 0, 1) := by decide +kernel
theorem dX1_count_11 : decode cX1_count 11 = .ok (.invokevirtual 24, 3) := by decide +kernel
theorem dX1_count_14 : decode cX1_count 14 = .ok (.aload_n 0, 1) := by decide +kernel
theorem dX1_count_15 : decode cX1_count 15 = .ok (.getfield 17, 3) := by decide +kernel
theorem dX1_count_18 : decode cX1_count 18 = .ok (.iload_n 1, 1) := by decide +kernel
theorem dX1_count_19 : decode cX1_count 19 = .ok (.iaload, 1) := by decide +kernel
theorem dX1_count_20 : decode cX1_count 20 = .ok (.ireturn, 1) := by decide +kernel
abbrev cX1_countAll : ByteArray := prog_3_method_4_code
def yX1_countAll : MethodName := ⟨RX1, "countAll", "()V"⟩
theorem dX1_countAll_0 : decode cX1_countAll 0 = .ok (.iconst 0, 1) := by decide +kernel
theorem dX1_countAll_1 : decode cX1_countAll 1 = .ok (.istore_n 1, 1) := by decide +kernel
theorem dX1_countAll_2 : decode cX1_countAll 2 = .ok (.iload_n 1, 1) := by decide +kernel
theorem dX1_countAll_3 : decode cX1_countAll 3 = .ok (.sipush 256, 3) := by decide +kernel
theorem dX1_countAll_6 : decode cX1_countAll 6 = .ok (.if_icmp .ge 55, 3) := by decide +kernel
theorem dX1_countAll_9 : decode cX1_countAll 9 = .ok (.aload_n 0, 1) := by decide +kernel
theorem dX1_countAll_10 : decode cX1_countAll 10 = .ok (.getfield 17, 3) := by decide +kernel
theorem dX1_countAll_13 : decode cX1_countAll 13 = .ok (.iload_n 1, 1) := by decide +kernel
theorem dX1_countAll_14 : decode cX1_countAll 14 = .ok (.iconst 0, 1) := by decide +kernel
theorem dX1_countAll_15 : decode cX1_countAll 15 = .ok (.iastore, 1) := by decide +kernel
theorem dX1_countAll_16 : decode cX1_countAll 16 = .ok (.iconst 0, 1) := by decide +kernel
theorem dX1_countAll_17 : decode cX1_countAll 17 = .ok (.istore_n 2, 1) := by decide +kernel
theorem dX1_countAll_18 : decode cX1_countAll 18 = .ok (.iload_n 2, 1) := by decide +kernel
theorem dX1_countAll_19 : decode cX1_countAll 19 = .ok (.aload_n 0, 1) := by decide +kernel
theorem dX1_countAll_20 : decode cX1_countAll 20 = .ok (.getfield 7, 3) := by decide +kernel
theorem dX1_countAll_23 : decode cX1_countAll 23 = .ok (.if_icmp .ge 32, 3) := by decide +kernel
theorem dX1_countAll_26 : decode cX1_countAll 26 = .ok (.iload_n 1, 1) := by decide +kernel
theorem dX1_countAll_27 : decode cX1_countAll 27 = .ok (.aload_n 0, 1) := by decide +kernel
theorem dX1_countAll_28 : decode cX1_countAll 28 = .ok (.getfield 13, 3) := by decide +kernel
theorem dX1_countAll_31 : decode cX1_countAll 31 = .ok (.iload_n 2, 1) := by decide +kernel
theorem dX1_countAll_32 : decode cX1_countAll 32 = .ok (.iaload, 1) := by decide +kernel
theorem dX1_countAll_33 : decode cX1_countAll 33 = .ok (.iconst (-1), 1) := by decide +kernel
theorem dX1_countAll_34 : decode cX1_countAll 34 = .ok (.ixor, 1) := by decide +kernel
theorem dX1_countAll_35 : decode cX1_countAll 35 = .ok (.iand, 1) := by decide +kernel
theorem dX1_countAll_36 : decode cX1_countAll 36 = .ok (.ifCond .ne 13, 3) := by decide +kernel
theorem dX1_countAll_39 : decode cX1_countAll 39 = .ok (.aload_n 0, 1) := by decide +kernel
theorem dX1_countAll_40 : decode cX1_countAll 40 = .ok (.getfield 17, 3) := by decide +kernel
theorem dX1_countAll_43 : decode cX1_countAll 43 = .ok (.iload_n 1, 1) := by decide +kernel
theorem dX1_countAll_44 : decode cX1_countAll 44 = .ok (.dup2, 1) := by decide +kernel
theorem dX1_countAll_45 : decode cX1_countAll 45 = .ok (.iaload, 1) := by decide +kernel
theorem dX1_countAll_46 : decode cX1_countAll 46 = .ok (.iconst 1, 1) := by decide +kernel
theorem dX1_countAll_47 : decode cX1_countAll 47 = .ok (.iadd, 1) := by decide +kernel
theorem dX1_countAll_48 : decode cX1_countAll 48 = .ok (.iastore, 1) := by decide +kernel
theorem dX1_countAll_49 : decode cX1_countAll 49 = .ok (.iinc 2 1, 3) := by decide +kernel
theorem dX1_countAll_52 : decode cX1_countAll 52 = .ok (.goto (-34), 3) := by decide +kernel
theorem dX1_countAll_55 : decode cX1_countAll 55 = .ok (.iinc 1 1, 3) := by decide +kernel
theorem dX1_countAll_58 : decode cX1_countAll 58 = .ok (.goto (-56), 3) := by decide +kernel
theorem dX1_countAll_61 : decode cX1_countAll 61 = .ok (.return_, 1) := by decide +kernel
abbrev cX1_frequent : ByteArray := prog_3_method_8_code
def yX1_frequent : MethodName := ⟨RX1, "frequent", "(I)I"⟩
theorem dX1_frequent_0 : decode cX1_frequent 0 = .ok (.aload_n 0, 1) := by decide +kernel
theorem dX1_frequent_1 : decode cX1_frequent 1 = .ok (.iload_n 1, 1) := by decide +kernel
theorem dX1_frequent_2 : decode cX1_frequent 2 = .ok (.invokevirtual 27, 3) := by decide +kernel
theorem dX1_frequent_5 : decode cX1_frequent 5 = .ok (.ifCond .ne 5, 3) := by decide +kernel
theorem dX1_frequent_8 : decode cX1_frequent 8 = .ok (.iconst (-1), 1) := by decide +kernel
theorem dX1_frequent_9 : decode cX1_frequent 9 = .ok (.ireturn, 1) := by decide +kernel
theorem dX1_frequent_10 : decode cX1_frequent 10 = .ok (.aload_n 0, 1) := by decide +kernel
theorem dX1_frequent_11 : decode cX1_frequent 11 = .ok (.invokevirtual 24, 3) := by decide +kernel
theorem dX1_frequent_14 : decode cX1_frequent 14 = .ok (.iconst 0, 1) := by decide +kernel
theorem dX1_frequent_15 : decode cX1_frequent 15 = .ok (.istore_n 2, 1) := by decide +kernel
theorem dX1_frequent_16 : decode cX1_frequent 16 = .ok (.iconst 1, 1) := by decide +kernel
theorem dX1_frequent_17 : decode cX1_frequent 17 = .ok (.istore_n 3, 1) := by decide +kernel
theorem dX1_frequent_18 : decode cX1_frequent 18 = .ok (.iload_n 3, 1) := by decide +kernel
theorem dX1_frequent_19 : decode cX1_frequent 19 = .ok (.sipush 256, 3) := by decide +kernel
theorem dX1_frequent_22 : decode cX1_frequent 22 = .ok (.if_icmp .ge 22, 3) := by decide +kernel
theorem dX1_frequent_25 : decode cX1_frequent 25 = .ok (.aload_n 0, 1) := by decide +kernel
theorem dX1_frequent_26 : decode cX1_frequent 26 = .ok (.getfield 17, 3) := by decide +kernel
theorem dX1_frequent_29 : decode cX1_frequent 29 = .ok (.iload_n 3, 1) := by decide +kernel
theorem dX1_frequent_30 : decode cX1_frequent 30 = .ok (.iaload, 1) := by decide +kernel
theorem dX1_frequent_31 : decode cX1_frequent 31 = .ok (.iload_n 1, 1) := by decide +kernel
theorem dX1_frequent_32 : decode cX1_frequent 32 = .ok (.if_icmp .lt 6, 3) := by decide +kernel
theorem dX1_frequent_35 : decode cX1_frequent 35 = .ok (.iinc 2 1, 3) := by decide +kernel
theorem dX1_frequent_38 : decode cX1_frequent 38 = .ok (.iinc 3 1, 3) := by decide +kernel
theorem dX1_frequent_41 : decode cX1_frequent 41 = .ok (.goto (-23), 3) := by decide +kernel
theorem dX1_frequent_44 : decode cX1_frequent 44 = .ok (.iload_n 2, 1) := by decide +kernel
theorem dX1_frequent_45 : decode cX1_frequent 45 = .ok (.ireturn, 1) := by decide +kernel
abbrev cX1_isLevel : ByteArray := prog_3_method_3_code
def yX1_isLevel : MethodName := ⟨RX1, "isLevel", "(I)Z"⟩
theorem dX1_isLevel_0 : decode cX1_isLevel 0 = .ok (.iload_n 1, 1) := by decide +kernel
theorem dX1_isLevel_1 : decode cX1_isLevel 1 = .ok (.iconst 1, 1) := by decide +kernel
theorem dX1_isLevel_2 : decode cX1_isLevel 2 = .ok (.if_icmp .lt 13, 3) := by decide +kernel
theorem dX1_isLevel_5 : decode cX1_isLevel 5 = .ok (.iload_n 1, 1) := by decide +kernel
theorem dX1_isLevel_6 : decode cX1_isLevel 6 = .ok (.bipush 20, 2) := by decide +kernel
theorem dX1_isLevel_8 : decode cX1_isLevel 8 = .ok (.if_icmp .gt 7, 3) := by decide +kernel
theorem dX1_isLevel_11 : decode cX1_isLevel 11 = .ok (.iconst 1, 1) := by decide +kernel
theorem dX1_isLevel_12 : decode cX1_isLevel 12 = .ok (.goto 4, 3) := by decide +kernel
theorem dX1_isLevel_15 : decode cX1_isLevel 15 = .ok (.iconst 0, 1) := by decide +kernel
theorem dX1_isLevel_16 : decode cX1_isLevel 16 = .ok (.ireturn, 1) := by decide +kernel
abbrev cX1_closed : ByteArray := prog_3_method_11_code
def yX1_closed : MethodName := ⟨RX1, "closed", "(I)I"⟩
theorem dX1_closed_0 : decode cX1_closed 0 = .ok (.aload_n 0, 1) := by decide +kernel
theorem dX1_closed_1 : decode cX1_closed 1 = .ok (.iload_n 1, 1) := by decide +kernel
theorem dX1_closed_2 : decode cX1_closed 2 = .ok (.invokevirtual 27, 3) := by decide +kernel
theorem dX1_closed_5 : decode cX1_closed 5 = .ok (.ifCond .ne 5, 3) := by decide +kernel
theorem dX1_closed_8 : decode cX1_closed 8 = .ok (.iconst (-1), 1) := by decide +kernel
theorem dX1_closed_9 : decode cX1_closed 9 = .ok (.ireturn, 1) := by decide +kernel
theorem dX1_closed_10 : decode cX1_closed 10 = .ok (.aload_n 0, 1) := by decide +kernel
theorem dX1_closed_11 : decode cX1_closed 11 = .ok (.invokevirtual 24, 3) := by decide +kernel
theorem dX1_closed_14 : decode cX1_closed 14 = .ok (.iconst 0, 1) := by decide +kernel
theorem dX1_closed_15 : decode cX1_closed 15 = .ok (.istore_n 2, 1) := by decide +kernel
theorem dX1_closed_16 : decode cX1_closed 16 = .ok (.iconst 1, 1) := by decide +kernel
theorem dX1_closed_17 : decode cX1_closed 17 = .ok (.istore_n 3, 1) := by decide +kernel
theorem dX1_closed_18 : decode cX1_closed 18 = .ok (.iload_n 3, 1) := by decide +kernel
theorem dX1_closed_19 : decode cX1_closed 19 = .ok (.sipush 256, 3) := by decide +kernel
theorem dX1_closed_22 : decode cX1_closed 22 = .ok (.if_icmp .ge 21, 3) := by decide +kernel
theorem dX1_closed_25 : decode cX1_closed 25 = .ok (.aload_n 0, 1) := by decide +kernel
theorem dX1_closed_26 : decode cX1_closed 26 = .ok (.iload_n 3, 1) := by decide +kernel
theorem dX1_closed_27 : decode cX1_closed 27 = .ok (.iload_n 1, 1) := by decide +kernel
theorem dX1_closed_28 : decode cX1_closed 28 = .ok (.invokevirtual 34, 3) := by decide +kernel
theorem dX1_closed_31 : decode cX1_closed 31 = .ok (.ifCond .eq 6, 3) := by decide +kernel
theorem dX1_closed_34 : decode cX1_closed 34 = .ok (.iinc 2 1, 3) := by decide +kernel
theorem dX1_closed_37 : decode cX1_closed 37 = .ok (.iinc 3 1, 3) := by decide +kernel
theorem dX1_closed_40 : decode cX1_closed 40 = .ok (.goto (-22), 3) := by decide +kernel
theorem dX1_closed_43 : decode cX1_closed 43 = .ok (.iload_n 2, 1) := by decide +kernel
theorem dX1_closed_44 : decode cX1_closed 44 = .ok (.ireturn, 1) := by decide +kernel
abbrev cX1_isClosed : ByteArray := prog_3_method_10_code
def yX1_isClosed : MethodName := ⟨RX1, "isClosed", "(II)Z"⟩
theorem dX1_isClosed_0 : decode cX1_isClosed 0 = .ok (.aload_n 0, 1) := by decide +kernel
theorem dX1_isClosed_1 : decode cX1_isClosed 1 = .ok (.getfield 17, 3) := by decide +kernel
theorem dX1_isClosed_4 : decode cX1_isClosed 4 = .ok (.iload_n 1, 1) := by decide +kernel
theorem dX1_isClosed_5 : decode cX1_isClosed 5 = .ok (.iaload, 1) := by decide +kernel
theorem dX1_isClosed_6 : decode cX1_isClosed 6 = .ok (.iload_n 2, 1) := by decide +kernel
theorem dX1_isClosed_7 : decode cX1_isClosed 7 = .ok (.if_icmp .lt 21, 3) := by decide +kernel
theorem dX1_isClosed_10 : decode cX1_isClosed 10 = .ok (.aload_n 0, 1) := by decide +kernel
theorem dX1_isClosed_11 : decode cX1_isClosed 11 = .ok (.iload_n 1, 1) := by decide +kernel
theorem dX1_isClosed_12 : decode cX1_isClosed 12 = .ok (.aload_n 0, 1) := by decide +kernel
theorem dX1_isClosed_13 : decode cX1_isClosed 13 = .ok (.getfield 17, 3) := by decide +kernel
theorem dX1_isClosed_16 : decode cX1_isClosed 16 = .ok (.iload_n 1, 1) := by decide +kernel
theorem dX1_isClosed_17 : decode cX1_isClosed 17 = .ok (.iaload, 1) := by decide +kernel
theorem dX1_isClosed_18 : decode cX1_isClosed 18 = .ok (.invokevirtual 30, 3) := by decide +kernel
theorem dX1_isClosed_21 : decode cX1_isClosed 21 = .ok (.ifCond .eq 7, 3) := by decide +kernel
theorem dX1_isClosed_24 : decode cX1_isClosed 24 = .ok (.iconst 1, 1) := by decide +kernel
theorem dX1_isClosed_25 : decode cX1_isClosed 25 = .ok (.goto 4, 3) := by decide +kernel
theorem dX1_isClosed_28 : decode cX1_isClosed 28 = .ok (.iconst 0, 1) := by decide +kernel
theorem dX1_isClosed_29 : decode cX1_isClosed 29 = .ok (.ireturn, 1) := by decide +kernel
abbrev cX1_noGreater : ByteArray := prog_3_method_9_code
def yX1_noGreater : MethodName := ⟨RX1, "noGreater", "(II)Z"⟩
theorem dX1_noGreater_0 : decode cX1_noGreater 0 = .ok (.iconst 1, 1) := by decide +kernel
theorem dX1_noGreater_1 : decode cX1_noGreater 1 = .ok (.istore_n 3, 1) := by decide +kernel
theorem dX1_noGreater_2 : decode cX1_noGreater 2 = .ok (.iload_n 3, 1) := by decide +kernel
theorem dX1_noGreater_3 : decode cX1_noGreater 3 = .ok (.sipush 256, 3) := by decide +kernel
theorem dX1_noGreater_6 : decode cX1_noGreater 6 = .ok (.if_icmp .ge 34, 3) := by decide +kernel
theorem dX1_noGreater_9 : decode cX1_noGreater 9 = .ok (.iload_n 3, 1) := by decide +kernel
theorem dX1_noGreater_10 : decode cX1_noGreater 10 = .ok (.iload_n 1, 1) := by decide +kernel
theorem dX1_noGreater_11 : decode cX1_noGreater 11 = .ok (.if_icmp .eq 23, 3) := by decide +kernel
theorem dX1_noGreater_14 : decode cX1_noGreater 14 = .ok (.iload_n 1, 1) := by decide +kernel
theorem dX1_noGreater_15 : decode cX1_noGreater 15 = .ok (.iload_n 3, 1) := by decide +kernel
theorem dX1_noGreater_16 : decode cX1_noGreater 16 = .ok (.iconst (-1), 1) := by decide +kernel
theorem dX1_noGreater_17 : decode cX1_noGreater 17 = .ok (.ixor, 1) := by decide +kernel
theorem dX1_noGreater_18 : decode cX1_noGreater 18 = .ok (.iand, 1) := by decide +kernel
theorem dX1_noGreater_19 : decode cX1_noGreater 19 = .ok (.ifCond .ne 15, 3) := by decide +kernel
theorem dX1_noGreater_22 : decode cX1_noGreater 22 = .ok (.aload_n 0, 1) := by decide +kernel
theorem dX1_noGreater_23 : decode cX1_noGreater 23 = .ok (.getfield 17, 3) := by decide +kernel
theorem dX1_noGreater_26 : decode cX1_noGreater 26 = .ok (.iload_n 3, 1) := by decide +kernel
theorem dX1_noGreater_27 : decode cX1_noGreater 27 = .ok (.iaload, 1) := by decide +kernel
theorem dX1_noGreater_28 : decode cX1_noGreater 28 = .ok (.iload_n 2, 1) := by decide +kernel
theorem dX1_noGreater_29 : decode cX1_noGreater 29 = .ok (.if_icmp .lt 5, 3) := by decide +kernel
theorem dX1_noGreater_32 : decode cX1_noGreater 32 = .ok (.iconst 0, 1) := by decide +kernel
theorem dX1_noGreater_33 : decode cX1_noGreater 33 = .ok (.ireturn, 1) := by decide +kernel
theorem dX1_noGreater_34 : decode cX1_noGreater 34 = .ok (.iinc 3 1, 3) := by decide +kernel
theorem dX1_noGreater_37 : decode cX1_noGreater 37 = .ok (.goto (-35), 3) := by decide +kernel
theorem dX1_noGreater_40 : decode cX1_noGreater 40 = .ok (.iconst 1, 1) := by decide +kernel
theorem dX1_noGreater_41 : decode cX1_noGreater 41 = .ok (.ireturn, 1) := by decide +kernel
abbrev cX1_largest : ByteArray := prog_3_method_12_code
def yX1_largest : MethodName := ⟨RX1, "largest", "(I)I"⟩
theorem dX1_largest_0 : decode cX1_largest 0 = .ok (.aload_n 0, 1) := by decide +kernel
theorem dX1_largest_1 : decode cX1_largest 1 = .ok (.iload_n 1, 1) := by decide +kernel
theorem dX1_largest_2 : decode cX1_largest 2 = .ok (.invokevirtual 27, 3) := by decide +kernel
theorem dX1_largest_5 : decode cX1_largest 5 = .ok (.ifCond .ne 5, 3) := by decide +kernel
theorem dX1_largest_8 : decode cX1_largest 8 = .ok (.iconst (-1), 1) := by decide +kernel
theorem dX1_largest_9 : decode cX1_largest 9 = .ok (.ireturn, 1) := by decide +kernel
theorem dX1_largest_10 : decode cX1_largest 10 = .ok (.aload_n 0, 1) := by decide +kernel
theorem dX1_largest_11 : decode cX1_largest 11 = .ok (.invokevirtual 24, 3) := by decide +kernel
theorem dX1_largest_14 : decode cX1_largest 14 = .ok (.iconst 0, 1) := by decide +kernel
theorem dX1_largest_15 : decode cX1_largest 15 = .ok (.istore_n 2, 1) := by decide +kernel
theorem dX1_largest_16 : decode cX1_largest 16 = .ok (.iconst 1, 1) := by decide +kernel
theorem dX1_largest_17 : decode cX1_largest 17 = .ok (.istore_n 3, 1) := by decide +kernel
theorem dX1_largest_18 : decode cX1_largest 18 = .ok (.iload_n 3, 1) := by decide +kernel
theorem dX1_largest_19 : decode cX1_largest 19 = .ok (.sipush 256, 3) := by decide +kernel
theorem dX1_largest_22 : decode cX1_largest 22 = .ok (.if_icmp .ge 31, 3) := by decide +kernel
theorem dX1_largest_25 : decode cX1_largest 25 = .ok (.aload_n 0, 1) := by decide +kernel
theorem dX1_largest_26 : decode cX1_largest 26 = .ok (.getfield 17, 3) := by decide +kernel
theorem dX1_largest_29 : decode cX1_largest 29 = .ok (.iload_n 3, 1) := by decide +kernel
theorem dX1_largest_30 : decode cX1_largest 30 = .ok (.iaload, 1) := by decide +kernel
theorem dX1_largest_31 : decode cX1_largest 31 = .ok (.iload_n 1, 1) := by decide +kernel
theorem dX1_largest_32 : decode cX1_largest 32 = .ok (.if_icmp .lt 15, 3) := by decide +kernel
theorem dX1_largest_35 : decode cX1_largest 35 = .ok (.aload_n 0, 1) := by decide +kernel
theorem dX1_largest_36 : decode cX1_largest 36 = .ok (.iload_n 3, 1) := by decide +kernel
theorem dX1_largest_37 : decode cX1_largest 37 = .ok (.iload_n 1, 1) := by decide +kernel
theorem dX1_largest_38 : decode cX1_largest 38 = .ok (.invokevirtual 30, 3) := by decide +kernel
theorem dX1_largest_41 : decode cX1_largest 41 = .ok (.ifCond .eq 6, 3) := by decide +kernel
theorem dX1_largest_44 : decode cX1_largest 44 = .ok (.iinc 2 1, 3) := by decide +kernel
theorem dX1_largest_47 : decode cX1_largest 47 = .ok (.iinc 3 1, 3) := by decide +kernel
theorem dX1_largest_50 : decode cX1_largest 50 = .ok (.goto (-32), 3) := by decide +kernel
theorem dX1_largest_53 : decode cX1_largest 53 = .ok (.iload_n 2, 1) := by decide +kernel
theorem dX1_largest_54 : decode cX1_largest 54 = .ok (.ireturn, 1) := by decide +kernel
abbrev cX1_closedSet : ByteArray := prog_3_method_13_code
def yX1_closedSet : MethodName := ⟨RX1, "closedSet", "(II)I"⟩
theorem dX1_closedSet_0 : decode cX1_closedSet 0 = .ok (.aload_n 0, 1) := by decide +kernel
theorem dX1_closedSet_1 : decode cX1_closedSet 1 = .ok (.iload_n 1, 1) := by decide +kernel
theorem dX1_closedSet_2 : decode cX1_closedSet 2 = .ok (.invokevirtual 27, 3) := by decide +kernel
theorem dX1_closedSet_5 : decode cX1_closedSet 5 = .ok (.ifCond .ne 5, 3) := by decide +kernel
theorem dX1_closedSet_8 : decode cX1_closedSet 8 = .ok (.iconst (-1), 1) := by decide +kernel
theorem dX1_closedSet_9 : decode cX1_closedSet 9 = .ok (.ireturn, 1) := by decide +kernel
theorem dX1_closedSet_10 : decode cX1_closedSet 10 = .ok (.aload_n 0, 1) := by decide +kernel
theorem dX1_closedSet_11 : decode cX1_closedSet 11 = .ok (.invokevirtual 24, 3) := by decide +kernel
theorem dX1_closedSet_14 : decode cX1_closedSet 14 = .ok (.iconst 0, 1) := by decide +kernel
theorem dX1_closedSet_15 : decode cX1_closedSet 15 = .ok (.istore_n 3, 1) := by decide +kernel
theorem dX1_closedSet_16 : decode cX1_closedSet 16 = .ok (.iconst 1, 1) := by decide +kernel
theorem dX1_closedSet_17 : decode cX1_closedSet 17 = .ok (.istore 4, 2) := by decide +kernel
theorem dX1_closedSet_19 : decode cX1_closedSet 19 = .ok (.iload 4, 2) := by decide +kernel
theorem dX1_closedSet_21 : decode cX1_closedSet 21 = .ok (.sipush 256, 3) := by decide +kernel
theorem dX1_closedSet_24 : decode cX1_closedSet 24 = .ok (.if_icmp .ge 30, 3) := by decide +kernel
theorem dX1_closedSet_27 : decode cX1_closedSet 27 = .ok (.aload_n 0, 1) := by decide +kernel
theorem dX1_closedSet_28 : decode cX1_closedSet 28 = .ok (.iload 4, 2) := by decide +kernel
theorem dX1_closedSet_30 : decode cX1_closedSet 30 = .ok (.iload_n 1, 1) := by decide +kernel
theorem dX1_closedSet_31 : decode cX1_closedSet 31 = .ok (.invokevirtual 34, 3) := by decide +kernel
theorem dX1_closedSet_34 : decode cX1_closedSet 34 = .ok (.ifCond .eq 14, 3) := by decide +kernel
theorem dX1_closedSet_37 : decode cX1_closedSet 37 = .ok (.iload_n 3, 1) := by decide +kernel
theorem dX1_closedSet_38 : decode cX1_closedSet 38 = .ok (.iload_n 2, 1) := by decide +kernel
theorem dX1_closedSet_39 : decode cX1_closedSet 39 = .ok (.if_icmp .ne 6, 3) := by decide +kernel
theorem dX1_closedSet_42 : decode cX1_closedSet 42 = .ok (.iload 4, 2) := by decide +kernel
theorem dX1_closedSet_44 : decode cX1_closedSet 44 = .ok (.ireturn, 1) := by decide +kernel
theorem dX1_closedSet_45 : decode cX1_closedSet 45 = .ok (.iinc 3 1, 3) := by decide +kernel
theorem dX1_closedSet_48 : decode cX1_closedSet 48 = .ok (.iinc 4 1, 3) := by decide +kernel
theorem dX1_closedSet_51 : decode cX1_closedSet 51 = .ok (.goto (-32), 3) := by decide +kernel
theorem dX1_closedSet_54 : decode cX1_closedSet 54 = .ok (.bipush (-3), 2) := by decide +kernel
theorem dX1_closedSet_56 : decode cX1_closedSet 56 = .ok (.ireturn, 1) := by decide +kernel
abbrev cX1_closure : ByteArray := prog_3_method_14_code
def yX1_closure : MethodName := ⟨RX1, "closure", "(I)I"⟩
theorem dX1_closure_0 : decode cX1_closure 0 = .ok (.aload_n 0, 1) := by decide +kernel
theorem dX1_closure_1 : decode cX1_closure 1 = .ok (.iload_n 1, 1) := by decide +kernel
theorem dX1_closure_2 : decode cX1_closure 2 = .ok (.invokevirtual 20, 3) := by decide +kernel
theorem dX1_closure_5 : decode cX1_closure 5 = .ok (.ifCond .ne 5, 3) := by decide +kernel
theorem dX1_closure_8 : decode cX1_closure 8 = .ok (.iconst (-1), 1) := by decide +kernel
theorem dX1_closure_9 : decode cX1_closure 9 = .ok (.ireturn, 1) := by decide +kernel
theorem dX1_closure_10 : decode cX1_closure 10 = .ok (.sipush 255, 3) := by decide +kernel
theorem dX1_closure_13 : decode cX1_closure 13 = .ok (.istore_n 2, 1) := by decide +kernel
theorem dX1_closure_14 : decode cX1_closure 14 = .ok (.iconst 0, 1) := by decide +kernel
theorem dX1_closure_15 : decode cX1_closure 15 = .ok (.istore_n 3, 1) := by decide +kernel
theorem dX1_closure_16 : decode cX1_closure 16 = .ok (.iconst 0, 1) := by decide +kernel
theorem dX1_closure_17 : decode cX1_closure 17 = .ok (.istore 4, 2) := by decide +kernel
theorem dX1_closure_19 : decode cX1_closure 19 = .ok (.iload 4, 2) := by decide +kernel
theorem dX1_closure_21 : decode cX1_closure 21 = .ok (.aload_n 0, 1) := by decide +kernel
theorem dX1_closure_22 : decode cX1_closure 22 = .ok (.getfield 7, 3) := by decide +kernel
theorem dX1_closure_25 : decode cX1_closure 25 = .ok (.if_icmp .ge 35, 3) := by decide +kernel
theorem dX1_closure_28 : decode cX1_closure 28 = .ok (.iload_n 1, 1) := by decide +kernel
theorem dX1_closure_29 : decode cX1_closure 29 = .ok (.aload_n 0, 1) := by decide +kernel
theorem dX1_closure_30 : decode cX1_closure 30 = .ok (.getfield 13, 3) := by decide +kernel
theorem dX1_closure_33 : decode cX1_closure 33 = .ok (.iload 4, 2) := by decide +kernel
theorem dX1_closure_35 : decode cX1_closure 35 = .ok (.iaload, 1) := by decide +kernel
theorem dX1_closure_36 : decode cX1_closure 36 = .ok (.iconst (-1), 1) := by decide +kernel
theorem dX1_closure_37 : decode cX1_closure 37 = .ok (.ixor, 1) := by decide +kernel
theorem dX1_closure_38 : decode cX1_closure 38 = .ok (.iand, 1) := by decide +kernel
theorem dX1_closure_39 : decode cX1_closure 39 = .ok (.ifCond .ne 15, 3) := by decide +kernel
theorem dX1_closure_42 : decode cX1_closure 42 = .ok (.iload_n 2, 1) := by decide +kernel
theorem dX1_closure_43 : decode cX1_closure 43 = .ok (.aload_n 0, 1) := by decide +kernel
theorem dX1_closure_44 : decode cX1_closure 44 = .ok (.getfield 13, 3) := by decide +kernel
theorem dX1_closure_47 : decode cX1_closure 47 = .ok (.iload 4, 2) := by decide +kernel
theorem dX1_closure_49 : decode cX1_closure 49 = .ok (.iaload, 1) := by decide +kernel
theorem dX1_closure_50 : decode cX1_closure 50 = .ok (.iand, 1) := by decide +kernel
theorem dX1_closure_51 : decode cX1_closure 51 = .ok (.istore_n 2, 1) := by decide +kernel
theorem dX1_closure_52 : decode cX1_closure 52 = .ok (.iconst 1, 1) := by decide +kernel
theorem dX1_closure_53 : decode cX1_closure 53 = .ok (.istore_n 3, 1) := by decide +kernel
theorem dX1_closure_54 : decode cX1_closure 54 = .ok (.iinc 4 1, 3) := by decide +kernel
theorem dX1_closure_57 : decode cX1_closure 57 = .ok (.goto (-38), 3) := by decide +kernel
theorem dX1_closure_60 : decode cX1_closure 60 = .ok (.iload_n 3, 1) := by decide +kernel
theorem dX1_closure_61 : decode cX1_closure 61 = .ok (.ifCond .eq 7, 3) := by decide +kernel
theorem dX1_closure_64 : decode cX1_closure 64 = .ok (.iload_n 2, 1) := by decide +kernel
theorem dX1_closure_65 : decode cX1_closure 65 = .ok (.goto 5, 3) := by decide +kernel
theorem dX1_closure_68 : decode cX1_closure 68 = .ok (.bipush (-3), 2) := by decide +kernel
theorem dX1_closure_70 : decode cX1_closure 70 = .ok (.ireturn, 1) := by decide +kernel
end
section
set_option maxRecDepth 100000
abbrev cX1_widest : ByteArray := prog_3_method_16_code
def yX1_widest : MethodName := ⟨RX1, "widest", "(I)I"⟩
theorem dX1_widest_0 : decode cX1_widest 0 = .ok (.aload_n 0, 1) := by decide +kernel
theorem dX1_widest_1 : decode cX1_widest 1 = .ok (.iload_n 1, 1) := by decide +kernel
theorem dX1_widest_2 : decode cX1_widest 2 = .ok (.invokevirtual 27, 3) := by decide +kernel
theorem dX1_widest_5 : decode cX1_widest 5 = .ok (.ifCond .ne 5, 3) := by decide +kernel
theorem dX1_widest_8 : decode cX1_widest 8 = .ok (.iconst (-1), 1) := by decide +kernel
theorem dX1_widest_9 : decode cX1_widest 9 = .ok (.ireturn, 1) := by decide +kernel
theorem dX1_widest_10 : decode cX1_widest 10 = .ok (.aload_n 0, 1) := by decide +kernel
theorem dX1_widest_11 : decode cX1_widest 11 = .ok (.invokevirtual 24, 3) := by decide +kernel
theorem dX1_widest_14 : decode cX1_widest 14 = .ok (.iconst 0, 1) := by decide +kernel
theorem dX1_widest_15 : decode cX1_widest 15 = .ok (.istore_n 2, 1) := by decide +kernel
theorem dX1_widest_16 : decode cX1_widest 16 = .ok (.iconst 1, 1) := by decide +kernel
theorem dX1_widest_17 : decode cX1_widest 17 = .ok (.istore_n 3, 1) := by decide +kernel
theorem dX1_widest_18 : decode cX1_widest 18 = .ok (.iload_n 3, 1) := by decide +kernel
theorem dX1_widest_19 : decode cX1_widest 19 = .ok (.sipush 256, 3) := by decide +kernel
theorem dX1_widest_22 : decode cX1_widest 22 = .ok (.if_icmp .ge 34, 3) := by decide +kernel
theorem dX1_widest_25 : decode cX1_widest 25 = .ok (.aload_n 0, 1) := by decide +kernel
theorem dX1_widest_26 : decode cX1_widest 26 = .ok (.getfield 17, 3) := by decide +kernel
theorem dX1_widest_29 : decode cX1_widest 29 = .ok (.iload_n 3, 1) := by decide +kernel
theorem dX1_widest_30 : decode cX1_widest 30 = .ok (.iaload, 1) := by decide +kernel
theorem dX1_widest_31 : decode cX1_widest 31 = .ok (.iload_n 1, 1) := by decide +kernel
theorem dX1_widest_32 : decode cX1_widest 32 = .ok (.if_icmp .lt 18, 3) := by decide +kernel
theorem dX1_widest_35 : decode cX1_widest 35 = .ok (.aload_n 0, 1) := by decide +kernel
theorem dX1_widest_36 : decode cX1_widest 36 = .ok (.iload_n 3, 1) := by decide +kernel
theorem dX1_widest_37 : decode cX1_widest 37 = .ok (.invokevirtual 37, 3) := by decide +kernel
theorem dX1_widest_40 : decode cX1_widest 40 = .ok (.iload_n 2, 1) := by decide +kernel
theorem dX1_widest_41 : decode cX1_widest 41 = .ok (.if_icmp .le 9, 3) := by decide +kernel
theorem dX1_widest_44 : decode cX1_widest 44 = .ok (.aload_n 0, 1) := by decide +kernel
theorem dX1_widest_45 : decode cX1_widest 45 = .ok (.iload_n 3, 1) := by decide +kernel
theorem dX1_widest_46 : decode cX1_widest 46 = .ok (.invokevirtual 37, 3) := by decide +kernel
theorem dX1_widest_49 : decode cX1_widest 49 = .ok (.istore_n 2, 1) := by decide +kernel
theorem dX1_widest_50 : decode cX1_widest 50 = .ok (.iinc 3 1, 3) := by decide +kernel
theorem dX1_widest_53 : decode cX1_widest 53 = .ok (.goto (-35), 3) := by decide +kernel
theorem dX1_widest_56 : decode cX1_widest 56 = .ok (.iload_n 2, 1) := by decide +kernel
theorem dX1_widest_57 : decode cX1_widest 57 = .ok (.ireturn, 1) := by decide +kernel
abbrev cX1_sizeOf : ByteArray := prog_3_method_15_code
def yX1_sizeOf : MethodName := ⟨RX1, "sizeOf", "(I)I"⟩
theorem dX1_sizeOf_0 : decode cX1_sizeOf 0 = .ok (.iconst 0, 1) := by decide +kernel
theorem dX1_sizeOf_1 : decode cX1_sizeOf 1 = .ok (.istore_n 2, 1) := by decide +kernel
theorem dX1_sizeOf_2 : decode cX1_sizeOf 2 = .ok (.iconst 0, 1) := by decide +kernel
theorem dX1_sizeOf_3 : decode cX1_sizeOf 3 = .ok (.istore_n 3, 1) := by decide +kernel
theorem dX1_sizeOf_4 : decode cX1_sizeOf 4 = .ok (.iload_n 3, 1) := by decide +kernel
theorem dX1_sizeOf_5 : decode cX1_sizeOf 5 = .ok (.bipush 8, 2) := by decide +kernel
theorem dX1_sizeOf_7 : decode cX1_sizeOf 7 = .ok (.if_icmp .ge 17, 3) := by decide +kernel
theorem dX1_sizeOf_10 : decode cX1_sizeOf 10 = .ok (.iload_n 2, 1) := by decide +kernel
theorem dX1_sizeOf_11 : decode cX1_sizeOf 11 = .ok (.iload_n 1, 1) := by decide +kernel
theorem dX1_sizeOf_12 : decode cX1_sizeOf 12 = .ok (.iload_n 3, 1) := by decide +kernel
theorem dX1_sizeOf_13 : decode cX1_sizeOf 13 = .ok (.ishr, 1) := by decide +kernel
theorem dX1_sizeOf_14 : decode cX1_sizeOf 14 = .ok (.iconst 1, 1) := by decide +kernel
theorem dX1_sizeOf_15 : decode cX1_sizeOf 15 = .ok (.iand, 1) := by decide +kernel
theorem dX1_sizeOf_16 : decode cX1_sizeOf 16 = .ok (.iadd, 1) := by decide +kernel
theorem dX1_sizeOf_17 : decode cX1_sizeOf 17 = .ok (.istore_n 2, 1) := by decide +kernel
theorem dX1_sizeOf_18 : decode cX1_sizeOf 18 = .ok (.iinc 3 1, 3) := by decide +kernel
theorem dX1_sizeOf_21 : decode cX1_sizeOf 21 = .ok (.goto (-17), 3) := by decide +kernel
theorem dX1_sizeOf_24 : decode cX1_sizeOf 24 = .ok (.iload_n 2, 1) := by decide +kernel
theorem dX1_sizeOf_25 : decode cX1_sizeOf 25 = .ok (.ireturn, 1) := by decide +kernel
abbrev cX1_rules : ByteArray := prog_3_method_17_code
def yX1_rules : MethodName := ⟨RX1, "rules", "(II)I"⟩
theorem dX1_rules_0 : decode cX1_rules 0 = .ok (.aload_n 0, 1) := by decide +kernel
theorem dX1_rules_1 : decode cX1_rules 1 = .ok (.iload_n 1, 1) := by decide +kernel
theorem dX1_rules_2 : decode cX1_rules 2 = .ok (.invokevirtual 27, 3) := by decide +kernel
theorem dX1_rules_5 : decode cX1_rules 5 = .ok (.ifCond .eq 13, 3) := by decide +kernel
theorem dX1_rules_8 : decode cX1_rules 8 = .ok (.iload_n 2, 1) := by decide +kernel
theorem dX1_rules_9 : decode cX1_rules 9 = .ok (.ifCond .lt 9, 3) := by decide +kernel
theorem dX1_rules_12 : decode cX1_rules 12 = .ok (.iload_n 2, 1) := by decide +kernel
theorem dX1_rules_13 : decode cX1_rules 13 = .ok (.bipush 100, 2) := by decide +kernel
theorem dX1_rules_15 : decode cX1_rules 15 = .ok (.if_icmp .le 5, 3) := by decide +kernel
theorem dX1_rules_18 : decode cX1_rules 18 = .ok (.iconst (-1), 1) := by decide +kernel
theorem dX1_rules_19 : decode cX1_rules 19 = .ok (.ireturn, 1) := by decide +kernel
theorem dX1_rules_20 : decode cX1_rules 20 = .ok (.aload_n 0, 1) := by decide +kernel
theorem dX1_rules_21 : decode cX1_rules 21 = .ok (.invokevirtual 24, 3) := by decide +kernel
theorem dX1_rules_24 : decode cX1_rules 24 = .ok (.iconst 0, 1) := by decide +kernel
theorem dX1_rules_25 : decode cX1_rules 25 = .ok (.istore_n 3, 1) := by decide +kernel
theorem dX1_rules_26 : decode cX1_rules 26 = .ok (.iconst 1, 1) := by decide +kernel
theorem dX1_rules_27 : decode cX1_rules 27 = .ok (.istore 4, 2) := by decide +kernel
theorem dX1_rules_29 : decode cX1_rules 29 = .ok (.iload 4, 2) := by decide +kernel
theorem dX1_rules_31 : decode cX1_rules 31 = .ok (.sipush 256, 3) := by decide +kernel
theorem dX1_rules_34 : decode cX1_rules 34 = .ok (.if_icmp .ge 72, 3) := by decide +kernel
theorem dX1_rules_37 : decode cX1_rules 37 = .ok (.iconst 1, 1) := by decide +kernel
theorem dX1_rules_38 : decode cX1_rules 38 = .ok (.istore 5, 2) := by decide +kernel
theorem dX1_rules_40 : decode cX1_rules 40 = .ok (.iload 5, 2) := by decide +kernel
theorem dX1_rules_42 : decode cX1_rules 42 = .ok (.sipush 256, 3) := by decide +kernel
theorem dX1_rules_45 : decode cX1_rules 45 = .ok (.if_icmp .ge 55, 3) := by decide +kernel
theorem dX1_rules_48 : decode cX1_rules 48 = .ok (.aload_n 0, 1) := by decide +kernel
theorem dX1_rules_49 : decode cX1_rules 49 = .ok (.getfield 17, 3) := by decide +kernel
theorem dX1_rules_52 : decode cX1_rules 52 = .ok (.iload 4, 2) := by decide +kernel
theorem dX1_rules_54 : decode cX1_rules 54 = .ok (.iload 5, 2) := by decide +kernel
theorem dX1_rules_56 : decode cX1_rules 56 = .ok (.ior, 1) := by decide +kernel
theorem dX1_rules_57 : decode cX1_rules 57 = .ok (.iaload, 1) := by decide +kernel
theorem dX1_rules_58 : decode cX1_rules 58 = .ok (.istore 6, 2) := by decide +kernel
theorem dX1_rules_60 : decode cX1_rules 60 = .ok (.iload 4, 2) := by decide +kernel
theorem dX1_rules_62 : decode cX1_rules 62 = .ok (.iload 5, 2) := by decide +kernel
theorem dX1_rules_64 : decode cX1_rules 64 = .ok (.iand, 1) := by decide +kernel
theorem dX1_rules_65 : decode cX1_rules 65 = .ok (.ifCond .ne 29, 3) := by decide +kernel
theorem dX1_rules_68 : decode cX1_rules 68 = .ok (.iload 6, 2) := by decide +kernel
theorem dX1_rules_70 : decode cX1_rules 70 = .ok (.iload_n 1, 1) := by decide +kernel
theorem dX1_rules_71 : decode cX1_rules 71 = .ok (.if_icmp .lt 23, 3) := by decide +kernel
theorem dX1_rules_74 : decode cX1_rules 74 = .ok (.bipush 100, 2) := by decide +kernel
theorem dX1_rules_76 : decode cX1_rules 76 = .ok (.iload 6, 2) := by decide +kernel
theorem dX1_rules_78 : decode cX1_rules 78 = .ok (.imul, 1) := by decide +kernel
theorem dX1_rules_79 : decode cX1_rules 79 = .ok (.iload_n 2, 1) := by decide +kernel
theorem dX1_rules_80 : decode cX1_rules 80 = .ok (.aload_n 0, 1) := by decide +kernel
theorem dX1_rules_81 : decode cX1_rules 81 = .ok (.getfield 17, 3) := by decide +kernel
theorem dX1_rules_84 : decode cX1_rules 84 = .ok (.iload 4, 2) := by decide +kernel
theorem dX1_rules_86 : decode cX1_rules 86 = .ok (.iaload, 1) := by decide +kernel
theorem dX1_rules_87 : decode cX1_rules 87 = .ok (.imul, 1) := by decide +kernel
theorem dX1_rules_88 : decode cX1_rules 88 = .ok (.if_icmp .lt 6, 3) := by decide +kernel
theorem dX1_rules_91 : decode cX1_rules 91 = .ok (.iinc 3 1, 3) := by decide +kernel
theorem dX1_rules_94 : decode cX1_rules 94 = .ok (.iinc 5 1, 3) := by decide +kernel
theorem dX1_rules_97 : decode cX1_rules 97 = .ok (.goto (-57), 3) := by decide +kernel
theorem dX1_rules_100 : decode cX1_rules 100 = .ok (.iinc 4 1, 3) := by decide +kernel
theorem dX1_rules_103 : decode cX1_rules 103 = .ok (.goto (-74), 3) := by decide +kernel
theorem dX1_rules_106 : decode cX1_rules 106 = .ok (.iload_n 3, 1) := by decide +kernel
theorem dX1_rules_107 : decode cX1_rules 107 = .ok (.ireturn, 1) := by decide +kernel
abbrev cX1_companion : ByteArray := prog_3_method_18_code
def yX1_companion : MethodName := ⟨RX1, "companion", "(I)I"⟩
theorem dX1_companion_0 : decode cX1_companion 0 = .ok (.iload_n 1, 1) := by decide +kernel
theorem dX1_companion_1 : decode cX1_companion 1 = .ok (.iconst 1, 1) := by decide +kernel
theorem dX1_companion_2 : decode cX1_companion 2 = .ok (.if_icmp .lt 10, 3) := by decide +kernel
theorem dX1_companion_5 : decode cX1_companion 5 = .ok (.iload_n 1, 1) := by decide +kernel
theorem dX1_companion_6 : decode cX1_companion 6 = .ok (.sipush 255, 3) := by decide +kernel
theorem dX1_companion_9 : decode cX1_companion 9 = .ok (.if_icmp .le 5, 3) := by decide +kernel
theorem dX1_companion_12 : decode cX1_companion 12 = .ok (.iconst (-1), 1) := by decide +kernel
theorem dX1_companion_13 : decode cX1_companion 13 = .ok (.ireturn, 1) := by decide +kernel
theorem dX1_companion_14 : decode cX1_companion 14 = .ok (.aload_n 0, 1) := by decide +kernel
theorem dX1_companion_15 : decode cX1_companion 15 = .ok (.invokevirtual 24, 3) := by decide +kernel
theorem dX1_companion_18 : decode cX1_companion 18 = .ok (.aload_n 0, 1) := by decide +kernel
theorem dX1_companion_19 : decode cX1_companion 19 = .ok (.getfield 17, 3) := by decide +kernel
theorem dX1_companion_22 : decode cX1_companion 22 = .ok (.iload_n 1, 1) := by decide +kernel
theorem dX1_companion_23 : decode cX1_companion 23 = .ok (.iaload, 1) := by decide +kernel
theorem dX1_companion_24 : decode cX1_companion 24 = .ok (.ifCond .eq 10, 3) := by decide +kernel
theorem dX1_companion_27 : decode cX1_companion 27 = .ok (.iload_n 1, 1) := by decide +kernel
theorem dX1_companion_28 : decode cX1_companion 28 = .ok (.sipush 255, 3) := by decide +kernel
theorem dX1_companion_31 : decode cX1_companion 31 = .ok (.if_icmp .ne 6, 3) := by decide +kernel
theorem dX1_companion_34 : decode cX1_companion 34 = .ok (.bipush (-3), 2) := by decide +kernel
theorem dX1_companion_36 : decode cX1_companion 36 = .ok (.ireturn, 1) := by decide +kernel
theorem dX1_companion_37 : decode cX1_companion 37 = .ok (.iconst (-1), 1) := by decide +kernel
theorem dX1_companion_38 : decode cX1_companion 38 = .ok (.istore_n 2, 1) := by decide +kernel
theorem dX1_companion_39 : decode cX1_companion 39 = .ok (.iconst 0, 1) := by decide +kernel
theorem dX1_companion_40 : decode cX1_companion 40 = .ok (.istore_n 3, 1) := by decide +kernel
theorem dX1_companion_41 : decode cX1_companion 41 = .ok (.iload_n 3, 1) := by decide +kernel
theorem dX1_companion_42 : decode cX1_companion 42 = .ok (.bipush 8, 2) := by decide +kernel
theorem dX1_companion_44 : decode cX1_companion 44 = .ok (.if_icmp .ge 61, 3) := by decide +kernel
theorem dX1_companion_47 : decode cX1_companion 47 = .ok (.iload_n 1, 1) := by decide +kernel
theorem dX1_companion_48 : decode cX1_companion 48 = .ok (.iload_n 3, 1) := by decide +kernel
theorem dX1_companion_49 : decode cX1_companion 49 = .ok (.ishr, 1) := by decide +kernel
theorem dX1_companion_50 : decode cX1_companion 50 = .ok (.iconst 1, 1) := by decide +kernel
theorem dX1_companion_51 : decode cX1_companion 51 = .ok (.iand, 1) := by decide +kernel
theorem dX1_companion_52 : decode cX1_companion 52 = .ok (.ifCond .ne 7, 3) := by decide +kernel
theorem dX1_companion_55 : decode cX1_companion 55 = .ok (.iconst 1, 1) := by decide +kernel
theorem dX1_companion_56 : decode cX1_companion 56 = .ok (.goto 4, 3) := by decide +kernel
theorem dX1_companion_59 : decode cX1_companion 59 = .ok (.iconst 0, 1) := by decide +kernel
theorem dX1_companion_60 : decode cX1_companion 60 = .ok (.istore 4, 2) := by decide +kernel
theorem dX1_companion_62 : decode cX1_companion 62 = .ok (.iload 4, 2) := by decide +kernel
theorem dX1_companion_64 : decode cX1_companion 64 = .ok (.ifCond .eq 35, 3) := by decide +kernel
theorem dX1_companion_67 : decode cX1_companion 67 = .ok (.iload_n 2, 1) := by decide +kernel
theorem dX1_companion_68 : decode cX1_companion 68 = .ok (.ifCond .lt 29, 3) := by decide +kernel
theorem dX1_companion_71 : decode cX1_companion 71 = .ok (.aload_n 0, 1) := by decide +kernel
theorem dX1_companion_72 : decode cX1_companion 72 = .ok (.getfield 17, 3) := by decide +kernel
theorem dX1_companion_75 : decode cX1_companion 75 = .ok (.iload_n 1, 1) := by decide +kernel
theorem dX1_companion_76 : decode cX1_companion 76 = .ok (.iconst 1, 1) := by decide +kernel
theorem dX1_companion_77 : decode cX1_companion 77 = .ok (.iload_n 3, 1) := by decide +kernel
theorem dX1_companion_78 : decode cX1_companion 78 = .ok (.ishl, 1) := by decide +kernel
theorem dX1_companion_79 : decode cX1_companion 79 = .ok (.ior, 1) := by decide +kernel
theorem dX1_companion_80 : decode cX1_companion 80 = .ok (.iaload, 1) := by decide +kernel
theorem dX1_companion_81 : decode cX1_companion 81 = .ok (.aload_n 0, 1) := by decide +kernel
theorem dX1_companion_82 : decode cX1_companion 82 = .ok (.getfield 17, 3) := by decide +kernel
theorem dX1_companion_85 : decode cX1_companion 85 = .ok (.iload_n 1, 1) := by decide +kernel
theorem dX1_companion_86 : decode cX1_companion 86 = .ok (.iconst 1, 1) := by decide +kernel
theorem dX1_companion_87 : decode cX1_companion 87 = .ok (.iload_n 2, 1) := by decide +kernel
theorem dX1_companion_88 : decode cX1_companion 88 = .ok (.bipush 7, 2) := by decide +kernel
theorem dX1_companion_90 : decode cX1_companion 90 = .ok (.iand, 1) := by decide +kernel
theorem dX1_companion_91 : decode cX1_companion 91 = .ok (.ishl, 1) := by decide +kernel
theorem dX1_companion_92 : decode cX1_companion 92 = .ok (.ior, 1) := by decide +kernel
theorem dX1_companion_93 : decode cX1_companion 93 = .ok (.iaload, 1) := by decide +kernel
theorem dX1_companion_94 : decode cX1_companion 94 = .ok (.if_icmp .le 5, 3) := by decide +kernel
theorem dX1_companion_97 : decode cX1_companion 97 = .ok (.iload_n 3, 1) := by decide +kernel
theorem dX1_companion_98 : decode cX1_companion 98 = .ok (.istore_n 2, 1) := by decide +kernel
theorem dX1_companion_99 : decode cX1_companion 99 = .ok (.iinc 3 1, 3) := by decide +kernel
theorem dX1_companion_102 : decode cX1_companion 102 = .ok (.goto (-61), 3) := by decide +kernel
theorem dX1_companion_105 : decode cX1_companion 105 = .ok (.iload_n 2, 1) := by decide +kernel
theorem dX1_companion_106 : decode cX1_companion 106 = .ok (.ireturn, 1) := by decide +kernel
theorem q20 : (Jvm.Cond.initialized "FrequentSetsModel") ∈ lw_all := lw_g (lw_at lw_m0 2 rfl) rfl
theorem q173 : (Jvm.Cond.instantiable "FrequentSetsModel" (3 : Nat)) ∈ lw_all := lw_g (lw_at lw_m0 155 rfl) rfl
theorem q175 : (Jvm.Cond.instanceMethod ({ cls := "FrequentSetsModel", name := "<init>", desc := "()V" } : Jvm.MethodName)) ∈ lw_all := lw_g (lw_at lw_m0 157 rfl) rfl
theorem q176 : (Jvm.Cond.code ({ cls := "FrequentSetsModel", name := "<init>", desc := "()V" } : Jvm.MethodName) prog_3_method_1_code (1 : Nat) (Option.none : Option Jvm.ClassFile.FieldType)) ∈ lw_all := lw_g (lw_at lw_m0 158 rfl) rfl
theorem q177 : (Jvm.Cond.methodLink "FrequentSetsModel" (1 : Nat) ({ cls := "java/lang/Object", name := "<init>", desc := "()V" } : Jvm.MethodName)) ∈ lw_all := lw_g (lw_at lw_m0 159 rfl) rfl
theorem q178 : (Jvm.Cond.fieldLink "FrequentSetsModel" (7 : Nat) "FrequentSetsModel" "n" "I") ∈ lw_all := lw_g (lw_at lw_m0 160 rfl) rfl
theorem q179 : (Jvm.Cond.fieldLink "FrequentSetsModel" (13 : Nat) "FrequentSetsModel" "baskets" "[I") ∈ lw_all := lw_g (lw_at lw_m0 161 rfl) rfl
theorem q180 : (Jvm.Cond.fieldLink "FrequentSetsModel" (17 : Nat) "FrequentSetsModel" "counts" "[I") ∈ lw_all := lw_g (lw_at lw_m0 162 rfl) rfl
theorem q181 : (Jvm.Cond.lays "FrequentSetsModel" "FrequentSetsModel" "n" "I") ∈ lw_all := lw_g (lw_at lw_m0 163 rfl) rfl
theorem q182 : (Jvm.Cond.soleField "FrequentSetsModel" "n") ∈ lw_all := lw_g (lw_at lw_m0 164 rfl) rfl
theorem q183 : (Jvm.Cond.lays "FrequentSetsModel" "FrequentSetsModel" "baskets" "[I") ∈ lw_all := lw_g (lw_at lw_m0 165 rfl) rfl
theorem q184 : (Jvm.Cond.soleField "FrequentSetsModel" "baskets") ∈ lw_all := lw_g (lw_at lw_m0 166 rfl) rfl
theorem q185 : (Jvm.Cond.lays "FrequentSetsModel" "FrequentSetsModel" "counts" "[I") ∈ lw_all := lw_g (lw_at lw_m0 167 rfl) rfl
theorem q186 : (Jvm.Cond.soleField "FrequentSetsModel" "counts") ∈ lw_all := lw_g (lw_at lw_m0 168 rfl) rfl
theorem q187 : (Jvm.Cond.superclass "FrequentSetsModel" "java/lang/Object") ∈ lw_all := lw_g (lw_at lw_m0 169 rfl) rfl
theorem q190 : (Jvm.Cond.instanceMethod ({ cls := "FrequentSetsModel", name := "add", desc := "(I)I" } : Jvm.MethodName)) ∈ lw_all := lw_g (lw_at lw_m0 172 rfl) rfl
theorem q191 : (Jvm.Cond.selects "FrequentSetsModel" ({ cls := "FrequentSetsModel", name := "add", desc := "(I)I" } : Jvm.MethodName) ({ cls := "FrequentSetsModel", name := "add", desc := "(I)I" } : Jvm.MethodName)) ∈ lw_all := lw_g (lw_at lw_m0 173 rfl) rfl
theorem q192 : (Jvm.Cond.code ({ cls := "FrequentSetsModel", name := "add", desc := "(I)I" } : Jvm.MethodName) prog_3_method_5_code (2 : Nat) (Option.some Jvm.ClassFile.FieldType.int)) ∈ lw_all := lw_g (lw_at lw_m0 174 rfl) rfl
theorem q193 : (Jvm.Cond.methodLink "FrequentSetsModel" (20 : Nat) ({ cls := "FrequentSetsModel", name := "isSet", desc := "(I)Z" } : Jvm.MethodName)) ∈ lw_all := lw_g (lw_at lw_m0 175 rfl) rfl
theorem q194 : (Jvm.Cond.privateMethod ({ cls := "FrequentSetsModel", name := "isSet", desc := "(I)Z" } : Jvm.MethodName)) ∈ lw_tbl := lw_at lw_m0 176 rfl
theorem q195 : (Jvm.Cond.instanceMethod ({ cls := "FrequentSetsModel", name := "isSet", desc := "(I)Z" } : Jvm.MethodName)) ∈ lw_all := lw_g (lw_at lw_m0 177 rfl) rfl
theorem q196 : (Jvm.Cond.code ({ cls := "FrequentSetsModel", name := "isSet", desc := "(I)Z" } : Jvm.MethodName) prog_3_method_2_code (2 : Nat) (Option.some Jvm.ClassFile.FieldType.boolean)) ∈ lw_all := lw_g (lw_at lw_m0 178 rfl) rfl
theorem q198 : (Jvm.Cond.instanceMethod ({ cls := "FrequentSetsModel", name := "drop", desc := "()I" } : Jvm.MethodName)) ∈ lw_all := lw_g (lw_at lw_m0 180 rfl) rfl
theorem q199 : (Jvm.Cond.selects "FrequentSetsModel" ({ cls := "FrequentSetsModel", name := "drop", desc := "()I" } : Jvm.MethodName) ({ cls := "FrequentSetsModel", name := "drop", desc := "()I" } : Jvm.MethodName)) ∈ lw_all := lw_g (lw_at lw_m0 181 rfl) rfl
theorem q200 : (Jvm.Cond.code ({ cls := "FrequentSetsModel", name := "drop", desc := "()I" } : Jvm.MethodName) prog_3_method_6_code (2 : Nat) (Option.some Jvm.ClassFile.FieldType.int)) ∈ lw_all := lw_g (lw_at lw_m0 182 rfl) rfl
theorem q202 : (Jvm.Cond.instanceMethod ({ cls := "FrequentSetsModel", name := "count", desc := "(I)I" } : Jvm.MethodName)) ∈ lw_all := lw_g (lw_at lw_m0 184 rfl) rfl
theorem q203 : (Jvm.Cond.selects "FrequentSetsModel" ({ cls := "FrequentSetsModel", name := "count", desc := "(I)I" } : Jvm.MethodName) ({ cls := "FrequentSetsModel", name := "count", desc := "(I)I" } : Jvm.MethodName)) ∈ lw_all := lw_g (lw_at lw_m0 185 rfl) rfl
theorem q204 : (Jvm.Cond.code ({ cls := "FrequentSetsModel", name := "count", desc := "(I)I" } : Jvm.MethodName) prog_3_method_7_code (2 : Nat) (Option.some Jvm.ClassFile.FieldType.int)) ∈ lw_all := lw_g (lw_at lw_m0 186 rfl) rfl
theorem q205 : (Jvm.Cond.methodLink "FrequentSetsModel" (24 : Nat) ({ cls := "FrequentSetsModel", name := "countAll", desc := "()V" } : Jvm.MethodName)) ∈ lw_all := lw_g (lw_at lw_m0 187 rfl) rfl
theorem q206 : (Jvm.Cond.privateMethod ({ cls := "FrequentSetsModel", name := "countAll", desc := "()V" } : Jvm.MethodName)) ∈ lw_tbl := lw_at lw_m0 188 rfl
theorem q207 : (Jvm.Cond.instanceMethod ({ cls := "FrequentSetsModel", name := "countAll", desc := "()V" } : Jvm.MethodName)) ∈ lw_all := lw_g (lw_at lw_m0 189 rfl) rfl
theorem q208 : (Jvm.Cond.code ({ cls := "FrequentSetsModel", name := "countAll", desc := "()V" } : Jvm.MethodName) prog_3_method_4_code (3 : Nat) (Option.none : Option Jvm.ClassFile.FieldType)) ∈ lw_all := lw_g (lw_at lw_m0 190 rfl) rfl
theorem q210 : (Jvm.Cond.instanceMethod ({ cls := "FrequentSetsModel", name := "frequent", desc := "(I)I" } : Jvm.MethodName)) ∈ lw_all := lw_g (lw_at lw_m0 192 rfl) rfl
theorem q211 : (Jvm.Cond.selects "FrequentSetsModel" ({ cls := "FrequentSetsModel", name := "frequent", desc := "(I)I" } : Jvm.MethodName) ({ cls := "FrequentSetsModel", name := "frequent", desc := "(I)I" } : Jvm.MethodName)) ∈ lw_all := lw_g (lw_at lw_m0 193 rfl) rfl
theorem q212 : (Jvm.Cond.code ({ cls := "FrequentSetsModel", name := "frequent", desc := "(I)I" } : Jvm.MethodName) prog_3_method_8_code (4 : Nat) (Option.some Jvm.ClassFile.FieldType.int)) ∈ lw_all := lw_g (lw_at lw_m0 194 rfl) rfl
theorem q213 : (Jvm.Cond.methodLink "FrequentSetsModel" (27 : Nat) ({ cls := "FrequentSetsModel", name := "isLevel", desc := "(I)Z" } : Jvm.MethodName)) ∈ lw_all := lw_g (lw_at lw_m0 195 rfl) rfl
theorem q214 : (Jvm.Cond.privateMethod ({ cls := "FrequentSetsModel", name := "isLevel", desc := "(I)Z" } : Jvm.MethodName)) ∈ lw_tbl := lw_at lw_m0 196 rfl
theorem q215 : (Jvm.Cond.instanceMethod ({ cls := "FrequentSetsModel", name := "isLevel", desc := "(I)Z" } : Jvm.MethodName)) ∈ lw_all := lw_g (lw_at lw_m0 197 rfl) rfl
theorem q216 : (Jvm.Cond.code ({ cls := "FrequentSetsModel", name := "isLevel", desc := "(I)Z" } : Jvm.MethodName) prog_3_method_3_code (2 : Nat) (Option.some Jvm.ClassFile.FieldType.boolean)) ∈ lw_all := lw_g (lw_at lw_m0 198 rfl) rfl
theorem q218 : (Jvm.Cond.instanceMethod ({ cls := "FrequentSetsModel", name := "closed", desc := "(I)I" } : Jvm.MethodName)) ∈ lw_all := lw_g (lw_at lw_m0 200 rfl) rfl
theorem q219 : (Jvm.Cond.selects "FrequentSetsModel" ({ cls := "FrequentSetsModel", name := "closed", desc := "(I)I" } : Jvm.MethodName) ({ cls := "FrequentSetsModel", name := "closed", desc := "(I)I" } : Jvm.MethodName)) ∈ lw_all := lw_g (lw_at lw_m0 201 rfl) rfl
theorem q220 : (Jvm.Cond.code ({ cls := "FrequentSetsModel", name := "closed", desc := "(I)I" } : Jvm.MethodName) prog_3_method_11_code (4 : Nat) (Option.some Jvm.ClassFile.FieldType.int)) ∈ lw_all := lw_g (lw_at lw_m0 202 rfl) rfl
theorem q221 : (Jvm.Cond.methodLink "FrequentSetsModel" (34 : Nat) ({ cls := "FrequentSetsModel", name := "isClosed", desc := "(II)Z" } : Jvm.MethodName)) ∈ lw_all := lw_g (lw_at lw_m0 203 rfl) rfl
theorem q222 : (Jvm.Cond.privateMethod ({ cls := "FrequentSetsModel", name := "isClosed", desc := "(II)Z" } : Jvm.MethodName)) ∈ lw_tbl := lw_at lw_m0 204 rfl
theorem q223 : (Jvm.Cond.instanceMethod ({ cls := "FrequentSetsModel", name := "isClosed", desc := "(II)Z" } : Jvm.MethodName)) ∈ lw_all := lw_g (lw_at lw_m0 205 rfl) rfl
theorem q224 : (Jvm.Cond.code ({ cls := "FrequentSetsModel", name := "isClosed", desc := "(II)Z" } : Jvm.MethodName) prog_3_method_10_code (3 : Nat) (Option.some Jvm.ClassFile.FieldType.boolean)) ∈ lw_all := lw_g (lw_at lw_m0 206 rfl) rfl
theorem q225 : (Jvm.Cond.methodLink "FrequentSetsModel" (30 : Nat) ({ cls := "FrequentSetsModel", name := "noGreater", desc := "(II)Z" } : Jvm.MethodName)) ∈ lw_all := lw_g (lw_at lw_m0 207 rfl) rfl
theorem q226 : (Jvm.Cond.privateMethod ({ cls := "FrequentSetsModel", name := "noGreater", desc := "(II)Z" } : Jvm.MethodName)) ∈ lw_tbl := lw_at lw_m0 208 rfl
theorem q227 : (Jvm.Cond.instanceMethod ({ cls := "FrequentSetsModel", name := "noGreater", desc := "(II)Z" } : Jvm.MethodName)) ∈ lw_all := lw_g (lw_at lw_m0 209 rfl) rfl
theorem q228 : (Jvm.Cond.code ({ cls := "FrequentSetsModel", name := "noGreater", desc := "(II)Z" } : Jvm.MethodName) prog_3_method_9_code (4 : Nat) (Option.some Jvm.ClassFile.FieldType.boolean)) ∈ lw_all := lw_g (lw_at lw_m0 210 rfl) rfl
theorem q230 : (Jvm.Cond.instanceMethod ({ cls := "FrequentSetsModel", name := "largest", desc := "(I)I" } : Jvm.MethodName)) ∈ lw_all := lw_g (lw_at lw_m0 212 rfl) rfl
theorem q231 : (Jvm.Cond.selects "FrequentSetsModel" ({ cls := "FrequentSetsModel", name := "largest", desc := "(I)I" } : Jvm.MethodName) ({ cls := "FrequentSetsModel", name := "largest", desc := "(I)I" } : Jvm.MethodName)) ∈ lw_all := lw_g (lw_at lw_m0 213 rfl) rfl
theorem q232 : (Jvm.Cond.code ({ cls := "FrequentSetsModel", name := "largest", desc := "(I)I" } : Jvm.MethodName) prog_3_method_12_code (4 : Nat) (Option.some Jvm.ClassFile.FieldType.int)) ∈ lw_all := lw_g (lw_at lw_m0 214 rfl) rfl
theorem q234 : (Jvm.Cond.instanceMethod ({ cls := "FrequentSetsModel", name := "closedSet", desc := "(II)I" } : Jvm.MethodName)) ∈ lw_all := lw_g (lw_at lw_m0 216 rfl) rfl
theorem q235 : (Jvm.Cond.selects "FrequentSetsModel" ({ cls := "FrequentSetsModel", name := "closedSet", desc := "(II)I" } : Jvm.MethodName) ({ cls := "FrequentSetsModel", name := "closedSet", desc := "(II)I" } : Jvm.MethodName)) ∈ lw_all := lw_g (lw_at lw_m0 217 rfl) rfl
theorem q236 : (Jvm.Cond.code ({ cls := "FrequentSetsModel", name := "closedSet", desc := "(II)I" } : Jvm.MethodName) prog_3_method_13_code (5 : Nat) (Option.some Jvm.ClassFile.FieldType.int)) ∈ lw_all := lw_g (lw_at lw_m0 218 rfl) rfl
theorem q238 : (Jvm.Cond.instanceMethod ({ cls := "FrequentSetsModel", name := "closure", desc := "(I)I" } : Jvm.MethodName)) ∈ lw_all := lw_g (lw_at lw_m0 220 rfl) rfl
theorem q239 : (Jvm.Cond.selects "FrequentSetsModel" ({ cls := "FrequentSetsModel", name := "closure", desc := "(I)I" } : Jvm.MethodName) ({ cls := "FrequentSetsModel", name := "closure", desc := "(I)I" } : Jvm.MethodName)) ∈ lw_all := lw_g (lw_at lw_m0 221 rfl) rfl
theorem q240 : (Jvm.Cond.code ({ cls := "FrequentSetsModel", name := "closure", desc := "(I)I" } : Jvm.MethodName) prog_3_method_14_code (5 : Nat) (Option.some Jvm.ClassFile.FieldType.int)) ∈ lw_all := lw_g (lw_at lw_m0 222 rfl) rfl
theorem q242 : (Jvm.Cond.instanceMethod ({ cls := "FrequentSetsModel", name := "widest", desc := "(I)I" } : Jvm.MethodName)) ∈ lw_all := lw_g (lw_at lw_m0 224 rfl) rfl
theorem q243 : (Jvm.Cond.selects "FrequentSetsModel" ({ cls := "FrequentSetsModel", name := "widest", desc := "(I)I" } : Jvm.MethodName) ({ cls := "FrequentSetsModel", name := "widest", desc := "(I)I" } : Jvm.MethodName)) ∈ lw_all := lw_g (lw_at lw_m0 225 rfl) rfl
theorem q244 : (Jvm.Cond.code ({ cls := "FrequentSetsModel", name := "widest", desc := "(I)I" } : Jvm.MethodName) prog_3_method_16_code (4 : Nat) (Option.some Jvm.ClassFile.FieldType.int)) ∈ lw_all := lw_g (lw_at lw_m0 226 rfl) rfl
theorem q245 : (Jvm.Cond.methodLink "FrequentSetsModel" (37 : Nat) ({ cls := "FrequentSetsModel", name := "sizeOf", desc := "(I)I" } : Jvm.MethodName)) ∈ lw_all := lw_g (lw_at lw_m0 227 rfl) rfl
theorem q246 : (Jvm.Cond.privateMethod ({ cls := "FrequentSetsModel", name := "sizeOf", desc := "(I)I" } : Jvm.MethodName)) ∈ lw_tbl := lw_at lw_m0 228 rfl
theorem q247 : (Jvm.Cond.instanceMethod ({ cls := "FrequentSetsModel", name := "sizeOf", desc := "(I)I" } : Jvm.MethodName)) ∈ lw_all := lw_g (lw_at lw_m0 229 rfl) rfl
theorem q248 : (Jvm.Cond.code ({ cls := "FrequentSetsModel", name := "sizeOf", desc := "(I)I" } : Jvm.MethodName) prog_3_method_15_code (4 : Nat) (Option.some Jvm.ClassFile.FieldType.int)) ∈ lw_all := lw_g (lw_at lw_m0 230 rfl) rfl
theorem q250 : (Jvm.Cond.instanceMethod ({ cls := "FrequentSetsModel", name := "rules", desc := "(II)I" } : Jvm.MethodName)) ∈ lw_all := lw_g (lw_at lw_m0 232 rfl) rfl
theorem q251 : (Jvm.Cond.selects "FrequentSetsModel" ({ cls := "FrequentSetsModel", name := "rules", desc := "(II)I" } : Jvm.MethodName) ({ cls := "FrequentSetsModel", name := "rules", desc := "(II)I" } : Jvm.MethodName)) ∈ lw_all := lw_g (lw_at lw_m0 233 rfl) rfl
theorem q252 : (Jvm.Cond.code ({ cls := "FrequentSetsModel", name := "rules", desc := "(II)I" } : Jvm.MethodName) prog_3_method_17_code (7 : Nat) (Option.some Jvm.ClassFile.FieldType.int)) ∈ lw_all := lw_g (lw_at lw_m0 234 rfl) rfl
theorem q254 : (Jvm.Cond.instanceMethod ({ cls := "FrequentSetsModel", name := "companion", desc := "(I)I" } : Jvm.MethodName)) ∈ lw_all := lw_g (lw_at lw_m0 236 rfl) rfl
theorem q255 : (Jvm.Cond.selects "FrequentSetsModel" ({ cls := "FrequentSetsModel", name := "companion", desc := "(I)I" } : Jvm.MethodName) ({ cls := "FrequentSetsModel", name := "companion", desc := "(I)I" } : Jvm.MethodName)) ∈ lw_all := lw_g (lw_at lw_m0 237 rfl) rfl
theorem q256 : (Jvm.Cond.code ({ cls := "FrequentSetsModel", name := "companion", desc := "(I)I" } : Jvm.MethodName) prog_3_method_18_code (5 : Nat) (Option.some Jvm.ClassFile.FieldType.int)) ∈ lw_all := lw_g (lw_at lw_m0 238 rfl) rfl
theorem in_X1 : ∀ w ∈ wsX10, w ∈ lw_all := lw_in wsX10 [181, 183, 185] (by decide +kernel) (by decide +kernel)
/-! the law's own entry -/
abbrev cL_law : ByteArray := code
theorem dL_law_0 : decode cL_law 0 = .ok (.new 7, 3) := by decide +kernel
theorem dL_law_3 : decode cL_law 3 = .ok (.dup, 1) := by decide +kernel
theorem dL_law_4 : decode cL_law 4 = .ok (.invokespecial 9, 3) := by decide +kernel
theorem dL_law_7 : decode cL_law 7 = .ok (.astore_n 1, 1) := by decide +kernel
theorem dL_law_8 : decode cL_law 8 = .ok (.new 10, 3) := by decide +kernel
theorem dL_law_11 : decode cL_law 11 = .ok (.dup, 1) := by decide +kernel
theorem dL_law_12 : decode cL_law 12 = .ok (.invokespecial 12, 3) := by decide +kernel
theorem dL_law_15 : decode cL_law 15 = .ok (.astore_n 2, 1) := by decide +kernel
theorem dL_law_16 : decode cL_law 16 = .ok (.iconst 0, 1) := by decide +kernel
theorem dL_law_17 : decode cL_law 17 = .ok (.istore_n 3, 1) := by decide +kernel
theorem dL_law_18 : decode cL_law 18 = .ok (.iload_n 3, 1) := by decide +kernel
theorem dL_law_19 : decode cL_law 19 = .ok (.aload_n 0, 1) := by decide +kernel
theorem dL_law_20 : decode cL_law 20 = .ok (.arraylength, 1) := by decide +kernel
theorem dL_law_21 : decode cL_law 21 = .ok (.iconst 3, 1) := by decide +kernel
theorem dL_law_22 : decode cL_law 22 = .ok (.isub, 1) := by decide +kernel
theorem dL_law_23 : decode cL_law 23 = .ok (.if_icmp .gt 338, 3) := by decide +kernel
theorem dL_law_26 : decode cL_law 26 = .ok (.aload_n 0, 1) := by decide +kernel
theorem dL_law_27 : decode cL_law 27 = .ok (.iload_n 3, 1) := by decide +kernel
theorem dL_law_28 : decode cL_law 28 = .ok (.iaload, 1) := by decide +kernel
theorem dL_law_29 : decode cL_law 29 = .ok (.bipush 15, 2) := by decide +kernel
theorem dL_law_31 : decode cL_law 31 = .ok (.iand, 1) := by decide +kernel
theorem dL_law_32 : decode cL_law 32 = .ok (.tableswitch 323 0 10 #[60, 83, 96, 119, 142, 165, 188, 221, 244, 267, 300], 60) := by decide +kernel
theorem dL_law_92 : decode cL_law 92 = .ok (.aload_n 1, 1) := by decide +kernel
theorem dL_law_93 : decode cL_law 93 = .ok (.aload_n 0, 1) := by decide +kernel
theorem dL_law_94 : decode cL_law 94 = .ok (.iload_n 3, 1) := by decide +kernel
theorem dL_law_95 : decode cL_law 95 = .ok (.iconst 1, 1) := by decide +kernel
theorem dL_law_96 : decode cL_law 96 = .ok (.iadd, 1) := by decide +kernel
theorem dL_law_97 : decode cL_law 97 = .ok (.iaload, 1) := by decide +kernel
theorem dL_law_98 : decode cL_law 98 = .ok (.invokevirtual 13, 3) := by decide +kernel
theorem dL_law_101 : decode cL_law 101 = .ok (.aload_n 2, 1) := by decide +kernel
theorem dL_law_102 : decode cL_law 102 = .ok (.aload_n 0, 1) := by decide +kernel
theorem dL_law_103 : decode cL_law 103 = .ok (.iload_n 3, 1) := by decide +kernel
theorem dL_law_104 : decode cL_law 104 = .ok (.iconst 1, 1) := by decide +kernel
theorem dL_law_105 : decode cL_law 105 = .ok (.iadd, 1) := by decide +kernel
theorem dL_law_106 : decode cL_law 106 = .ok (.iaload, 1) := by decide +kernel
theorem dL_law_107 : decode cL_law 107 = .ok (.invokevirtual 17, 3) := by decide +kernel
theorem dL_law_110 : decode cL_law 110 = .ok (.if_icmp .eq 245, 3) := by decide +kernel
theorem dL_law_113 : decode cL_law 113 = .ok (.iconst 0, 1) := by decide +kernel
theorem dL_law_114 : decode cL_law 114 = .ok (.ireturn, 1) := by decide +kernel
theorem dL_law_115 : decode cL_law 115 = .ok (.aload_n 1, 1) := by decide +kernel
theorem dL_law_116 : decode cL_law 116 = .ok (.invokevirtual 18, 3) := by decide +kernel
theorem dL_law_119 : decode cL_law 119 = .ok (.aload_n 2, 1) := by decide +kernel
theorem dL_law_120 : decode cL_law 120 = .ok (.invokevirtual 22, 3) := by decide +kernel
theorem dL_law_123 : decode cL_law 123 = .ok (.if_icmp .eq 232, 3) := by decide +kernel
theorem dL_law_126 : decode cL_law 126 = .ok (.iconst 0, 1) := by decide +kernel
theorem dL_law_127 : decode cL_law 127 = .ok (.ireturn, 1) := by decide +kernel
theorem dL_law_128 : decode cL_law 128 = .ok (.aload_n 1, 1) := by decide +kernel
theorem dL_law_129 : decode cL_law 129 = .ok (.aload_n 0, 1) := by decide +kernel
theorem dL_law_130 : decode cL_law 130 = .ok (.iload_n 3, 1) := by decide +kernel
theorem dL_law_131 : decode cL_law 131 = .ok (.iconst 1, 1) := by decide +kernel
theorem dL_law_132 : decode cL_law 132 = .ok (.iadd, 1) := by decide +kernel
theorem dL_law_133 : decode cL_law 133 = .ok (.iaload, 1) := by decide +kernel
theorem dL_law_134 : decode cL_law 134 = .ok (.invokevirtual 23, 3) := by decide +kernel
theorem dL_law_137 : decode cL_law 137 = .ok (.aload_n 2, 1) := by decide +kernel
theorem dL_law_138 : decode cL_law 138 = .ok (.aload_n 0, 1) := by decide +kernel
theorem dL_law_139 : decode cL_law 139 = .ok (.iload_n 3, 1) := by decide +kernel
theorem dL_law_140 : decode cL_law 140 = .ok (.iconst 1, 1) := by decide +kernel
theorem dL_law_141 : decode cL_law 141 = .ok (.iadd, 1) := by decide +kernel
theorem dL_law_142 : decode cL_law 142 = .ok (.iaload, 1) := by decide +kernel
theorem dL_law_143 : decode cL_law 143 = .ok (.invokevirtual 26, 3) := by decide +kernel
theorem dL_law_146 : decode cL_law 146 = .ok (.if_icmp .eq 209, 3) := by decide +kernel
theorem dL_law_149 : decode cL_law 149 = .ok (.iconst 0, 1) := by decide +kernel
theorem dL_law_150 : decode cL_law 150 = .ok (.ireturn, 1) := by decide +kernel
theorem dL_law_151 : decode cL_law 151 = .ok (.aload_n 1, 1) := by decide +kernel
theorem dL_law_152 : decode cL_law 152 = .ok (.aload_n 0, 1) := by decide +kernel
theorem dL_law_153 : decode cL_law 153 = .ok (.iload_n 3, 1) := by decide +kernel
theorem dL_law_154 : decode cL_law 154 = .ok (.iconst 1, 1) := by decide +kernel
theorem dL_law_155 : decode cL_law 155 = .ok (.iadd, 1) := by decide +kernel
theorem dL_law_156 : decode cL_law 156 = .ok (.iaload, 1) := by decide +kernel
theorem dL_law_157 : decode cL_law 157 = .ok (.invokevirtual 27, 3) := by decide +kernel
theorem dL_law_160 : decode cL_law 160 = .ok (.aload_n 2, 1) := by decide +kernel
theorem dL_law_161 : decode cL_law 161 = .ok (.aload_n 0, 1) := by decide +kernel
theorem dL_law_162 : decode cL_law 162 = .ok (.iload_n 3, 1) := by decide +kernel
theorem dL_law_163 : decode cL_law 163 = .ok (.iconst 1, 1) := by decide +kernel
theorem dL_law_164 : decode cL_law 164 = .ok (.iadd, 1) := by decide +kernel
theorem dL_law_165 : decode cL_law 165 = .ok (.iaload, 1) := by decide +kernel
theorem dL_law_166 : decode cL_law 166 = .ok (.invokevirtual 30, 3) := by decide +kernel
theorem dL_law_169 : decode cL_law 169 = .ok (.if_icmp .eq 186, 3) := by decide +kernel
theorem dL_law_172 : decode cL_law 172 = .ok (.iconst 0, 1) := by decide +kernel
theorem dL_law_173 : decode cL_law 173 = .ok (.ireturn, 1) := by decide +kernel
theorem dL_law_174 : decode cL_law 174 = .ok (.aload_n 1, 1) := by decide +kernel
theorem dL_law_175 : decode cL_law 175 = .ok (.aload_n 0, 1) := by decide +kernel
theorem dL_law_176 : decode cL_law 176 = .ok (.iload_n 3, 1) := by decide +kernel
theorem dL_law_177 : decode cL_law 177 = .ok (.iconst 1, 1) := by decide +kernel
theorem dL_law_178 : decode cL_law 178 = .ok (.iadd, 1) := by decide +kernel
theorem dL_law_179 : decode cL_law 179 = .ok (.iaload, 1) := by decide +kernel
theorem dL_law_180 : decode cL_law 180 = .ok (.invokevirtual 31, 3) := by decide +kernel
theorem dL_law_183 : decode cL_law 183 = .ok (.aload_n 2, 1) := by decide +kernel
theorem dL_law_184 : decode cL_law 184 = .ok (.aload_n 0, 1) := by decide +kernel
theorem dL_law_185 : decode cL_law 185 = .ok (.iload_n 3, 1) := by decide +kernel
theorem dL_law_186 : decode cL_law 186 = .ok (.iconst 1, 1) := by decide +kernel
theorem dL_law_187 : decode cL_law 187 = .ok (.iadd, 1) := by decide +kernel
theorem dL_law_188 : decode cL_law 188 = .ok (.iaload, 1) := by decide +kernel
theorem dL_law_189 : decode cL_law 189 = .ok (.invokevirtual 34, 3) := by decide +kernel
theorem dL_law_192 : decode cL_law 192 = .ok (.if_icmp .eq 163, 3) := by decide +kernel
theorem dL_law_195 : decode cL_law 195 = .ok (.iconst 0, 1) := by decide +kernel
theorem dL_law_196 : decode cL_law 196 = .ok (.ireturn, 1) := by decide +kernel
theorem dL_law_197 : decode cL_law 197 = .ok (.aload_n 1, 1) := by decide +kernel
theorem dL_law_198 : decode cL_law 198 = .ok (.aload_n 0, 1) := by decide +kernel
theorem dL_law_199 : decode cL_law 199 = .ok (.iload_n 3, 1) := by decide +kernel
theorem dL_law_200 : decode cL_law 200 = .ok (.iconst 1, 1) := by decide +kernel
theorem dL_law_201 : decode cL_law 201 = .ok (.iadd, 1) := by decide +kernel
theorem dL_law_202 : decode cL_law 202 = .ok (.iaload, 1) := by decide +kernel
theorem dL_law_203 : decode cL_law 203 = .ok (.invokevirtual 35, 3) := by decide +kernel
theorem dL_law_206 : decode cL_law 206 = .ok (.aload_n 2, 1) := by decide +kernel
theorem dL_law_207 : decode cL_law 207 = .ok (.aload_n 0, 1) := by decide +kernel
theorem dL_law_208 : decode cL_law 208 = .ok (.iload_n 3, 1) := by decide +kernel
theorem dL_law_209 : decode cL_law 209 = .ok (.iconst 1, 1) := by decide +kernel
theorem dL_law_210 : decode cL_law 210 = .ok (.iadd, 1) := by decide +kernel
theorem dL_law_211 : decode cL_law 211 = .ok (.iaload, 1) := by decide +kernel
theorem dL_law_212 : decode cL_law 212 = .ok (.invokevirtual 38, 3) := by decide +kernel
theorem dL_law_215 : decode cL_law 215 = .ok (.if_icmp .eq 140, 3) := by decide +kernel
theorem dL_law_218 : decode cL_law 218 = .ok (.iconst 0, 1) := by decide +kernel
theorem dL_law_219 : decode cL_law 219 = .ok (.ireturn, 1) := by decide +kernel
theorem dL_law_220 : decode cL_law 220 = .ok (.aload_n 1, 1) := by decide +kernel
theorem dL_law_221 : decode cL_law 221 = .ok (.aload_n 0, 1) := by decide +kernel
theorem dL_law_222 : decode cL_law 222 = .ok (.iload_n 3, 1) := by decide +kernel
theorem dL_law_223 : decode cL_law 223 = .ok (.iconst 1, 1) := by decide +kernel
theorem dL_law_224 : decode cL_law 224 = .ok (.iadd, 1) := by decide +kernel
theorem dL_law_225 : decode cL_law 225 = .ok (.iaload, 1) := by decide +kernel
theorem dL_law_226 : decode cL_law 226 = .ok (.aload_n 0, 1) := by decide +kernel
theorem dL_law_227 : decode cL_law 227 = .ok (.iload_n 3, 1) := by decide +kernel
theorem dL_law_228 : decode cL_law 228 = .ok (.iconst 2, 1) := by decide +kernel
theorem dL_law_229 : decode cL_law 229 = .ok (.iadd, 1) := by decide +kernel
theorem dL_law_230 : decode cL_law 230 = .ok (.iaload, 1) := by decide +kernel
theorem dL_law_231 : decode cL_law 231 = .ok (.invokevirtual 39, 3) := by decide +kernel
theorem dL_law_234 : decode cL_law 234 = .ok (.aload_n 2, 1) := by decide +kernel
theorem dL_law_235 : decode cL_law 235 = .ok (.aload_n 0, 1) := by decide +kernel
theorem dL_law_236 : decode cL_law 236 = .ok (.iload_n 3, 1) := by decide +kernel
theorem dL_law_237 : decode cL_law 237 = .ok (.iconst 1, 1) := by decide +kernel
theorem dL_law_238 : decode cL_law 238 = .ok (.iadd, 1) := by decide +kernel
theorem dL_law_239 : decode cL_law 239 = .ok (.iaload, 1) := by decide +kernel
theorem dL_law_240 : decode cL_law 240 = .ok (.aload_n 0, 1) := by decide +kernel
theorem dL_law_241 : decode cL_law 241 = .ok (.iload_n 3, 1) := by decide +kernel
theorem dL_law_242 : decode cL_law 242 = .ok (.iconst 2, 1) := by decide +kernel
theorem dL_law_243 : decode cL_law 243 = .ok (.iadd, 1) := by decide +kernel
theorem dL_law_244 : decode cL_law 244 = .ok (.iaload, 1) := by decide +kernel
theorem dL_law_245 : decode cL_law 245 = .ok (.invokevirtual 43, 3) := by decide +kernel
theorem dL_law_248 : decode cL_law 248 = .ok (.if_icmp .eq 107, 3) := by decide +kernel
theorem dL_law_251 : decode cL_law 251 = .ok (.iconst 0, 1) := by decide +kernel
theorem dL_law_252 : decode cL_law 252 = .ok (.ireturn, 1) := by decide +kernel
theorem dL_law_253 : decode cL_law 253 = .ok (.aload_n 1, 1) := by decide +kernel
theorem dL_law_254 : decode cL_law 254 = .ok (.aload_n 0, 1) := by decide +kernel
theorem dL_law_255 : decode cL_law 255 = .ok (.iload_n 3, 1) := by decide +kernel
theorem dL_law_256 : decode cL_law 256 = .ok (.iconst 1, 1) := by decide +kernel
theorem dL_law_257 : decode cL_law 257 = .ok (.iadd, 1) := by decide +kernel
theorem dL_law_258 : decode cL_law 258 = .ok (.iaload, 1) := by decide +kernel
theorem dL_law_259 : decode cL_law 259 = .ok (.invokevirtual 44, 3) := by decide +kernel
theorem dL_law_262 : decode cL_law 262 = .ok (.aload_n 2, 1) := by decide +kernel
theorem dL_law_263 : decode cL_law 263 = .ok (.aload_n 0, 1) := by decide +kernel
theorem dL_law_264 : decode cL_law 264 = .ok (.iload_n 3, 1) := by decide +kernel
theorem dL_law_265 : decode cL_law 265 = .ok (.iconst 1, 1) := by decide +kernel
theorem dL_law_266 : decode cL_law 266 = .ok (.iadd, 1) := by decide +kernel
theorem dL_law_267 : decode cL_law 267 = .ok (.iaload, 1) := by decide +kernel
theorem dL_law_268 : decode cL_law 268 = .ok (.invokevirtual 47, 3) := by decide +kernel
theorem dL_law_271 : decode cL_law 271 = .ok (.if_icmp .eq 84, 3) := by decide +kernel
theorem dL_law_274 : decode cL_law 274 = .ok (.iconst 0, 1) := by decide +kernel
theorem dL_law_275 : decode cL_law 275 = .ok (.ireturn, 1) := by decide +kernel
theorem dL_law_276 : decode cL_law 276 = .ok (.aload_n 1, 1) := by decide +kernel
theorem dL_law_277 : decode cL_law 277 = .ok (.aload_n 0, 1) := by decide +kernel
theorem dL_law_278 : decode cL_law 278 = .ok (.iload_n 3, 1) := by decide +kernel
theorem dL_law_279 : decode cL_law 279 = .ok (.iconst 1, 1) := by decide +kernel
theorem dL_law_280 : decode cL_law 280 = .ok (.iadd, 1) := by decide +kernel
theorem dL_law_281 : decode cL_law 281 = .ok (.iaload, 1) := by decide +kernel
theorem dL_law_282 : decode cL_law 282 = .ok (.invokevirtual 48, 3) := by decide +kernel
theorem dL_law_285 : decode cL_law 285 = .ok (.aload_n 2, 1) := by decide +kernel
theorem dL_law_286 : decode cL_law 286 = .ok (.aload_n 0, 1) := by decide +kernel
theorem dL_law_287 : decode cL_law 287 = .ok (.iload_n 3, 1) := by decide +kernel
theorem dL_law_288 : decode cL_law 288 = .ok (.iconst 1, 1) := by decide +kernel
theorem dL_law_289 : decode cL_law 289 = .ok (.iadd, 1) := by decide +kernel
theorem dL_law_290 : decode cL_law 290 = .ok (.iaload, 1) := by decide +kernel
theorem dL_law_291 : decode cL_law 291 = .ok (.invokevirtual 51, 3) := by decide +kernel
theorem dL_law_294 : decode cL_law 294 = .ok (.if_icmp .eq 61, 3) := by decide +kernel
theorem dL_law_297 : decode cL_law 297 = .ok (.iconst 0, 1) := by decide +kernel
theorem dL_law_298 : decode cL_law 298 = .ok (.ireturn, 1) := by decide +kernel
theorem dL_law_299 : decode cL_law 299 = .ok (.aload_n 1, 1) := by decide +kernel
theorem dL_law_300 : decode cL_law 300 = .ok (.aload_n 0, 1) := by decide +kernel
theorem dL_law_301 : decode cL_law 301 = .ok (.iload_n 3, 1) := by decide +kernel
theorem dL_law_302 : decode cL_law 302 = .ok (.iconst 1, 1) := by decide +kernel
theorem dL_law_303 : decode cL_law 303 = .ok (.iadd, 1) := by decide +kernel
theorem dL_law_304 : decode cL_law 304 = .ok (.iaload, 1) := by decide +kernel
theorem dL_law_305 : decode cL_law 305 = .ok (.aload_n 0, 1) := by decide +kernel
theorem dL_law_306 : decode cL_law 306 = .ok (.iload_n 3, 1) := by decide +kernel
theorem dL_law_307 : decode cL_law 307 = .ok (.iconst 2, 1) := by decide +kernel
theorem dL_law_308 : decode cL_law 308 = .ok (.iadd, 1) := by decide +kernel
theorem dL_law_309 : decode cL_law 309 = .ok (.iaload, 1) := by decide +kernel
theorem dL_law_310 : decode cL_law 310 = .ok (.invokevirtual 52, 3) := by decide +kernel
theorem dL_law_313 : decode cL_law 313 = .ok (.aload_n 2, 1) := by decide +kernel
theorem dL_law_314 : decode cL_law 314 = .ok (.aload_n 0, 1) := by decide +kernel
theorem dL_law_315 : decode cL_law 315 = .ok (.iload_n 3, 1) := by decide +kernel
theorem dL_law_316 : decode cL_law 316 = .ok (.iconst 1, 1) := by decide +kernel
theorem dL_law_317 : decode cL_law 317 = .ok (.iadd, 1) := by decide +kernel
theorem dL_law_318 : decode cL_law 318 = .ok (.iaload, 1) := by decide +kernel
theorem dL_law_319 : decode cL_law 319 = .ok (.aload_n 0, 1) := by decide +kernel
theorem dL_law_320 : decode cL_law 320 = .ok (.iload_n 3, 1) := by decide +kernel
theorem dL_law_321 : decode cL_law 321 = .ok (.iconst 2, 1) := by decide +kernel
theorem dL_law_322 : decode cL_law 322 = .ok (.iadd, 1) := by decide +kernel
theorem dL_law_323 : decode cL_law 323 = .ok (.iaload, 1) := by decide +kernel
theorem dL_law_324 : decode cL_law 324 = .ok (.invokevirtual 55, 3) := by decide +kernel
theorem dL_law_327 : decode cL_law 327 = .ok (.if_icmp .eq 28, 3) := by decide +kernel
theorem dL_law_330 : decode cL_law 330 = .ok (.iconst 0, 1) := by decide +kernel
theorem dL_law_331 : decode cL_law 331 = .ok (.ireturn, 1) := by decide +kernel
theorem dL_law_332 : decode cL_law 332 = .ok (.aload_n 1, 1) := by decide +kernel
theorem dL_law_333 : decode cL_law 333 = .ok (.aload_n 0, 1) := by decide +kernel
theorem dL_law_334 : decode cL_law 334 = .ok (.iload_n 3, 1) := by decide +kernel
theorem dL_law_335 : decode cL_law 335 = .ok (.iconst 1, 1) := by decide +kernel
theorem dL_law_336 : decode cL_law 336 = .ok (.iadd, 1) := by decide +kernel
theorem dL_law_337 : decode cL_law 337 = .ok (.iaload, 1) := by decide +kernel
theorem dL_law_338 : decode cL_law 338 = .ok (.invokevirtual 56, 3) := by decide +kernel
theorem dL_law_341 : decode cL_law 341 = .ok (.aload_n 2, 1) := by decide +kernel
theorem dL_law_342 : decode cL_law 342 = .ok (.aload_n 0, 1) := by decide +kernel
theorem dL_law_343 : decode cL_law 343 = .ok (.iload_n 3, 1) := by decide +kernel
theorem dL_law_344 : decode cL_law 344 = .ok (.iconst 1, 1) := by decide +kernel
theorem dL_law_345 : decode cL_law 345 = .ok (.iadd, 1) := by decide +kernel
theorem dL_law_346 : decode cL_law 346 = .ok (.iaload, 1) := by decide +kernel
theorem dL_law_347 : decode cL_law 347 = .ok (.invokevirtual 59, 3) := by decide +kernel
theorem dL_law_350 : decode cL_law 350 = .ok (.if_icmp .eq 5, 3) := by decide +kernel
theorem dL_law_353 : decode cL_law 353 = .ok (.iconst 0, 1) := by decide +kernel
theorem dL_law_354 : decode cL_law 354 = .ok (.ireturn, 1) := by decide +kernel
theorem dL_law_355 : decode cL_law 355 = .ok (.iinc 3 3, 3) := by decide +kernel
theorem dL_law_358 : decode cL_law 358 = .ok (.goto (-340), 3) := by decide +kernel
theorem dL_law_361 : decode cL_law 361 = .ok (.iconst 1, 1) := by decide +kernel
theorem dL_law_362 : decode cL_law 362 = .ok (.ireturn, 1) := by decide +kernel
end
section
set_option maxRecDepth 100000
/-! a state: component 0 the object's own ints, component k the array in field k -/
abbrev zzS : Type := Nat → Nat → Int32
abbrev zzT : Type := List (ClassId × FieldType)
abbrev zzcl : List vw_C := [(RX0, TX0, 16), (RX1, TX1, 3)]
def zzu (σ : zzS) (k i : Nat) (v : Int32) : zzS := fun a => if a = k then upd (σ a) i v else σ a
theorem zzu_ss (σ : zzS) (k i : Nat) (v : Int32) : zzu σ k i v k i = v := by simp [zzu, upd]
theorem zzu_sn (σ : zzS) (k i : Nat) (v : Int32) {j : Nat} (h : j ≠ i) : zzu σ k i v k j = σ k j := by simp [zzu, upd, h]
theorem zzu_n (σ : zzS) (k i : Nat) (v : Int32) {a : Nat} (h : a ≠ k) : zzu σ k i v a = σ a := by simp [zzu, h]
/-! locals as a list -/
def zzL : Nat → List Value → List (Nat × Value)
  | _, [] => []
  | k, v :: t => (k, v) :: zzL (k + 1) t
theorem zzL_iff (L : List Value) : ∀ (k j : Nat) (v : Value), (j, v) ∈ zzL k L ↔ k ≤ j ∧ L[j - k]? = some v := by
  induction L with
  | nil => intro k j v; simp [zzL]
  | cons a t ih =>
    intro k j v
    rw [zzL, List.mem_cons, ih]
    constructor
    · intro h
      rcases h with h | ⟨h1, h2⟩
      · cases h; simp
      · refine ⟨by omega, ?_⟩
        rw [show j - k = (j - (k + 1)) + 1 by omega, List.getElem?_cons_succ]; exact h2
    · intro h
      obtain ⟨h1, h2⟩ := h
      rcases Nat.eq_or_lt_of_le h1 with h | h
      · left; subst h
        rw [Nat.sub_self, List.getElem?_cons_zero] at h2
        rw [Option.some.inj h2]
      · right; refine ⟨h, ?_⟩
        rw [show j - k = (j - (k + 1)) + 1 by omega, List.getElem?_cons_succ] at h2; exact h2
def zzLs (ls : Array Slot) (nL : Nat) (L : List Value) : Prop := lv_has ls nL (zzL 0 L) ∧ ∀ v ∈ L, v.category = 1
theorem zzLs_at {ls : Array Slot} {nL : Nat} {L : List Value} (h : zzLs ls nL L) {i : Nat} {v : Value} (hi : L[i]? = some v) : ls[i]? = some (.val v) :=
  h.1.2.2 (i, v) ((zzL_iff L 0 i v).mpr ⟨Nat.zero_le _, by rw [Nat.sub_zero]; exact hi⟩)
def zzst (L : List Value) (i : Nat) (v : Value) : List Value := if i < L.length then L.set i v else L ++ [v]
theorem zzLs_st {ls' : Array Slot} {nL i : Nat} {L : List Value} {v : Value} (hc : v.category = 1) (hL : ∀ v ∈ L, v.category = 1) (hi : i ≤ L.length)
    (h : lv_has ls' nL ((i, v) :: (zzL 0 L).filter (fun q => !(q.1 == i) && !(q.1 + 1 == i && q.2.category == 2)))) : zzLs ls' nL (zzst L i v) := by
  have keep : ∀ (j : Nat) (w : Value), j ≠ i → L[j]? = some w → (j, w) ∈ (zzL 0 L).filter (fun q => !(q.1 == i) && !(q.1 + 1 == i && q.2.category == 2)) := by
    intro j w hj hw
    refine List.mem_filter.mpr ⟨(zzL_iff L 0 j w).mpr ⟨Nat.zero_le _, by rw [Nat.sub_zero]; exact hw⟩, ?_⟩
    have h1 := hL w (List.mem_of_getElem? hw)
    simp [hj, h1]
  refine ⟨⟨h.1, h.2.1, fun q hq => h.2.2 q ?_⟩, ?_⟩
  · obtain ⟨j, w⟩ := q
    obtain ⟨-, h2⟩ := (zzL_iff _ 0 j w).mp hq
    rw [Nat.sub_zero] at h2
    unfold zzst at h2
    by_cases hlt : i < L.length
    · rw [if_pos hlt] at h2
      by_cases hj : j = i
      · subst hj
        rw [List.getElem?_set_self hlt] at h2
        rw [Option.some.inj h2]; exact List.mem_cons_self
      · rw [List.getElem?_set_ne (Ne.symm hj)] at h2
        exact List.mem_cons_of_mem _ (keep j w hj h2)
    · rw [if_neg hlt] at h2
      have hie : i = L.length := by omega
      by_cases hj : j < L.length
      · rw [List.getElem?_append_left hj] at h2
        exact List.mem_cons_of_mem _ (keep j w (by omega) h2)
      · rw [List.getElem?_append_right (by omega)] at h2
        have hz : j - L.length < 1 := (List.getElem?_eq_some_iff.mp h2).1
        have hj2 : j = i := by omega
        subst hj2
        rw [hie, Nat.sub_self] at h2
        have h3 : v = w := Option.some.inj h2
        rw [h3]; exact List.mem_cons_self
  · intro w hw
    unfold zzst at hw
    split at hw
    · rcases List.mem_or_eq_of_mem_set hw with h1 | h1
      · exact hL w h1
      · rw [h1]; exact hc
    · rcases List.mem_append.mp hw with h1 | h1
      · exact hL w h1
      · rw [List.mem_singleton.mp h1]; exact hc
theorem zzLs_take {ls : Array Slot} {nL : Nat} {L : List Value} (h : zzLs ls nL L) (n : Nat) : zzLs ls nL (L.take n) := by
  refine ⟨⟨h.1.1, h.1.2.1, fun q hq => ?_⟩, fun v hv => h.2 v (List.mem_of_mem_take hv)⟩
  obtain ⟨j, w⟩ := q
  obtain ⟨-, h2⟩ := (zzL_iff _ 0 j w).mp hq
  rw [Nat.sub_zero] at h2
  refine zzLs_at h ?_
  rw [List.getElem?_take] at h2
  split at h2
  · exact h2
  · cases h2
theorem zzL_args : ∀ (L : List Value) (k : Nat), (∀ v ∈ L, v.category = 1) → lv_args k L = zzL k L
  | [], _, _ => rfl
  | v :: t, k, h => by
    have h1 := h v List.mem_cons_self
    rw [lv_args, zzL, h1, if_neg (by decide), zzL_args t (k + 1) (fun w hw => h w (List.mem_cons_of_mem _ hw))]
theorem zzL_sl : ∀ (L : List Value), (∀ v ∈ L, v.category = 1) → (lg_sl L).length = L.length
  | [], _ => rfl
  | v :: t, h => by
    have h1 := h v List.mem_cons_self
    have ih := zzL_sl t (fun w hw => h w (List.mem_cons_of_mem _ hw))
    unfold lg_sl at ih ⊢
    rw [List.flatMap_cons, h1, if_neg (by decide), List.length_append, ih]
    simp; omega
/-! the judgement -/
def zzW (p : Program) (l : Launch) (e : Env) (R : Room) (s : State) (m : MethodId) (args : Array Value) (below : List Frame) (meth : Method) (c : Code) (D : va_G) (A : Nat → Prop) (nL kc ks : Nat) (Q : State → Prop) (ws : va_W) (pc : Nat) (L st : List Value) : Prop :=
  ∀ (H : Heap) (locs : List Loc) (ls : Array Slot), va_P D zzcl ws H → va_D A ws → va_S A s.heap H locs → zzLs ls nL L → W p l e R s m args below meth c H locs kc ks Q (F0 m pc ls st)
def zzC (p : Program) (R : Room) (s : State) (m : MethodId) (args : Array Value) (c : Code) (D : va_G) (tys : zzT) (A : Nat → Prop) (cc : ByteArray) (nL kc ks : Nat) (own : String) : Prop :=
  p.tables.exec = Jvm.exec ∧ c.code = cc ∧ c.maxLocals = nL ∧ s.vm.findClass own = some m.cls ∧ (∀ w ∈ lw_all, w.before args s = true) ∧ va_K D zzcl tys s ∧ (∀ q, s.heap.size ≤ q → A q) ∧ kc ≤ R.cells ∧ ks ≤ R.slots
/-- Z is the judgement of one method's body at one call of it: state, pc, locals, stack -/
def zzX (l : Launch) (R : Room) (D : va_G) (tys : zzT) (w : zzS → va_W) (cc : ByteArray) (nL : Nat) (own : String) (Z : zzS → Nat → List Value → List Value → Prop) : Prop :=
  ∃ (p : Program) (e : Env) (s : State) (m : MethodId) (args : Array Value) (below : List Frame) (meth : Method) (c : Code) (A : Nat → Prop) (kc ks : Nat) (Q : State → Prop), zzC p R s m args c D tys A cc nL kc ks own ∧ Z = fun σ pc L st => zzW p l e R s m args below meth c D A nL kc ks Q (w σ) pc L st
/-- a contract: the method y, called on the object at a0 with the arguments av in the world w σ, answers an int r and leaves the world w σ', with post r σ' -/
def zzMi (l : Launch) (y : MethodName) (cc : ByteArray) (nL : Nat) (ret : FieldType) (rm : Room) (D : va_G) (tys : zzT) (w : zzS → va_W) (a0 : Nat) (av : List Value) (σ : zzS) (post : Int32 → zzS → Prop) : Prop :=
  ∀ sz : Nat, Met l y (ws_ y cc nL (some ret)) rm (va_Pc (.ref a0 :: av) (fun U => U.heap.size = sz ∧ va_P D zzcl (w σ) U.heap ∧ va_K D zzcl tys U ∧ va_D (fun _ => True) (w σ))) (va_Qi post (fun σ' t => va_P D zzcl (w σ') t.heap ∧ va_K D zzcl tys t ∧ va_D (va_A (w σ) sz) (w σ')) (va_A (w σ) sz)) 0 0 (va_A (w σ) sz)
def zzMv (l : Launch) (y : MethodName) (cc : ByteArray) (nL : Nat) (rm : Room) (D : va_G) (tys : zzT) (w : zzS → va_W) (a0 : Nat) (av : List Value) (σ : zzS) (post : zzS → Prop) : Prop :=
  ∀ sz : Nat, Met l y (ws_ y cc nL none) rm (va_Pc (.ref a0 :: av) (fun U => U.heap.size = sz ∧ va_P D zzcl (w σ) U.heap ∧ va_K D zzcl tys U ∧ va_D (fun _ => True) (w σ))) (va_Qv post (fun σ' t => va_P D zzcl (w σ') t.heap ∧ va_K D zzcl tys t ∧ va_D (va_A (w σ) sz) (w σ')) (va_A (w σ) sz)) 0 0 (va_A (w σ) sz)
section ZR
variable {l : Launch} {R : Room} {D : va_G} {tys : zzT} {w : zzS → va_W} {cc : ByteArray} {nL : Nat} {own : String} {Z : zzS → Nat → List Value → List Value → Prop} {σ : zzS} {pc : Nat} {L st : List Value}
theorem zz_take (C : zzX l R D tys w cc nL own Z) (n : Nat) {L' : List Value} (hL : L.take n = L') (k : Z σ pc L' st) : Z σ pc L st := by
  obtain ⟨p, e, s, m, args, below, meth, c, A, kc, ks, Q, -, rfl⟩ := C
  subst hL
  exact fun H locs ls hP hD hS hl => k H locs ls hP hD hS (zzLs_take hl n)
theorem zz_top {x : Int32} (k : ∀ y : Int32, y = x → Z σ pc L (.int y :: st)) : Z σ pc L (.int x :: st) := k x rfl
theorem zz_eq {x : Int32} (y : Int32) (h : x = y) (k : Z σ pc L (.int y :: st)) : Z σ pc L (.int x :: st) := h ▸ k
theorem zz_iconst (C : zzX l R D tys w cc nL own Z) {n : Int} {v : Int32} (hdg : decode cc pc = .ok (.iconst n, 1)) (hv : Int32.ofInt n = v) (k : Z σ (pc + 1) L (.int v :: st)) : Z σ pc L st := by
  obtain ⟨p, e, s, m, args, below, meth, c, A, kc, ks, Q, ⟨hx, hb, hml, hown, hts, hK, hA, hkc, hks⟩, rfl⟩ := C
  intro H locs ls hP hD hS hl
  exact lv_iconst hx hb hdg hv (k H locs ls hP hD hS hl)
theorem zz_bipush (C : zzX l R D tys w cc nL own Z) {n : Int} {v : Int32} (hdg : decode cc pc = .ok (.bipush n, 2)) (hv : (Int8.ofInt n).toInt32 = v) (k : Z σ (pc + 2) L (.int v :: st)) : Z σ pc L st := by
  obtain ⟨p, e, s, m, args, below, meth, c, A, kc, ks, Q, ⟨hx, hb, hml, hown, hts, hK, hA, hkc, hks⟩, rfl⟩ := C
  intro H locs ls hP hD hS hl
  exact lv_bipush hx hb hdg hv (k H locs ls hP hD hS hl)
theorem zz_sipush (C : zzX l R D tys w cc nL own Z) {n : Int} {v : Int32} (hdg : decode cc pc = .ok (.sipush n, 3)) (hv : (Int16.ofInt n).toInt32 = v) (k : Z σ (pc + 3) L (.int v :: st)) : Z σ pc L st := by
  obtain ⟨p, e, s, m, args, below, meth, c, A, kc, ks, Q, ⟨hx, hb, hml, hown, hts, hK, hA, hkc, hks⟩, rfl⟩ := C
  intro H locs ls hP hD hS hl
  exact lv_sipush hx hb hdg hv (k H locs ls hP hD hS hl)
theorem zz_iload_n (C : zzX l R D tys w cc nL own Z) {i : Fin 4} {x : Int32} (hdg : decode cc pc = .ok (.iload_n i, 1)) (hi : L[(i : Nat)]? = some (.int x)) (k : Z σ (pc + 1) L (.int x :: st)) : Z σ pc L st := by
  obtain ⟨p, e, s, m, args, below, meth, c, A, kc, ks, Q, ⟨hx, hb, hml, hown, hts, hK, hA, hkc, hks⟩, rfl⟩ := C
  intro H locs ls hP hD hS hl
  exact lv_iload_n hx hb hdg rfl (zzLs_at hl hi) (k H locs ls hP hD hS hl)
theorem zz_iload (C : zzX l R D tys w cc nL own Z) {i : Nat} {x : Int32} (hdg : decode cc pc = .ok (.iload i, 2)) (hi : L[i]? = some (.int x)) (k : Z σ (pc + 2) L (.int x :: st)) : Z σ pc L st := by
  obtain ⟨p, e, s, m, args, below, meth, c, A, kc, ks, Q, ⟨hx, hb, hml, hown, hts, hK, hA, hkc, hks⟩, rfl⟩ := C
  intro H locs ls hP hD hS hl
  exact lv_iload hx hb hdg (zzLs_at hl hi) (k H locs ls hP hD hS hl)
theorem zz_aload_n (C : zzX l R D tys w cc nL own Z) {i : Fin 4} {x : Nat} (hdg : decode cc pc = .ok (.aload_n i, 1)) (hi : L[(i : Nat)]? = some (.ref x)) (k : Z σ (pc + 1) L (.ref x :: st)) : Z σ pc L st := by
  obtain ⟨p, e, s, m, args, below, meth, c, A, kc, ks, Q, ⟨hx, hb, hml, hown, hts, hK, hA, hkc, hks⟩, rfl⟩ := C
  intro H locs ls hP hD hS hl
  exact lv_aload_n hx hb hdg rfl (zzLs_at hl hi) (k H locs ls hP hD hS hl)
theorem zz_istore_n (C : zzX l R D tys w cc nL own Z) {i : Fin 4} {x : Int32} {L' : List Value} (hdg : decode cc pc = .ok (.istore_n i, 1)) (hL : zzst L i (.int x) = L') (hi : (i : Nat) ≤ L.length ∧ (i : Nat) < nL) (k : Z σ (pc + 1) L' st) : Z σ pc L (.int x :: st) := by
  obtain ⟨p, e, s, m, args, below, meth, c, A, kc, ks, Q, ⟨hx, hb, hml, hown, hts, hK, hA, hkc, hks⟩, rfl⟩ := C
  intro H locs ls hP hD hS hl
  subst hL
  exact lv_istore_n hx hb hdg rfl hl.1 hi.2 rfl (fun ls' h' => k H locs ls' hP hD hS (zzLs_st rfl hl.2 hi.1 h'))
theorem zz_istore (C : zzX l R D tys w cc nL own Z) {i : Nat} {x : Int32} {L' : List Value} (hdg : decode cc pc = .ok (.istore i, 2)) (hL : zzst L i (.int x) = L') (hi : (i : Nat) ≤ L.length ∧ (i : Nat) < nL) (k : Z σ (pc + 2) L' st) : Z σ pc L (.int x :: st) := by
  obtain ⟨p, e, s, m, args, below, meth, c, A, kc, ks, Q, ⟨hx, hb, hml, hown, hts, hK, hA, hkc, hks⟩, rfl⟩ := C
  intro H locs ls hP hD hS hl
  subst hL
  exact lv_istore hx hb hdg hl.1 hi.2 rfl (fun ls' h' => k H locs ls' hP hD hS (zzLs_st rfl hl.2 hi.1 h'))
theorem zz_iinc (C : zzX l R D tys w cc nL own Z) {i : Nat} {n : Int} {x v : Int32} {L' : List Value} (hdg : decode cc pc = .ok (.iinc i n, 3)) (hx0 : L[i]? = some (.int x)) (hv : x + Int32.ofInt n = v) (hL : zzst L i (.int v) = L') (hi : i < nL) (k : Z σ (pc + 3) L' st) : Z σ pc L st := by
  obtain ⟨p, e, s, m, args, below, meth, c, A, kc, ks, Q, ⟨hx, hb, hml, hown, hts, hK, hA, hkc, hks⟩, rfl⟩ := C
  intro H locs ls hP hD hS hl
  subst hL
  have hm : (i, Value.int x) ∈ zzL 0 L := (zzL_iff L 0 i _).mpr ⟨Nat.zero_le _, by rw [Nat.sub_zero]; exact hx0⟩
  obtain ⟨kk, hkk⟩ := List.getElem?_of_mem hm
  exact lv_iinc hx hb hdg hl.1 hkk hv hi rfl (fun ls' h' => k H locs ls' hP hD hS (zzLs_st rfl hl.2 (Nat.le_of_lt (List.getElem?_eq_some_iff.mp hx0).1) h'))
theorem zz_iadd (C : zzX l R D tys w cc nL own Z) {x y : Int32} (hdg : decode cc pc = .ok (.iadd, 1)) (k : Z σ (pc + 1) L (.int (x + y) :: st)) : Z σ pc L (.int y :: .int x :: st) := by
  obtain ⟨p, e, s, m, args, below, meth, c, A, kc, ks, Q, ⟨hx, hb, hml, hown, hts, hK, hA, hkc, hks⟩, rfl⟩ := C
  intro H locs ls hP hD hS hl
  exact lv_iadd hx hb hdg (k H locs ls hP hD hS hl)
theorem zz_isub (C : zzX l R D tys w cc nL own Z) {x y : Int32} (hdg : decode cc pc = .ok (.isub, 1)) (k : Z σ (pc + 1) L (.int (x - y) :: st)) : Z σ pc L (.int y :: .int x :: st) := by
  obtain ⟨p, e, s, m, args, below, meth, c, A, kc, ks, Q, ⟨hx, hb, hml, hown, hts, hK, hA, hkc, hks⟩, rfl⟩ := C
  intro H locs ls hP hD hS hl
  exact lv_isub hx hb hdg (k H locs ls hP hD hS hl)
theorem zz_imul (C : zzX l R D tys w cc nL own Z) {x y : Int32} (hdg : decode cc pc = .ok (.imul, 1)) (k : Z σ (pc + 1) L (.int (x * y) :: st)) : Z σ pc L (.int y :: .int x :: st) := by
  obtain ⟨p, e, s, m, args, below, meth, c, A, kc, ks, Q, ⟨hx, hb, hml, hown, hts, hK, hA, hkc, hks⟩, rfl⟩ := C
  intro H locs ls hP hD hS hl
  exact lv_imul hx hb hdg (k H locs ls hP hD hS hl)
theorem zz_iand (C : zzX l R D tys w cc nL own Z) {x y : Int32} (hdg : decode cc pc = .ok (.iand, 1)) (k : Z σ (pc + 1) L (.int (x &&& y) :: st)) : Z σ pc L (.int y :: .int x :: st) := by
  obtain ⟨p, e, s, m, args, below, meth, c, A, kc, ks, Q, ⟨hx, hb, hml, hown, hts, hK, hA, hkc, hks⟩, rfl⟩ := C
  intro H locs ls hP hD hS hl
  exact lv_iand hx hb hdg (k H locs ls hP hD hS hl)
theorem zz_ior (C : zzX l R D tys w cc nL own Z) {x y : Int32} (hdg : decode cc pc = .ok (.ior, 1)) (k : Z σ (pc + 1) L (.int (x ||| y) :: st)) : Z σ pc L (.int y :: .int x :: st) := by
  obtain ⟨p, e, s, m, args, below, meth, c, A, kc, ks, Q, ⟨hx, hb, hml, hown, hts, hK, hA, hkc, hks⟩, rfl⟩ := C
  intro H locs ls hP hD hS hl
  exact lv_ior hx hb hdg (k H locs ls hP hD hS hl)
theorem zz_ixor (C : zzX l R D tys w cc nL own Z) {x y : Int32} (hdg : decode cc pc = .ok (.ixor, 1)) (k : Z σ (pc + 1) L (.int (x ^^^ y) :: st)) : Z σ pc L (.int y :: .int x :: st) := by
  obtain ⟨p, e, s, m, args, below, meth, c, A, kc, ks, Q, ⟨hx, hb, hml, hown, hts, hK, hA, hkc, hks⟩, rfl⟩ := C
  intro H locs ls hP hD hS hl
  exact lv_ixor hx hb hdg (k H locs ls hP hD hS hl)
theorem zz_ishl (C : zzX l R D tys w cc nL own Z) {x y : Int32} (hdg : decode cc pc = .ok (.ishl, 1)) (k : Z σ (pc + 1) L (.int (x <<< (y &&& 31)) :: st)) : Z σ pc L (.int y :: .int x :: st) := by
  obtain ⟨p, e, s, m, args, below, meth, c, A, kc, ks, Q, ⟨hx, hb, hml, hown, hts, hK, hA, hkc, hks⟩, rfl⟩ := C
  intro H locs ls hP hD hS hl
  exact lv_ishl hx hb hdg (k H locs ls hP hD hS hl)
theorem zz_ishr (C : zzX l R D tys w cc nL own Z) {x y : Int32} (hdg : decode cc pc = .ok (.ishr, 1)) (k : Z σ (pc + 1) L (.int (x >>> (y &&& 31)) :: st)) : Z σ pc L (.int y :: .int x :: st) := by
  obtain ⟨p, e, s, m, args, below, meth, c, A, kc, ks, Q, ⟨hx, hb, hml, hown, hts, hK, hA, hkc, hks⟩, rfl⟩ := C
  intro H locs ls hP hD hS hl
  exact lv_ishr hx hb hdg (k H locs ls hP hD hS hl)
theorem zz_i2b (C : zzX l R D tys w cc nL own Z) {x : Int32} (hdg : decode cc pc = .ok (.i2b, 1)) (k : Z σ (pc + 1) L (.int (x.toInt8.toInt32) :: st)) : Z σ pc L (.int x :: st) := by
  obtain ⟨p, e, s, m, args, below, meth, c, A, kc, ks, Q, ⟨hx, hb, hml, hown, hts, hK, hA, hkc, hks⟩, rfl⟩ := C
  intro H locs ls hP hD hS hl
  exact lv_i2b hx hb hdg rfl (k H locs ls hP hD hS hl)
theorem zz_i2s (C : zzX l R D tys w cc nL own Z) {x : Int32} (hdg : decode cc pc = .ok (.i2s, 1)) (k : Z σ (pc + 1) L (.int (x.toInt16.toInt32) :: st)) : Z σ pc L (.int x :: st) := by
  obtain ⟨p, e, s, m, args, below, meth, c, A, kc, ks, Q, ⟨hx, hb, hml, hown, hts, hK, hA, hkc, hks⟩, rfl⟩ := C
  intro H locs ls hP hD hS hl
  exact lv_i2s hx hb hdg rfl (k H locs ls hP hD hS hl)
theorem zz_dup (C : zzX l R D tys w cc nL own Z) {v : Value} (hdg : decode cc pc = .ok (.dup, 1)) (hc : v.category = 1) (k : Z σ (pc + 1) L (v :: v :: st)) : Z σ pc L (v :: st) := by
  obtain ⟨p, e, s, m, args, below, meth, c, A, kc, ks, Q, ⟨hx, hb, hml, hown, hts, hK, hA, hkc, hks⟩, rfl⟩ := C
  intro H locs ls hP hD hS hl
  exact lv_dup hx hb hdg hc (k H locs ls hP hD hS hl)
theorem zz_dup2 (C : zzX l R D tys w cc nL own Z) {v u : Value} (hdg : decode cc pc = .ok (.dup2, 1)) (hc : v.category = 1) (hc2 : u.category = 1) (k : Z σ (pc + 1) L (v :: u :: v :: u :: st)) : Z σ pc L (v :: u :: st) := by
  obtain ⟨p, e, s, m, args, below, meth, c, A, kc, ks, Q, ⟨hx, hb, hml, hown, hts, hK, hA, hkc, hks⟩, rfl⟩ := C
  intro H locs ls hP hD hS hl
  exact lv_dup2_11 hx hb hdg hc hc2 (k H locs ls hP hD hS hl)
theorem zz_if_eq (C : zzX l R D tys w cc nL own Z) {x : Int32} {off : Int} (tgt : Nat) (hdg : decode cc pc = .ok (.ifCond .eq off, 3)) (ht : (pc : Int) + off = (tgt : Int)) (kt : x = 0 → Z σ tgt L st) (kf : ¬ x = 0 → Z σ (pc + 3) L st) : Z σ pc L (.int x :: st) := by
  obtain ⟨p, e, s, m, args, below, meth, c, A, kc, ks, Q, ⟨hx, hb, hml, hown, hts, hK, hA, hkc, hks⟩, rfl⟩ := C
  intro H locs ls hP hD hS hl
  exact lv_if_eq hx hb hdg ht (fun h => kt h H locs ls hP hD hS hl) (fun h => kf h H locs ls hP hD hS hl)
theorem zz_if_ne (C : zzX l R D tys w cc nL own Z) {x : Int32} {off : Int} (tgt : Nat) (hdg : decode cc pc = .ok (.ifCond .ne off, 3)) (ht : (pc : Int) + off = (tgt : Int)) (kt : ¬ x = 0 → Z σ tgt L st) (kf : x = 0 → Z σ (pc + 3) L st) : Z σ pc L (.int x :: st) := by
  obtain ⟨p, e, s, m, args, below, meth, c, A, kc, ks, Q, ⟨hx, hb, hml, hown, hts, hK, hA, hkc, hks⟩, rfl⟩ := C
  intro H locs ls hP hD hS hl
  exact lv_if_ne hx hb hdg ht (fun h => kt h H locs ls hP hD hS hl) (fun h => kf h H locs ls hP hD hS hl)
theorem zz_if_lt (C : zzX l R D tys w cc nL own Z) {x : Int32} {off : Int} (tgt : Nat) (hdg : decode cc pc = .ok (.ifCond .lt off, 3)) (ht : (pc : Int) + off = (tgt : Int)) (kt : x < 0 → Z σ tgt L st) (kf : ¬ x < 0 → Z σ (pc + 3) L st) : Z σ pc L (.int x :: st) := by
  obtain ⟨p, e, s, m, args, below, meth, c, A, kc, ks, Q, ⟨hx, hb, hml, hown, hts, hK, hA, hkc, hks⟩, rfl⟩ := C
  intro H locs ls hP hD hS hl
  exact lv_if_lt hx hb hdg ht (fun h => kt h H locs ls hP hD hS hl) (fun h => kf h H locs ls hP hD hS hl)
theorem zz_if_ge (C : zzX l R D tys w cc nL own Z) {x : Int32} {off : Int} (tgt : Nat) (hdg : decode cc pc = .ok (.ifCond .ge off, 3)) (ht : (pc : Int) + off = (tgt : Int)) (kt : 0 ≤ x → Z σ tgt L st) (kf : ¬ 0 ≤ x → Z σ (pc + 3) L st) : Z σ pc L (.int x :: st) := by
  obtain ⟨p, e, s, m, args, below, meth, c, A, kc, ks, Q, ⟨hx, hb, hml, hown, hts, hK, hA, hkc, hks⟩, rfl⟩ := C
  intro H locs ls hP hD hS hl
  exact lv_if_ge hx hb hdg ht (fun h => kt h H locs ls hP hD hS hl) (fun h => kf h H locs ls hP hD hS hl)
theorem zz_if_gt (C : zzX l R D tys w cc nL own Z) {x : Int32} {off : Int} (tgt : Nat) (hdg : decode cc pc = .ok (.ifCond .gt off, 3)) (ht : (pc : Int) + off = (tgt : Int)) (kt : 0 < x → Z σ tgt L st) (kf : ¬ 0 < x → Z σ (pc + 3) L st) : Z σ pc L (.int x :: st) := by
  obtain ⟨p, e, s, m, args, below, meth, c, A, kc, ks, Q, ⟨hx, hb, hml, hown, hts, hK, hA, hkc, hks⟩, rfl⟩ := C
  intro H locs ls hP hD hS hl
  exact lv_if_gt hx hb hdg ht (fun h => kt h H locs ls hP hD hS hl) (fun h => kf h H locs ls hP hD hS hl)
theorem zz_if_le (C : zzX l R D tys w cc nL own Z) {x : Int32} {off : Int} (tgt : Nat) (hdg : decode cc pc = .ok (.ifCond .le off, 3)) (ht : (pc : Int) + off = (tgt : Int)) (kt : x ≤ 0 → Z σ tgt L st) (kf : ¬ x ≤ 0 → Z σ (pc + 3) L st) : Z σ pc L (.int x :: st) := by
  obtain ⟨p, e, s, m, args, below, meth, c, A, kc, ks, Q, ⟨hx, hb, hml, hown, hts, hK, hA, hkc, hks⟩, rfl⟩ := C
  intro H locs ls hP hD hS hl
  exact lv_if_le hx hb hdg ht (fun h => kt h H locs ls hP hD hS hl) (fun h => kf h H locs ls hP hD hS hl)
theorem zz_icmp_eq (C : zzX l R D tys w cc nL own Z) {x y : Int32} {off : Int} (tgt : Nat) (hdg : decode cc pc = .ok (.if_icmp .eq off, 3)) (ht : (pc : Int) + off = (tgt : Int)) (kt : x = y → Z σ tgt L st) (kf : ¬ x = y → Z σ (pc + 3) L st) : Z σ pc L (.int y :: .int x :: st) := by
  obtain ⟨p, e, s, m, args, below, meth, c, A, kc, ks, Q, ⟨hx, hb, hml, hown, hts, hK, hA, hkc, hks⟩, rfl⟩ := C
  intro H locs ls hP hD hS hl
  exact lv_icmp_eq hx hb hdg ht (fun h => kt h H locs ls hP hD hS hl) (fun h => kf h H locs ls hP hD hS hl)
theorem zz_icmp_ne (C : zzX l R D tys w cc nL own Z) {x y : Int32} {off : Int} (tgt : Nat) (hdg : decode cc pc = .ok (.if_icmp .ne off, 3)) (ht : (pc : Int) + off = (tgt : Int)) (kt : ¬ x = y → Z σ tgt L st) (kf : x = y → Z σ (pc + 3) L st) : Z σ pc L (.int y :: .int x :: st) := by
  obtain ⟨p, e, s, m, args, below, meth, c, A, kc, ks, Q, ⟨hx, hb, hml, hown, hts, hK, hA, hkc, hks⟩, rfl⟩ := C
  intro H locs ls hP hD hS hl
  exact lv_icmp_ne hx hb hdg ht (fun h => kt h H locs ls hP hD hS hl) (fun h => kf h H locs ls hP hD hS hl)
theorem zz_icmp_lt (C : zzX l R D tys w cc nL own Z) {x y : Int32} {off : Int} (tgt : Nat) (hdg : decode cc pc = .ok (.if_icmp .lt off, 3)) (ht : (pc : Int) + off = (tgt : Int)) (kt : x < y → Z σ tgt L st) (kf : ¬ x < y → Z σ (pc + 3) L st) : Z σ pc L (.int y :: .int x :: st) := by
  obtain ⟨p, e, s, m, args, below, meth, c, A, kc, ks, Q, ⟨hx, hb, hml, hown, hts, hK, hA, hkc, hks⟩, rfl⟩ := C
  intro H locs ls hP hD hS hl
  exact lv_icmp_lt hx hb hdg ht (fun h => kt h H locs ls hP hD hS hl) (fun h => kf h H locs ls hP hD hS hl)
theorem zz_icmp_ge (C : zzX l R D tys w cc nL own Z) {x y : Int32} {off : Int} (tgt : Nat) (hdg : decode cc pc = .ok (.if_icmp .ge off, 3)) (ht : (pc : Int) + off = (tgt : Int)) (kt : y ≤ x → Z σ tgt L st) (kf : ¬ y ≤ x → Z σ (pc + 3) L st) : Z σ pc L (.int y :: .int x :: st) := by
  obtain ⟨p, e, s, m, args, below, meth, c, A, kc, ks, Q, ⟨hx, hb, hml, hown, hts, hK, hA, hkc, hks⟩, rfl⟩ := C
  intro H locs ls hP hD hS hl
  exact lv_icmp_ge hx hb hdg ht (fun h => kt h H locs ls hP hD hS hl) (fun h => kf h H locs ls hP hD hS hl)
theorem zz_icmp_gt (C : zzX l R D tys w cc nL own Z) {x y : Int32} {off : Int} (tgt : Nat) (hdg : decode cc pc = .ok (.if_icmp .gt off, 3)) (ht : (pc : Int) + off = (tgt : Int)) (kt : y < x → Z σ tgt L st) (kf : ¬ y < x → Z σ (pc + 3) L st) : Z σ pc L (.int y :: .int x :: st) := by
  obtain ⟨p, e, s, m, args, below, meth, c, A, kc, ks, Q, ⟨hx, hb, hml, hown, hts, hK, hA, hkc, hks⟩, rfl⟩ := C
  intro H locs ls hP hD hS hl
  exact lv_icmp_gt hx hb hdg ht (fun h => kt h H locs ls hP hD hS hl) (fun h => kf h H locs ls hP hD hS hl)
theorem zz_icmp_le (C : zzX l R D tys w cc nL own Z) {x y : Int32} {off : Int} (tgt : Nat) (hdg : decode cc pc = .ok (.if_icmp .le off, 3)) (ht : (pc : Int) + off = (tgt : Int)) (kt : x ≤ y → Z σ tgt L st) (kf : ¬ x ≤ y → Z σ (pc + 3) L st) : Z σ pc L (.int y :: .int x :: st) := by
  obtain ⟨p, e, s, m, args, below, meth, c, A, kc, ks, Q, ⟨hx, hb, hml, hown, hts, hK, hA, hkc, hks⟩, rfl⟩ := C
  intro H locs ls hP hD hS hl
  exact lv_icmp_le hx hb hdg ht (fun h => kt h H locs ls hP hD hS hl) (fun h => kf h H locs ls hP hD hS hl)
theorem zz_goto (C : zzX l R D tys w cc nL own Z) {off : Int} (tgt : Nat) (hdg : decode cc pc = .ok (.goto off, 3)) (ht : (pc : Int) + off = (tgt : Int)) (k : Z σ tgt L st) : Z σ pc L st := by
  obtain ⟨p, e, s, m, args, below, meth, c, A, kc, ks, Q, ⟨hx, hb, hml, hown, hts, hK, hA, hkc, hks⟩, rfl⟩ := C
  intro H locs ls hP hD hS hl
  exact lv_goto hx hb hdg ht (k H locs ls hP hD hS hl)
theorem zz_tableOut (C : zzX l R D tys w cc nL own Z) {dflt lo hi : Int} {offs : Array Int} {len : Nat} {x : Int32} (tgt : Nat) (hdg : decode cc pc = .ok (.tableswitch dflt lo hi offs, len)) (h : x.toInt < lo ∨ hi < x.toInt) (ht : (pc : Int) + dflt = (tgt : Int)) (k : Z σ tgt L st) : Z σ pc L (.int x :: st) := by
  obtain ⟨p, e, s, m, args, below, meth, c, A, kc, ks, Q, ⟨hx, hb, hml, hown, hts, hK, hA, hkc, hks⟩, rfl⟩ := C
  intro H locs ls hP hD hS hl
  exact lv_tableOut hx hb hdg h ht (k H locs ls hP hD hS hl)
theorem zz_tableIn (C : zzX l R D tys w cc nL own Z) {dflt lo hi : Int} {offs : Array Int} {len : Nat} {x : Int32} {off : Int} (tgt : Nat) (hdg : decode cc pc = .ok (.tableswitch dflt lo hi offs, len)) (h1 : ¬ x.toInt < lo) (h2 : ¬ hi < x.toInt) (ho : offs[(x.toInt - lo).toNat]? = some off) (ht : (pc : Int) + off = (tgt : Int)) (k : Z σ tgt L st) : Z σ pc L (.int x :: st) := by
  obtain ⟨p, e, s, m, args, below, meth, c, A, kc, ks, Q, ⟨hx, hb, hml, hown, hts, hK, hA, hkc, hks⟩, rfl⟩ := C
  intro H locs ls hP hD hS hl
  exact lv_tableIn hx hb hdg h1 h2 ho ht (k H locs ls hP hD hS hl)
/-- a field is read -/
theorem zz_get (C : zzX l R D tys w cc nL own Z) {a ci N index : Nat} {Cn ref : String} {T : u_T} {fs : List Value} (q0 : Nat) (he : (w σ)[q0]? = some (a, .inr (ci, fs))) (hc : zzcl[ci]? = some (Cn, T, N)) (hin : ∀ x ∈ u_ws Cn T N, x ∈ lw_all) (kf : Nat) (hk : kf < N) (hlink : Cond.fieldLink own index ref (T kf).2.1 (T kf).2.2.1 ∈ lw_all) (href : (T kf).1 = ref) {v : Value} (hv : fs[kf]? = some v) (hdg : decode cc pc = .ok (.getfield index, 3)) (k : Z σ (pc + 3) L (v :: st)) : Z σ pc L (.ref a :: st) := by
  obtain ⟨p, e, s, m, args, below, meth, c, A, kc, ks, Q, ⟨hx, hb, hml, hown, hts, hK, hA, hkc, hks⟩, rfl⟩ := C
  intro H locs ls hP hD hS hl
  exact va_get (D := D) (ci := ci) (v := v) (C := Cn) (T := T) (N := N) (ref := ref) hx hb hts hin hown hK hP q0 he hc kf hk (hts _ hlink) (fun _ h9 => by rw [← href]; exact h9) hv hdg (k H locs ls hP hD hS hl)
/-- a field that isn't final is written -/
theorem zz_put (C : zzX l R D tys w cc nL own Z) {a ci N index : Nat} {Cn ref : String} {T : u_T} {fs : List Value} {σ' : zzS} (q0 : Nat) (he : (w σ)[q0]? = some (a, .inr (ci, fs))) (hc : zzcl[ci]? = some (Cn, T, N)) (hin : ∀ x ∈ u_ws Cn T N, x ∈ lw_all) (ty0 : Nat → FieldType) (hty : ∀ k, k < N → parseFieldDescriptor (T k).2.2.1 = some (ty0 k)) (hnm : ∀ a, a < N → ∀ b, b < N → a ≠ b → (T a).2.1 ≠ (T b).2.1) (kf : Nat) (hk : kf < N) (hlink : Cond.fieldLink own index ref (T kf).2.1 (T kf).2.2.1 ∈ lw_all) (href : (T kf).1 = ref) (hfin : (T kf).2.2.2 = false) {ty : FieldType} {v : Value} (hd : parseFieldDescriptor (T kf).2.2.1 = some ty) (hn : narrow ty v = v) (hfit : fits ty v = true) (hl0 : kf < fs.length) (hw : (w σ).set q0 (a, .inr (ci, fs.set kf v)) = w σ') (hdg : decode cc pc = .ok (.putfield index, 3)) (k : Z σ' (pc + 3) L st) : Z σ pc L (v :: .ref a :: st) := by
  obtain ⟨p, e, s, m, args, below, meth, c, A, kc, ks, Q, ⟨hx, hb, hml, hown, hts, hK, hA, hkc, hks⟩, rfl⟩ := C
  intro H locs ls hP hD hS hl
  refine va_put (D := D) (ci := ci) (v := v) (ty := ty) (C := Cn) (T := T) (N := N) (ref := ref) hx hb hts hin ty0 hty hnm hown hK hP hD hS q0 he hc kf hk (hts _ hlink) (fun _ h9 => by rw [← href]; exact h9) hfin hd hn hfit hl0 hdg (fun H1 locs1 hP1 hD1 hS1 => ?_)
  rw [hw] at hP1 hD1
  exact k H1 locs1 ls hP1 hD1 hS1 hl
theorem zz_bald (C : zzX l R D tys w cc nL own Z) {a n : Nat} {cA : ClassId} {f : Nat → Int32} {i : Int32} (q0 t0 : Nat) (ha : (w σ)[q0]? = some (a, .inl (cA, n, .inl f))) (ht : tys[t0]? = some (cA, .byte)) (hn : n < 2 ^ 31) (j : Nat) (hi : i = nI j) (hj : j < n) (hdg : decode cc pc = .ok (.baload, 1)) (k : Z σ (pc + 1) L (.int (f j) :: st)) : Z σ pc L (.int i :: .ref a :: st) := by
  obtain ⟨p, e, s, m, args, below, meth, c, A, kc, ks, Q, ⟨hx, hb, hml, hown, hts, hK, hA, hkc, hks⟩, rfl⟩ := C
  intro H locs ls hP hD hS hl
  subst hi
  refine va_bald hx hb hK hP q0 t0 ha ht (vp_in_nI hj hn) hdg ?_
  rw [nI_clamp (Nat.lt_trans hj hn)]
  exact k H locs ls hP hD hS hl
theorem zz_bast (C : zzX l R D tys w cc nL own Z) {a n : Nat} {cA : ClassId} {f : Nat → Int32} {i x v : Int32} {σ' : zzS} (q0 t0 : Nat) (ha : (w σ)[q0]? = some (a, .inl (cA, n, .inl f))) (ht : tys[t0]? = some (cA, .byte)) (hn : n < 2 ^ 31) (j : Nat) (hi : i = nI j) (hj : j < n) (hv : (vp_nar .byte x) = v) (hw : (w σ).set q0 (a, .inl (cA, n, .inl (upd f j v))) = w σ') (hdg : decode cc pc = .ok (.bastore, 1)) (k : Z σ' (pc + 1) L st) : Z σ pc L (.int x :: .int i :: .ref a :: st) := by
  obtain ⟨p, e, s, m, args, below, meth, c, A, kc, ks, Q, ⟨hx, hb, hml, hown, hts, hK, hA, hkc, hks⟩, rfl⟩ := C
  intro H locs ls hP hD hS hl
  subst hi
  refine va_bast hx hb hK hP hD hS q0 t0 ha ht (vp_in_nI hj hn) hdg (fun H1 locs1 hP1 hD1 hS1 => ?_)
  rw [nI_clamp (Nat.lt_trans hj hn), hv, hw] at hP1 hD1
  exact k H1 locs1 ls hP1 hD1 hS1 hl
theorem zz_sald (C : zzX l R D tys w cc nL own Z) {a n : Nat} {cA : ClassId} {f : Nat → Int32} {i : Int32} (q0 t0 : Nat) (ha : (w σ)[q0]? = some (a, .inl (cA, n, .inl f))) (ht : tys[t0]? = some (cA, .short)) (hn : n < 2 ^ 31) (j : Nat) (hi : i = nI j) (hj : j < n) (hdg : decode cc pc = .ok (.saload, 1)) (k : Z σ (pc + 1) L (.int (f j) :: st)) : Z σ pc L (.int i :: .ref a :: st) := by
  obtain ⟨p, e, s, m, args, below, meth, c, A, kc, ks, Q, ⟨hx, hb, hml, hown, hts, hK, hA, hkc, hks⟩, rfl⟩ := C
  intro H locs ls hP hD hS hl
  subst hi
  refine va_sald hx hb hK hP q0 t0 ha ht (vp_in_nI hj hn) hdg ?_
  rw [nI_clamp (Nat.lt_trans hj hn)]
  exact k H locs ls hP hD hS hl
theorem zz_sast (C : zzX l R D tys w cc nL own Z) {a n : Nat} {cA : ClassId} {f : Nat → Int32} {i x v : Int32} {σ' : zzS} (q0 t0 : Nat) (ha : (w σ)[q0]? = some (a, .inl (cA, n, .inl f))) (ht : tys[t0]? = some (cA, .short)) (hn : n < 2 ^ 31) (j : Nat) (hi : i = nI j) (hj : j < n) (hv : (vp_nar .short x) = v) (hw : (w σ).set q0 (a, .inl (cA, n, .inl (upd f j v))) = w σ') (hdg : decode cc pc = .ok (.sastore, 1)) (k : Z σ' (pc + 1) L st) : Z σ pc L (.int x :: .int i :: .ref a :: st) := by
  obtain ⟨p, e, s, m, args, below, meth, c, A, kc, ks, Q, ⟨hx, hb, hml, hown, hts, hK, hA, hkc, hks⟩, rfl⟩ := C
  intro H locs ls hP hD hS hl
  subst hi
  refine va_sast hx hb hK hP hD hS q0 t0 ha ht (vp_in_nI hj hn) hdg (fun H1 locs1 hP1 hD1 hS1 => ?_)
  rw [nI_clamp (Nat.lt_trans hj hn), hv, hw] at hP1 hD1
  exact k H1 locs1 ls hP1 hD1 hS1 hl
theorem zz_iald (C : zzX l R D tys w cc nL own Z) {a n : Nat} {cA : ClassId} {f : Nat → Int32} {i : Int32} (q0 t0 : Nat) (ha : (w σ)[q0]? = some (a, .inl (cA, n, .inl f))) (ht : tys[t0]? = some (cA, .int)) (hn : n < 2 ^ 31) (j : Nat) (hi : i = nI j) (hj : j < n) (hdg : decode cc pc = .ok (.iaload, 1)) (k : Z σ (pc + 1) L (.int (f j) :: st)) : Z σ pc L (.int i :: .ref a :: st) := by
  obtain ⟨p, e, s, m, args, below, meth, c, A, kc, ks, Q, ⟨hx, hb, hml, hown, hts, hK, hA, hkc, hks⟩, rfl⟩ := C
  intro H locs ls hP hD hS hl
  subst hi
  refine va_iald hx hb hK hP q0 t0 ha ht (vp_in_nI hj hn) hdg ?_
  rw [nI_clamp (Nat.lt_trans hj hn)]
  exact k H locs ls hP hD hS hl
theorem zz_iast (C : zzX l R D tys w cc nL own Z) {a n : Nat} {cA : ClassId} {f : Nat → Int32} {i x v : Int32} {σ' : zzS} (q0 t0 : Nat) (ha : (w σ)[q0]? = some (a, .inl (cA, n, .inl f))) (ht : tys[t0]? = some (cA, .int)) (hn : n < 2 ^ 31) (j : Nat) (hi : i = nI j) (hj : j < n) (hv : x = v) (hw : (w σ).set q0 (a, .inl (cA, n, .inl (upd f j v))) = w σ') (hdg : decode cc pc = .ok (.iastore, 1)) (k : Z σ' (pc + 1) L st) : Z σ pc L (.int x :: .int i :: .ref a :: st) := by
  obtain ⟨p, e, s, m, args, below, meth, c, A, kc, ks, Q, ⟨hx, hb, hml, hown, hts, hK, hA, hkc, hks⟩, rfl⟩ := C
  intro H locs ls hP hD hS hl
  subst hi
  refine va_iast hx hb hK hP hD hS q0 t0 ha ht (vp_in_nI hj hn) hdg (fun H1 locs1 hP1 hD1 hS1 => ?_)
  rw [nI_clamp (Nat.lt_trans hj hn), hv, hw] at hP1 hD1
  exact k H1 locs1 ls hP1 hD1 hS1 hl
/-- a call of a method of the same world, by its contract -/
theorem zz_calli (C : zzX l R D tys w cc nL own Z) {y : MethodName} {c1 : ByteArray} {nL1 : Nat} {ret : FieldType} {rm : Room} {a0 : Nat} {av : List Value} {post : Int32 → zzS → Prop} (hM : zzMi l y c1 nL1 ret rm D tys w a0 av σ post) {index ci nA : Nat} {Cn : String} {T : u_T} {N : Nat} {fs stk : List Value} (he : (w σ)[0]? = some (a0, .inr (ci, fs))) (hc : zzcl[ci]? = some (Cn, T, N)) (hCn : y.cls = Cn) (q1 : Cond.methodLink own index y ∈ lw_all) (q2 : Cond.instanceMethod y ∈ lw_all) (q3 : Cond.selects Cn y y ∈ lw_all) (q4 : Cond.initialized Cn ∈ lw_all) (q5 : Cond.code y c1 nL1 (some ret) ∈ lw_all)
    (hd : y.cls ≠ "java/lang/invoke/MethodHandle" ∧ y.cls ≠ "java/lang/invoke/VarHandle" ∧ (parseMethodDescriptor y.desc).map (fun d => d.parameters.length) = some nA) (hnA : av.length = nA) (hrm : rm.cells = 0 ∧ rm.slots = 0 ∧ rm.frames + 1 ≤ R.frames ∧ 8 + (nL1 + 11) + rm.locals ≤ R.locals) (hstk : stk = av.reverse ++ .ref a0 :: st) (hst : (st.map fun v => v.category).sum ≤ 8) (hdg : decode cc pc = .ok (.invokevirtual index, 3)) (k : ∀ (r : Int32) (σ' : zzS), post r σ' → Z σ' (pc + 3) L (.int r :: st)) : Z σ pc L stk := by
  obtain ⟨p, e, s, m, args, below, meth, c, A, kc, ks, Q, ⟨hx, hb, hml, hown, hts, hK, hA, hkc, hks⟩, rfl⟩ := C
  intro H locs ls hP hD hS hl
  subst hstk
  subst hCn
  subst hnA
  have hFc : ∀ q, va_A (w σ) H.size q → A q := fun q h => by
    rcases h with ⟨kk, e, h⟩ | h
    · exact hD.2 kk (q, e) h
    · exact hA q (Nat.le_trans hS.1 h)
  refine va_calli (va_runV (As := av) (rest := st) ⟨hx, hb, hml, hown, hts⟩ (hM H.size) (cwV av.length hts (lw_V q1 q2 q3 q4 q5) rfl hrm.1 hrm.2.1 ⟨rfl, hd⟩ ⟨hrm.2.2.1, hrm.2.2.2⟩) ⟨fun a U g mk q => by obtain ⟨q0, q1, qP, qK, qD⟩ := q; exact ⟨q0, q1, qP, va_K.moved (u := U) (U := U.calling g mk a) (Vm.Alike.refl U.vm) qK, qD⟩, va_recv hK hP (ci := ci) (q0 := 0) hc he, fun U hU hW => ⟨rfl, by rw [hU], by rw [hU]; exact hP, va_K.moved hW.alike hK, hD.weaken (fun _ _ _ _ => trivial)⟩⟩ rfl rfl hl.1.1 rfl (lv_room hst) hdg ⟨hkc, hks⟩) hS (fun q _ h => hFc q h) hFc (fun r σ' t H1 locs1 ht hvm hw1 hB hz1 hk1 hS1 => ?_)
  obtain ⟨hP1, hK1, hD1⟩ := hB
  rw [ht] at hP1
  exact k r σ' hw1 H1 locs1 ls hP1 (hD1.weaken (fun _ q _ h => hFc q.1 h)) hS1 hl
/-- a call of a method of the same world, by its contract -/
theorem zz_callv (C : zzX l R D tys w cc nL own Z) {y : MethodName} {c1 : ByteArray} {nL1 : Nat} {rm : Room} {a0 : Nat} {av : List Value} {post : zzS → Prop} (hM : zzMv l y c1 nL1 rm D tys w a0 av σ post) {index ci nA : Nat} {Cn : String} {T : u_T} {N : Nat} {fs stk : List Value} (he : (w σ)[0]? = some (a0, .inr (ci, fs))) (hc : zzcl[ci]? = some (Cn, T, N)) (hCn : y.cls = Cn) (q1 : Cond.methodLink own index y ∈ lw_all) (q2 : Cond.instanceMethod y ∈ lw_all) (q3 : Cond.selects Cn y y ∈ lw_all) (q4 : Cond.initialized Cn ∈ lw_all) (q5 : Cond.code y c1 nL1 none ∈ lw_all)
    (hd : y.cls ≠ "java/lang/invoke/MethodHandle" ∧ y.cls ≠ "java/lang/invoke/VarHandle" ∧ (parseMethodDescriptor y.desc).map (fun d => d.parameters.length) = some nA) (hnA : av.length = nA) (hrm : rm.cells = 0 ∧ rm.slots = 0 ∧ rm.frames + 1 ≤ R.frames ∧ 8 + (nL1 + 11) + rm.locals ≤ R.locals) (hstk : stk = av.reverse ++ .ref a0 :: st) (hst : (st.map fun v => v.category).sum ≤ 8) (hdg : decode cc pc = .ok (.invokevirtual index, 3)) (k : ∀ (σ' : zzS), post σ' → Z σ' (pc + 3) L st) : Z σ pc L stk := by
  obtain ⟨p, e, s, m, args, below, meth, c, A, kc, ks, Q, ⟨hx, hb, hml, hown, hts, hK, hA, hkc, hks⟩, rfl⟩ := C
  intro H locs ls hP hD hS hl
  subst hstk
  subst hCn
  subst hnA
  have hFc : ∀ q, va_A (w σ) H.size q → A q := fun q h => by
    rcases h with ⟨kk, e, h⟩ | h
    · exact hD.2 kk (q, e) h
    · exact hA q (Nat.le_trans hS.1 h)
  refine va_callv (va_runV (As := av) (rest := st) ⟨hx, hb, hml, hown, hts⟩ (hM H.size) (cwV av.length hts (lw_V q1 q2 q3 q4 q5) rfl hrm.1 hrm.2.1 ⟨rfl, hd⟩ ⟨hrm.2.2.1, hrm.2.2.2⟩) ⟨fun a U g mk q => by obtain ⟨q0, q1, qP, qK, qD⟩ := q; exact ⟨q0, q1, qP, va_K.moved (u := U) (U := U.calling g mk a) (Vm.Alike.refl U.vm) qK, qD⟩, va_recv hK hP (ci := ci) (q0 := 0) hc he, fun U hU hW => ⟨rfl, by rw [hU], by rw [hU]; exact hP, va_K.moved hW.alike hK, hD.weaken (fun _ _ _ _ => trivial)⟩⟩ rfl rfl hl.1.1 rfl (lv_room hst) hdg ⟨hkc, hks⟩) hS (fun q _ h => hFc q h) hFc (fun σ' t H1 locs1 ht hvm hw1 hB hz1 hk1 hS1 => ?_)
  obtain ⟨hP1, hK1, hD1⟩ := hB
  rw [ht] at hP1
  exact k σ' hw1 H1 locs1 ls hP1 (hD1.weaken (fun _ q _ h => hFc q.1 h)) hS1 hl
end ZR
/-- a contract out of a walk -/
theorem zzMi_of {l : Launch} {y : MethodName} {cc : ByteArray} {nL : Nat} {ret : FieldType} {rm : Room} {D : va_G} {tys : zzT} {w : zzS → va_W} {a0 : Nat} {av : List Value} {σ : zzS} {post : Int32 → zzS → Prop} (own : String) (hown0 : y.cls = own) (hy : plainName y.cls = true) (hn0 : av.length + 1 ≤ nL) (hcat0 : (av.all fun v => v.category == 1) = true)
    (body : ∀ Z : zzS → Nat → List Value → List Value → Prop, zzX l rm D tys w cc nL own Z → (∀ (σ' : zzS) (pc : Nat) (L : List Value) (r : Int32), decode cc pc = .ok (.ireturn, 1) → narrow ret (.int r) = .int r → post r σ' → Z σ' pc L [.int r]) → Z σ 0 (.ref a0 :: av) []) : zzMi l y cc nL ret rm D tys w a0 av σ post := by
  have hcat : ∀ v ∈ av, v.category = 1 := fun v hv => by simpa using List.all_eq_true.mp hcat0 v hv
  intro sz
  refine Met.ofW (cc := cc) (maxL := nL) (ret := (some ret)) hy rfl ?_
  intro p e s m args below meth c s₁ B hml hv
  obtain ⟨rfl, hsz, hP0, hK, hD0⟩ := hv
  have hx := B.exec
  have hb := B.bytes
  have hr := B.returns
  have hts0 := atoms_spec (ws := ws_ y cc nL (some ret)) B.pre
  have hts : ∀ x ∈ lw_all, x.before _ s = true := fun x h => hts0 x (List.mem_cons_of_mem _ h)
  have hown : s.vm.findClass own = some m.cls := by rw [← hown0]; exact findClass_of_methodNamed B.named
  have hlocks := B.notSynchronized
  subst hsz
  have hD1 := hD0.self (sz := s.heap.size)
  generalize hAe : va_A (w σ) s.heap.size = A at hD1 ⊢
  have hA : ∀ q : Nat, s.heap.size ≤ q → A q := fun q h => by rw [← hAe]; exact Or.inr h
  have hcat1 : ∀ v ∈ (.ref a0 :: av : List Value), v.category = 1 := fun v hv => by
    rcases List.mem_cons.mp hv with h | h
    · rw [h]; rfl
    · exact hcat v h
  have hlen : (lg_sl (.ref a0 :: av)).length ≤ nL := by rw [zzL_sl _ hcat1]; exact hn0
  have hl := lv_entry (.ref a0 :: av) (n := nL) hlen
  rw [lg_entry_eq]
  rw [zzL_args _ _ hcat1] at hl
  refine body (fun σ1 pc L st => zzW p l e rm s m (.ref a0 :: av : List Value).toArray below meth c D A nL 0 0 (MQ below (va_Qi post (fun σ' t => va_P D zzcl (w σ') t.heap ∧ va_K D zzcl tys t ∧ va_D A (w σ')) A) (.ref a0 :: av : List Value).toArray s 0 0 A) (w σ1) pc L st) ⟨p, e, s, m, _, below, meth, c, A, 0, 0, _, ⟨hx, hb, hml, hown, hts, hK, hA, Nat.zero_le _, Nat.zero_le _⟩, rfl⟩ ?_ s.heap [] _ hP0 hD1 va_S.rf ⟨hl, hcat1⟩
  · intro σ' pc L r hdg hn hp H locs ls hP hD hS hl
    exact W.zret hx hb hr hn (fun t ht hW => ⟨⟨r, σ', rfl, hp, by rw [ht]; exact hP, va_K.moved hW.alike hK, hD⟩, hS.F ht⟩) hS.2.2 hdg hlocks
/-- a contract out of a walk -/
theorem zzMv_of {l : Launch} {y : MethodName} {cc : ByteArray} {nL : Nat} {rm : Room} {D : va_G} {tys : zzT} {w : zzS → va_W} {a0 : Nat} {av : List Value} {σ : zzS} {post : zzS → Prop} (own : String) (hown0 : y.cls = own) (hy : plainName y.cls = true) (hn0 : av.length + 1 ≤ nL) (hcat0 : (av.all fun v => v.category == 1) = true)
    (body : ∀ Z : zzS → Nat → List Value → List Value → Prop, zzX l rm D tys w cc nL own Z → (∀ (σ' : zzS) (pc : Nat) (L : List Value), decode cc pc = .ok (.return_, 1) → post σ' → Z σ' pc L []) → Z σ 0 (.ref a0 :: av) []) : zzMv l y cc nL rm D tys w a0 av σ post := by
  have hcat : ∀ v ∈ av, v.category = 1 := fun v hv => by simpa using List.all_eq_true.mp hcat0 v hv
  intro sz
  refine Met.ofW (cc := cc) (maxL := nL) (ret := none) hy rfl ?_
  intro p e s m args below meth c s₁ B hml hv
  obtain ⟨rfl, hsz, hP0, hK, hD0⟩ := hv
  have hx := B.exec
  have hb := B.bytes
  have hr := B.returns
  have hts0 := atoms_spec (ws := ws_ y cc nL none) B.pre
  have hts : ∀ x ∈ lw_all, x.before _ s = true := fun x h => hts0 x (List.mem_cons_of_mem _ h)
  have hown : s.vm.findClass own = some m.cls := by rw [← hown0]; exact findClass_of_methodNamed B.named
  have hlocks := B.notSynchronized
  subst hsz
  have hD1 := hD0.self (sz := s.heap.size)
  generalize hAe : va_A (w σ) s.heap.size = A at hD1 ⊢
  have hA : ∀ q : Nat, s.heap.size ≤ q → A q := fun q h => by rw [← hAe]; exact Or.inr h
  have hcat1 : ∀ v ∈ (.ref a0 :: av : List Value), v.category = 1 := fun v hv => by
    rcases List.mem_cons.mp hv with h | h
    · rw [h]; rfl
    · exact hcat v h
  have hlen : (lg_sl (.ref a0 :: av)).length ≤ nL := by rw [zzL_sl _ hcat1]; exact hn0
  have hl := lv_entry (.ref a0 :: av) (n := nL) hlen
  rw [lg_entry_eq]
  rw [zzL_args _ _ hcat1] at hl
  refine body (fun σ1 pc L st => zzW p l e rm s m (.ref a0 :: av : List Value).toArray below meth c D A nL 0 0 (MQ below (va_Qv post (fun σ' t => va_P D zzcl (w σ') t.heap ∧ va_K D zzcl tys t ∧ va_D A (w σ')) A) (.ref a0 :: av : List Value).toArray s 0 0 A) (w σ1) pc L st) ⟨p, e, s, m, _, below, meth, c, A, 0, 0, _, ⟨hx, hb, hml, hown, hts, hK, hA, Nat.zero_le _, Nat.zero_le _⟩, rfl⟩ ?_ s.heap [] _ hP0 hD1 va_S.rf ⟨hl, hcat1⟩
  · intro σ' pc L hdg hp H locs ls hP hD hS hl
    exact W.vret hx hb hr (fun t ht hW => ⟨⟨σ', rfl, hp, by rw [ht]; exact hP, va_K.moved hW.alike hK, hD⟩, hS.F ht⟩) hS.2.2 hdg hlocks
end
section
set_option maxRecDepth 100000
def wX (h : Nat → Nat) (d : Nat → ClassId) (σ : zzS) : va_W := [(h 0, .inr (0, [.int (σ 0 0), .ref (h 1), .int (σ 0 2), .int (σ 0 3), .ref (h 4), .ref (h 5), .ref (h 6), .ref (h 7), .ref (h 8), .ref (h 9), .ref (h 10), .ref (h 11), .ref (h 12), .ref (h 13), .ref (h 14), .ref (h 15)])),
  (h 1, .inl (d 1, 20, .inl (σ 1))),
  (h 4, .inl (d 4, 161, .inl (σ 4))),
  (h 5, .inl (d 5, 161, .inl (σ 5))),
  (h 6, .inl (d 6, 161, .inl (σ 6))),
  (h 7, .inl (d 7, 161, .inl (σ 7))),
  (h 8, .inl (d 8, 8, .inl (σ 8))),
  (h 9, .inl (d 9, 8, .inl (σ 9))),
  (h 10, .inl (d 10, 8, .inl (σ 10))),
  (h 11, .inl (d 11, 8, .inl (σ 11))),
  (h 12, .inl (d 12, 256, .inl (σ 12))),
  (h 13, .inl (d 13, 1449, .inl (σ 13))),
  (h 14, .inl (d 14, 9, .inl (σ 14))),
  (h 15, .inl (d 15, 9, .inl (σ 15)))]
def wM (h : Nat → Nat) (d : Nat → ClassId) (σ : zzS) : va_W := [(h 0, .inr (1, [.int (σ 0 0), .ref (h 1), .ref (h 2)])),
  (h 1, .inl (d 1, 20, .inl (σ 1))),
  (h 2, .inl (d 2, 256, .inl (σ 2)))]
def tX (d : Nat → ClassId) : zzT := [(d 1, .short), (d 4, .byte), (d 5, .byte), (d 6, .short), (d 7, .short), (d 8, .short), (d 9, .byte), (d 10, .byte), (d 11, .byte), (d 12, .byte), (d 13, .byte), (d 14, .short), (d 15, .byte)]
def tM (d : Nat → ClassId) : zzT := [(d 1, .int), (d 2, .int)]
def xtl : Nat → Option (FieldType × Nat)
  | 1 => some (.short, 20)
  | 4 => some (.byte, 161)
  | 5 => some (.byte, 161)
  | 6 => some (.short, 161)
  | 7 => some (.short, 161)
  | 8 => some (.short, 8)
  | 9 => some (.byte, 8)
  | 10 => some (.byte, 8)
  | 11 => some (.byte, 8)
  | 12 => some (.byte, 256)
  | 13 => some (.byte, 1449)
  | 14 => some (.short, 9)
  | 15 => some (.byte, 9)
  | _ => none
def mtl : Nat → Option (FieldType × Nat)
  | 1 => some (.int, 20)
  | 2 => some (.int, 256)
  | _ => none
def xps (k : Nat) : Nat := if k = 1 then 1 else k - 2
def mps (k : Nat) : Nat := k
theorem x_at (h : Nat → Nat) (d : Nat → ClassId) (σ : zzS) (ty : FieldType) (n : Nat) : ∀ k : Nat, xtl k = some (ty, n) → (wX h d σ)[xps k]? = some (h k, .inl (d k, n, .inl (σ k)))
  | 0, hk => by cases hk
  | 1, hk => by cases hk; rfl
  | 2, hk => by cases hk
  | 3, hk => by cases hk
  | 4, hk => by cases hk; rfl
  | 5, hk => by cases hk; rfl
  | 6, hk => by cases hk; rfl
  | 7, hk => by cases hk; rfl
  | 8, hk => by cases hk; rfl
  | 9, hk => by cases hk; rfl
  | 10, hk => by cases hk; rfl
  | 11, hk => by cases hk; rfl
  | 12, hk => by cases hk; rfl
  | 13, hk => by cases hk; rfl
  | 14, hk => by cases hk; rfl
  | 15, hk => by cases hk; rfl
  | k + 16, hk => by cases hk
theorem x_ty (d : Nat → ClassId) (ty : FieldType) (n : Nat) : ∀ k : Nat, xtl k = some (ty, n) → (tX d)[xps k - 1]? = some (d k, ty)
  | 0, hk => by cases hk
  | 1, hk => by cases hk; rfl
  | 2, hk => by cases hk
  | 3, hk => by cases hk
  | 4, hk => by cases hk; rfl
  | 5, hk => by cases hk; rfl
  | 6, hk => by cases hk; rfl
  | 7, hk => by cases hk; rfl
  | 8, hk => by cases hk; rfl
  | 9, hk => by cases hk; rfl
  | 10, hk => by cases hk; rfl
  | 11, hk => by cases hk; rfl
  | 12, hk => by cases hk; rfl
  | 13, hk => by cases hk; rfl
  | 14, hk => by cases hk; rfl
  | 15, hk => by cases hk; rfl
  | k + 16, hk => by cases hk
theorem x_ln (ty : FieldType) (n : Nat) : ∀ k : Nat, xtl k = some (ty, n) → n < 2 ^ 31
  | 0, hk => by cases hk
  | 1, hk => by cases hk; decide
  | 2, hk => by cases hk
  | 3, hk => by cases hk
  | 4, hk => by cases hk; decide
  | 5, hk => by cases hk; decide
  | 6, hk => by cases hk; decide
  | 7, hk => by cases hk; decide
  | 8, hk => by cases hk; decide
  | 9, hk => by cases hk; decide
  | 10, hk => by cases hk; decide
  | 11, hk => by cases hk; decide
  | 12, hk => by cases hk; decide
  | 13, hk => by cases hk; decide
  | 14, hk => by cases hk; decide
  | 15, hk => by cases hk; decide
  | k + 16, hk => by cases hk
theorem x_set (h : Nat → Nat) (d : Nat → ClassId) (σ : zzS) (ty : FieldType) (n j : Nat) (v : Int32) : ∀ k : Nat, xtl k = some (ty, n) → (wX h d σ).set (xps k) (h k, .inl (d k, n, .inl (upd (σ k) j v))) = wX h d (zzu σ k j v)
  | 0, hk => by cases hk
  | 1, hk => by cases hk; rfl
  | 2, hk => by cases hk
  | 3, hk => by cases hk
  | 4, hk => by cases hk; rfl
  | 5, hk => by cases hk; rfl
  | 6, hk => by cases hk; rfl
  | 7, hk => by cases hk; rfl
  | 8, hk => by cases hk; rfl
  | 9, hk => by cases hk; rfl
  | 10, hk => by cases hk; rfl
  | 11, hk => by cases hk; rfl
  | 12, hk => by cases hk; rfl
  | 13, hk => by cases hk; rfl
  | 14, hk => by cases hk; rfl
  | 15, hk => by cases hk; rfl
  | k + 16, hk => by cases hk
theorem m_at (h : Nat → Nat) (d : Nat → ClassId) (σ : zzS) (ty : FieldType) (n : Nat) : ∀ k : Nat, mtl k = some (ty, n) → (wM h d σ)[mps k]? = some (h k, .inl (d k, n, .inl (σ k)))
  | 0, hk => by cases hk
  | 1, hk => by cases hk; rfl
  | 2, hk => by cases hk; rfl
  | k + 3, hk => by cases hk
theorem m_ty (d : Nat → ClassId) (ty : FieldType) (n : Nat) : ∀ k : Nat, mtl k = some (ty, n) → (tM d)[mps k - 1]? = some (d k, ty)
  | 0, hk => by cases hk
  | 1, hk => by cases hk; rfl
  | 2, hk => by cases hk; rfl
  | k + 3, hk => by cases hk
theorem m_ln (ty : FieldType) (n : Nat) : ∀ k : Nat, mtl k = some (ty, n) → n < 2 ^ 31
  | 0, hk => by cases hk
  | 1, hk => by cases hk; decide
  | 2, hk => by cases hk; decide
  | k + 3, hk => by cases hk
theorem m_set (h : Nat → Nat) (d : Nat → ClassId) (σ : zzS) (ty : FieldType) (n j : Nat) (v : Int32) : ∀ k : Nat, mtl k = some (ty, n) → (wM h d σ).set (mps k) (h k, .inl (d k, n, .inl (upd (σ k) j v))) = wM h d (zzu σ k j v)
  | 0, hk => by cases hk
  | 1, hk => by cases hk; rfl
  | 2, hk => by cases hk; rfl
  | k + 3, hk => by cases hk
section XR
variable {l : Launch} {R : Room} {D : va_G} {cc : ByteArray} {nL : Nat} {Z : zzS → Nat → List Value → List Value → Prop} {σ : zzS} {pc : Nat} {L st : List Value} {h : Nat → Nat} {d : Nat → ClassId}
theorem x_get_basketCount (C : zzX l R D (tX d) (wX h d) cc nL RX0 Z) (hdg : decode cc pc = .ok (.getfield 50, 3)) (k : Z σ (pc + 3) L (.int (σ 0 0) :: st)) : Z σ pc L (.ref (h 0) :: st) := zz_get C (Cn := RX0) (T := TX0) (N := 16) (ci := 0) 0 rfl rfl in_X0 0 (by decide) q29 rfl rfl hdg k
theorem x_put_basketCount (C : zzX l R D (tX d) (wX h d) cc nL RX0 Z) {v : Int32} (hdg : decode cc pc = .ok (.putfield 50, 3)) (k : ∀ σ' : zzS, σ' = zzu σ 0 0 v → Z σ' (pc + 3) L st) : Z σ pc L (.int v :: .ref (h 0) :: st) := zz_put C (Cn := RX0) (T := TX0) (N := 16) (ci := 0) (ty := .int) (σ' := zzu σ 0 0 v) 0 rfl rfl in_X0 tyX0 tyX0_ok nmX0 0 (by decide) q29 rfl rfl (by decide +kernel) rfl rfl (Nat.le_of_ble_eq_true rfl) rfl hdg (k _ rfl)
theorem x_get_baskets (C : zzX l R D (tX d) (wX h d) cc nL RX0 Z) (hdg : decode cc pc = .ok (.getfield 7, 3)) (k : Z σ (pc + 3) L (.ref (h 1) :: st)) : Z σ pc L (.ref (h 0) :: st) := zz_get C (Cn := RX0) (T := TX0) (N := 16) (ci := 0) 0 rfl rfl in_X0 1 (by decide) q30 rfl rfl hdg k
theorem x_get_built (C : zzX l R D (tX d) (wX h d) cc nL RX0 Z) (hdg : decode cc pc = .ok (.getfield 58, 3)) (k : Z σ (pc + 3) L (.int (σ 0 2) :: st)) : Z σ pc L (.ref (h 0) :: st) := zz_get C (Cn := RX0) (T := TX0) (N := 16) (ci := 0) 0 rfl rfl in_X0 2 (by decide) q31 rfl rfl hdg k
theorem x_put_built (C : zzX l R D (tX d) (wX h d) cc nL RX0 Z) {v : Int32} (hdg : decode cc pc = .ok (.putfield 58, 3)) (hb0 : v = 0 ∨ v = 1) (k : ∀ σ' : zzS, σ' = zzu σ 0 2 v → Z σ' (pc + 3) L st) : Z σ pc L (.int v :: .ref (h 0) :: st) := zz_put C (Cn := RX0) (T := TX0) (N := 16) (ci := 0) (ty := .boolean) (σ' := zzu σ 0 2 v) 0 rfl rfl in_X0 tyX0 tyX0_ok nmX0 2 (by decide) q31 rfl rfl (by decide +kernel) (by rcases hb0 with rfl | rfl <;> rfl) (by rcases hb0 with rfl | rfl <;> rfl) (Nat.le_of_ble_eq_true rfl) rfl hdg (k _ rfl)
theorem x_get_nodeCount (C : zzX l R D (tX d) (wX h d) cc nL RX0 Z) (hdg : decode cc pc = .ok (.getfield 82, 3)) (k : Z σ (pc + 3) L (.int (σ 0 3) :: st)) : Z σ pc L (.ref (h 0) :: st) := zz_get C (Cn := RX0) (T := TX0) (N := 16) (ci := 0) 0 rfl rfl in_X0 3 (by decide) q32 rfl rfl hdg k
theorem x_put_nodeCount (C : zzX l R D (tX d) (wX h d) cc nL RX0 Z) {v : Int32} (hdg : decode cc pc = .ok (.putfield 82, 3)) (k : ∀ σ' : zzS, σ' = zzu σ 0 3 v → Z σ' (pc + 3) L st) : Z σ pc L (.int v :: .ref (h 0) :: st) := zz_put C (Cn := RX0) (T := TX0) (N := 16) (ci := 0) (ty := .int) (σ' := zzu σ 0 3 v) 0 rfl rfl in_X0 tyX0 tyX0_ok nmX0 3 (by decide) q32 rfl rfl (by decide +kernel) rfl rfl (Nat.le_of_ble_eq_true rfl) rfl hdg (k _ rfl)
theorem x_get_thingAt (C : zzX l R D (tX d) (wX h d) cc nL RX0 Z) (hdg : decode cc pc = .ok (.getfield 13, 3)) (k : Z σ (pc + 3) L (.ref (h 4) :: st)) : Z σ pc L (.ref (h 0) :: st) := zz_get C (Cn := RX0) (T := TX0) (N := 16) (ci := 0) 0 rfl rfl in_X0 4 (by decide) q33 rfl rfl hdg k
theorem x_get_through (C : zzX l R D (tX d) (wX h d) cc nL RX0 Z) (hdg : decode cc pc = .ok (.getfield 17, 3)) (k : Z σ (pc + 3) L (.ref (h 5) :: st)) : Z σ pc L (.ref (h 0) :: st) := zz_get C (Cn := RX0) (T := TX0) (N := 16) (ci := 0) 0 rfl rfl in_X0 5 (by decide) q34 rfl rfl hdg k
theorem x_get_above (C : zzX l R D (tX d) (wX h d) cc nL RX0 Z) (hdg : decode cc pc = .ok (.getfield 20, 3)) (k : Z σ (pc + 3) L (.ref (h 6) :: st)) : Z σ pc L (.ref (h 0) :: st) := zz_get C (Cn := RX0) (T := TX0) (N := 16) (ci := 0) 0 rfl rfl in_X0 6 (by decide) q35 rfl rfl hdg k
theorem x_get_sameThing (C : zzX l R D (tX d) (wX h d) cc nL RX0 Z) (hdg : decode cc pc = .ok (.getfield 23, 3)) (k : Z σ (pc + 3) L (.ref (h 7) :: st)) : Z σ pc L (.ref (h 0) :: st) := zz_get C (Cn := RX0) (T := TX0) (N := 16) (ci := 0) 0 rfl rfl in_X0 7 (by decide) q36 rfl rfl hdg k
theorem x_get_firstOf (C : zzX l R D (tX d) (wX h d) cc nL RX0 Z) (hdg : decode cc pc = .ok (.getfield 26, 3)) (k : Z σ (pc + 3) L (.ref (h 8) :: st)) : Z σ pc L (.ref (h 0) :: st) := zz_get C (Cn := RX0) (T := TX0) (N := 16) (ci := 0) 0 rfl rfl in_X0 8 (by decide) q37 rfl rfl hdg k
theorem x_get_order (C : zzX l R D (tX d) (wX h d) cc nL RX0 Z) (hdg : decode cc pc = .ok (.getfield 29, 3)) (k : Z σ (pc + 3) L (.ref (h 9) :: st)) : Z σ pc L (.ref (h 0) :: st) := zz_get C (Cn := RX0) (T := TX0) (N := 16) (ci := 0) 0 rfl rfl in_X0 9 (by decide) q38 rfl rfl hdg k
theorem x_get_placeOf (C : zzX l R D (tX d) (wX h d) cc nL RX0 Z) (hdg : decode cc pc = .ok (.getfield 32, 3)) (k : Z σ (pc + 3) L (.ref (h 10) :: st)) : Z σ pc L (.ref (h 0) :: st) := zz_get C (Cn := RX0) (T := TX0) (N := 16) (ci := 0) 0 rfl rfl in_X0 10 (by decide) q39 rfl rfl hdg k
theorem x_get_howOften (C : zzX l R D (tX d) (wX h d) cc nL RX0 Z) (hdg : decode cc pc = .ok (.getfield 35, 3)) (k : Z σ (pc + 3) L (.ref (h 11) :: st)) : Z σ pc L (.ref (h 0) :: st) := zz_get C (Cn := RX0) (T := TX0) (N := 16) (ci := 0) 0 rfl rfl in_X0 11 (by decide) q40 rfl rfl hdg k
theorem x_get_counts (C : zzX l R D (tX d) (wX h d) cc nL RX0 Z) (hdg : decode cc pc = .ok (.getfield 38, 3)) (k : Z σ (pc + 3) L (.ref (h 12) :: st)) : Z σ pc L (.ref (h 0) :: st) := zz_get C (Cn := RX0) (T := TX0) (N := 16) (ci := 0) 0 rfl rfl in_X0 12 (by decide) q41 rfl rfl hdg k
theorem x_get_weights (C : zzX l R D (tX d) (wX h d) cc nL RX0 Z) (hdg : decode cc pc = .ok (.getfield 41, 3)) (k : Z σ (pc + 3) L (.ref (h 13) :: st)) : Z σ pc L (.ref (h 0) :: st) := zz_get C (Cn := RX0) (T := TX0) (N := 16) (ci := 0) 0 rfl rfl in_X0 13 (by decide) q42 rfl rfl hdg k
theorem x_get_setAt (C : zzX l R D (tX d) (wX h d) cc nL RX0 Z) (hdg : decode cc pc = .ok (.getfield 44, 3)) (k : Z σ (pc + 3) L (.ref (h 14) :: st)) : Z σ pc L (.ref (h 0) :: st) := zz_get C (Cn := RX0) (T := TX0) (N := 16) (ci := 0) 0 rfl rfl in_X0 14 (by decide) q43 rfl rfl hdg k
theorem x_get_goesOnAt (C : zzX l R D (tX d) (wX h d) cc nL RX0 Z) (hdg : decode cc pc = .ok (.getfield 47, 3)) (k : Z σ (pc + 3) L (.ref (h 15) :: st)) : Z σ pc L (.ref (h 0) :: st) := zz_get C (Cn := RX0) (T := TX0) (N := 16) (ci := 0) 0 rfl rfl in_X0 15 (by decide) q44 rfl rfl hdg k
theorem m_get_n (C : zzX l R D (tM d) (wM h d) cc nL RX1 Z) (hdg : decode cc pc = .ok (.getfield 7, 3)) (k : Z σ (pc + 3) L (.int (σ 0 0) :: st)) : Z σ pc L (.ref (h 0) :: st) := zz_get C (Cn := RX1) (T := TX1) (N := 3) (ci := 1) 0 rfl rfl in_X1 0 (by decide) q178 rfl rfl hdg k
theorem m_put_n (C : zzX l R D (tM d) (wM h d) cc nL RX1 Z) {v : Int32} (hdg : decode cc pc = .ok (.putfield 7, 3)) (k : ∀ σ' : zzS, σ' = zzu σ 0 0 v → Z σ' (pc + 3) L st) : Z σ pc L (.int v :: .ref (h 0) :: st) := zz_put C (Cn := RX1) (T := TX1) (N := 3) (ci := 1) (ty := .int) (σ' := zzu σ 0 0 v) 0 rfl rfl in_X1 tyX1 tyX1_ok nmX1 0 (by decide) q178 rfl rfl (by decide +kernel) rfl rfl (Nat.le_of_ble_eq_true rfl) rfl hdg (k _ rfl)
theorem m_get_baskets (C : zzX l R D (tM d) (wM h d) cc nL RX1 Z) (hdg : decode cc pc = .ok (.getfield 13, 3)) (k : Z σ (pc + 3) L (.ref (h 1) :: st)) : Z σ pc L (.ref (h 0) :: st) := zz_get C (Cn := RX1) (T := TX1) (N := 3) (ci := 1) 0 rfl rfl in_X1 1 (by decide) q179 rfl rfl hdg k
theorem m_get_counts (C : zzX l R D (tM d) (wM h d) cc nL RX1 Z) (hdg : decode cc pc = .ok (.getfield 17, 3)) (k : Z σ (pc + 3) L (.ref (h 2) :: st)) : Z σ pc L (.ref (h 0) :: st) := zz_get C (Cn := RX1) (T := TX1) (N := 3) (ci := 1) 0 rfl rfl in_X1 2 (by decide) q180 rfl rfl hdg k
theorem x_bald (C : zzX l R D (tX d) (wX h d) cc nL RX0 Z) {k n : Nat} {i : Int32} (hdg : decode cc pc = .ok (.baload, 1)) (hk : xtl k = some (.byte, n)) (j : Nat) (hi : i = nI j) (hj : j < n) (kk : Z σ (pc + 1) L (.int (σ k j) :: st)) : Z σ pc L (.int i :: .ref (h k) :: st) := zz_bald C (xps k) (xps k - 1) (x_at h d σ .byte n k hk) (x_ty d .byte n k hk) (x_ln .byte n k hk) j hi hj hdg kk
theorem x_bast (C : zzX l R D (tX d) (wX h d) cc nL RX0 Z) {k n : Nat} {i x v : Int32} (hdg : decode cc pc = .ok (.bastore, 1)) (hk : xtl k = some (.byte, n)) (j : Nat) (hi : i = nI j) (hj : j < n) (hv : vp_nar .byte x = v) (kk : ∀ σ' : zzS, σ' = zzu σ k j v → Z σ' (pc + 1) L st) : Z σ pc L (.int x :: .int i :: .ref (h k) :: st) := zz_bast C (xps k) (xps k - 1) (x_at h d σ .byte n k hk) (x_ty d .byte n k hk) (x_ln .byte n k hk) j hi hj hv (x_set h d σ .byte n j v k hk) hdg (kk _ rfl)
theorem x_sald (C : zzX l R D (tX d) (wX h d) cc nL RX0 Z) {k n : Nat} {i : Int32} (hdg : decode cc pc = .ok (.saload, 1)) (hk : xtl k = some (.short, n)) (j : Nat) (hi : i = nI j) (hj : j < n) (kk : Z σ (pc + 1) L (.int (σ k j) :: st)) : Z σ pc L (.int i :: .ref (h k) :: st) := zz_sald C (xps k) (xps k - 1) (x_at h d σ .short n k hk) (x_ty d .short n k hk) (x_ln .short n k hk) j hi hj hdg kk
theorem x_sast (C : zzX l R D (tX d) (wX h d) cc nL RX0 Z) {k n : Nat} {i x v : Int32} (hdg : decode cc pc = .ok (.sastore, 1)) (hk : xtl k = some (.short, n)) (j : Nat) (hi : i = nI j) (hj : j < n) (hv : vp_nar .short x = v) (kk : ∀ σ' : zzS, σ' = zzu σ k j v → Z σ' (pc + 1) L st) : Z σ pc L (.int x :: .int i :: .ref (h k) :: st) := zz_sast C (xps k) (xps k - 1) (x_at h d σ .short n k hk) (x_ty d .short n k hk) (x_ln .short n k hk) j hi hj hv (x_set h d σ .short n j v k hk) hdg (kk _ rfl)
theorem m_iald (C : zzX l R D (tM d) (wM h d) cc nL RX1 Z) {k n : Nat} {i : Int32} (hdg : decode cc pc = .ok (.iaload, 1)) (hk : mtl k = some (.int, n)) (j : Nat) (hi : i = nI j) (hj : j < n) (kk : Z σ (pc + 1) L (.int (σ k j) :: st)) : Z σ pc L (.int i :: .ref (h k) :: st) := zz_iald C (mps k) (mps k - 1) (m_at h d σ .int n k hk) (m_ty d .int n k hk) (m_ln .int n k hk) j hi hj hdg kk
theorem m_iast (C : zzX l R D (tM d) (wM h d) cc nL RX1 Z) {k n : Nat} {i x v : Int32} (hdg : decode cc pc = .ok (.iastore, 1)) (hk : mtl k = some (.int, n)) (j : Nat) (hi : i = nI j) (hj : j < n) (hv : x = v) (kk : ∀ σ' : zzS, σ' = zzu σ k j v → Z σ' (pc + 1) L st) : Z σ pc L (.int x :: .int i :: .ref (h k) :: st) := zz_iast C (mps k) (mps k - 1) (m_at h d σ .int n k hk) (m_ty d .int n k hk) (m_ln .int n k hk) j hi hj hv (m_set h d σ .int n j v k hk) hdg (kk _ rfl)
end XR
end
section
theorem zz_inc1 (i : Nat) : nI i + Int32.ofInt 1 = nI (i + 1) := by rw [show Int32.ofInt 1 = 1 from by decide]; exact nI_1 i
theorem zz_dec1 (i : Nat) : nI (i + 1) + Int32.ofInt (-1) = nI i := by rw [show Int32.ofInt (-1) = -1 from by decide]; exact pk_m1 i
theorem zz_inc3 (i : Nat) : nI i + Int32.ofInt 3 = nI (i + 3) := by rw [show Int32.ofInt 3 = nI 3 from by decide]; exact nI_add i 3
theorem zz_255 : (255 : Int32) = nI 255 := by decide
theorem zz_256 : (256 : Int32) = nI 256 := by decide
theorem zz_20 : (20 : Int32) = nI 20 := by decide
theorem zz_8 : (8 : Int32) = nI 8 := by decide
theorem zz_1 : (1 : Int32) = nI 1 := by decide
theorem zz_0 : (0 : Int32) = nI 0 := by decide
theorem zz_set {a : Int32} (h : 0 ≤ a ∧ a ≤ 255) : ∃ S : Nat, S < 256 ∧ a = nI S := by
  obtain ⟨j, h1, h2⟩ := nI_of2 (x := a) (M := 255) (n := 255) (by decide) (Int32.not_lt.mpr h.1) h.2
  exact ⟨j, by omega, h2⟩
theorem zz_set' {S : Nat} (h : S < 256) : 0 ≤ nI S ∧ nI S ≤ 255 := ⟨nI_pos' (by omega), by rw [zz_255]; exact nI_le (by omega) (by decide)⟩
theorem zz_lev {a : Int32} (h : 1 ≤ a ∧ a ≤ 20) : ∃ m : Nat, 1 ≤ m ∧ m ≤ 20 ∧ a = nI m := by
  have h0 : ¬ a < 0 := fun q => by
    have h1 := Int32.le_iff_toInt_le.mp h.1
    have h2 := Int32.lt_iff_toInt_lt.mp q
    rw [show (1 : Int32).toInt = 1 from by decide] at h1
    rw [show (0 : Int32).toInt = 0 from by decide] at h2
    omega
  obtain ⟨j, h1, h2⟩ := nI_of2 (x := a) (M := 20) (n := 20) (by decide) h0 h.2
  refine ⟨j, ?_, h1, h2⟩
  rw [h2, zz_1] at h
  exact (nI_leI (by decide) (by omega)).mp h.1
theorem zz_lev' {m : Nat} (h : 1 ≤ m) (h2 : m ≤ 20) : 1 ≤ nI m ∧ nI m ≤ 20 := ⟨by rw [zz_1]; exact nI_le h (by omega), by rw [zz_20]; exact nI_le h2 (by decide)⟩
/-- a loop: from its head at i the head at i + 1, or behind it -/
theorem zz_lp {P : Nat → Prop} (e : Nat) (h : ∀ i, i ≤ e → (i < e → P (i + 1)) → P i) : ∀ i, i ≤ e → P i := by
  have key : ∀ n i, i + n = e → P i := by
    intro n
    induction n with
    | zero => intro i hi; exact h i (by omega) (fun q => absurd q (by omega))
    | succ n ih => intro i hi; exact h i (by omega) (fun _ => ih (i + 1) (by omega))
  intro i hi
  exact key (e - i) i (by omega)
end
section
/-! sums and counts -/
noncomputable def ibz (p : Prop) : Nat := @ite Nat p (Classical.propDecidable p) 1 0
theorem ibz_t {p : Prop} (h : p) : ibz p = 1 := by unfold ibz; rw [if_pos h]
theorem ibz_f {p : Prop} (h : ¬ p) : ibz p = 0 := by unfold ibz; rw [if_neg h]
theorem ibz_c {p q : Prop} (h : p ↔ q) : ibz p = ibz q := by rw [propext h]
theorem ibz_le (p : Prop) : ibz p ≤ 1 := by
  rcases Classical.em p with h | h
  · rw [ibz_t h]; exact Nat.le_refl 1
  · rw [ibz_f h]; exact Nat.zero_le 1
theorem ibz_1 {p : Prop} (h : ibz p ≠ 0) : p := Classical.byContradiction fun q => h (ibz_f q)
theorem ibz_0 {p : Prop} (h : ibz p = 0) : ¬ p := fun q => by rw [ibz_t q] at h; cases h
theorem ibz_mono {p q : Prop} (h : p → q) : ibz p ≤ ibz q := by
  rcases Classical.em p with a | a
  · rw [ibz_t a, ibz_t (h a)]; exact Nat.le_refl 1
  · rw [ibz_f a]; exact Nat.zero_le _
def sNz (f : Nat → Nat) : Nat → Nat
  | 0 => 0
  | n + 1 => sNz f n + f n
theorem sNz_c {f g : Nat → Nat} : ∀ (n : Nat), (∀ i, i < n → f i = g i) → sNz f n = sNz g n
  | 0, _ => rfl
  | n + 1, h => by rw [sNz, sNz, sNz_c n (fun i hi => h i (by omega)), h n (by omega)]
theorem sNz_0 {f : Nat → Nat} : ∀ (n : Nat), (∀ i, i < n → f i = 0) → sNz f n = 0
  | 0, _ => rfl
  | n + 1, h => by rw [sNz, sNz_0 n (fun i hi => h i (by omega)), h n (by omega)]
theorem sNz_add (f g : Nat → Nat) : ∀ n : Nat, sNz (fun i => f i + g i) n = sNz f n + sNz g n
  | 0 => rfl
  | n + 1 => by rw [sNz, sNz, sNz, sNz_add f g n]; omega
theorem sNz_swap (f : Nat → Nat → Nat) (m : Nat) : ∀ n : Nat, sNz (fun i => sNz (fun j => f i j) m) n = sNz (fun j => sNz (fun i => f i j) n) m
  | 0 => by rw [sNz]; exact (sNz_0 m (fun _ _ => rfl)).symm
  | n + 1 => by
    rw [sNz, sNz_swap f m n, ← sNz_add]
    exact sNz_c m (fun j _ => rfl)
theorem sNz_one {f : Nat → Nat} (a : Nat) : ∀ n : Nat, a < n → (∀ i, i < n → i ≠ a → f i = 0) → sNz f n = f a
  | 0, h, _ => absurd h (by omega)
  | n + 1, h, h0 => by
    rcases Nat.lt_or_ge a n with q | q
    · rw [sNz, sNz_one a n q (fun i hi hne => h0 i (by omega) hne), h0 n (by omega) (by omega)]; rfl
    · have ha : a = n := by omega
      subst ha
      rw [sNz, sNz_0 a (fun i hi => h0 i (by omega) (by omega))]
      omega
theorem sNz_le {f g : Nat → Nat} : ∀ n : Nat, (∀ i, i < n → f i ≤ g i) → sNz f n ≤ sNz g n
  | 0, _ => Nat.le_refl 0
  | n + 1, h => by
    have h1 := sNz_le n (fun i hi => h i (by omega))
    have h2 := h n (by omega)
    rw [sNz, sNz]; omega
theorem sNz_ub {f : Nat → Nat} : ∀ n : Nat, (∀ i, i < n → f i ≤ 1) → sNz f n ≤ n
  | 0, _ => Nat.le_refl 0
  | n + 1, h => by
    have h1 := sNz_ub n (fun i hi => h i (by omega))
    have h2 := h n (by omega)
    rw [sNz]; omega
theorem sNz_z {f : Nat → Nat} : ∀ n : Nat, sNz f n = 0 → ∀ i, i < n → f i = 0
  | 0, _, i, hi => absurd hi (by omega)
  | n + 1, h, i, hi => by
    rw [sNz] at h
    rcases Nat.lt_or_ge i n with q | q
    · exact sNz_z n (by omega) i q
    · rw [show i = n by omega]; omega
theorem sNz_eq {f g : Nat → Nat} : ∀ n : Nat, (∀ i, i < n → f i ≤ g i) → sNz f n = sNz g n → ∀ i, i < n → f i = g i
  | 0, _, _, i, hi => absurd hi (by omega)
  | n + 1, h, e, i, hi => by
    have h1 := sNz_le n (fun i hi => h i (by omega))
    have h2 := h n (by omega)
    rw [sNz, sNz] at e
    rcases Nat.lt_or_ge i n with q | q
    · exact sNz_eq n (fun i hi => h i (by omega)) (by omega) i q
    · rw [show i = n by omega]; omega
/-- how many of 1 .. n - 1 are so -/
noncomputable def cFz (P : Nat → Prop) (n : Nat) : Nat := sNz (fun i => ibz (1 ≤ i ∧ P i)) n
theorem cFz_1 (P : Nat → Prop) : cFz P 1 = 0 := by
  unfold cFz; rw [sNz, sNz, ibz_f (fun q => absurd q.1 (by omega))]
theorem cFz_s (P : Nat → Prop) {n : Nat} (h : 1 ≤ n) : cFz P (n + 1) = cFz P n + ibz (P n) := by
  show sNz _ (n + 1) = _
  rw [sNz]; show cFz P n + ibz (1 ≤ n ∧ P n) = _
  rw [ibz_c (show (1 ≤ n ∧ P n) ↔ P n from ⟨fun q => q.2, fun q => ⟨h, q⟩⟩)]
theorem cFz_c {P Q : Nat → Prop} (n : Nat) (h : ∀ i, 1 ≤ i → i < n → (P i ↔ Q i)) : cFz P n = cFz Q n := by
  unfold cFz
  refine sNz_c n (fun i hi => ibz_c ⟨fun q => ⟨q.1, (h i q.1 hi).mp q.2⟩, fun q => ⟨q.1, (h i q.1 hi).mpr q.2⟩⟩)
theorem cFz_le (P : Nat → Prop) (n : Nat) : cFz P n ≤ n := sNz_ub n (fun _ _ => ibz_le _)
theorem cFz_mono (P : Nat → Prop) {a b : Nat} (h : a ≤ b) : cFz P a ≤ cFz P b := by
  obtain ⟨k, rfl⟩ := Nat.exists_eq_add_of_le h
  induction k with
  | zero => exact Nat.le_refl _
  | succ k ih =>
    refine Nat.le_trans (ih (by omega)) ?_
    show cFz P (a + k) ≤ sNz _ (a + k + 1)
    rw [sNz]; exact Nat.le_add_right _ _
theorem cFz_lt {P : Nat → Prop} {a b : Nat} (ha : 1 ≤ a) (h : a < b) (hp : P a) : cFz P a < cFz P b := by
  have h1 := cFz_mono P (show a + 1 ≤ b from h)
  rw [cFz_s P ha, ibz_t hp] at h1
  omega
/-! bits -/
def suz (S T : Nat) : Prop := S &&& T = S
theorem suz_iff {S T : Nat} : suz S T ↔ ∀ t, S.testBit t = true → T.testBit t = true := by
  constructor
  · intro h t ht
    have h1 : (S &&& T).testBit t = true := by rw [h]; exact ht
    rw [Nat.testBit_and, ht] at h1
    simpa using h1
  · intro h
    refine Nat.eq_of_testBit_eq (fun t => ?_)
    rw [Nat.testBit_and]
    cases hs : S.testBit t with
    | false => rfl
    | true => rw [h t hs]; rfl
theorem suz_rf (S : Nat) : suz S S := Nat.and_self S
theorem suz_tr {S T U : Nat} (h1 : suz S T) (h2 : suz T U) : suz S U := suz_iff.mpr fun t ht => suz_iff.mp h2 t (suz_iff.mp h1 t ht)
theorem suz_as {S T : Nat} (h1 : suz S T) (h2 : suz T S) : S = T := by
  unfold suz at h1 h2
  rw [Nat.and_comm] at h2
  rw [← h1, h2]
theorem bit_hi {S t : Nat} (h : S < 256) (ht : 8 ≤ t) : S.testBit t = false := by
  refine Nat.testBit_lt_two_pow (Nat.lt_of_lt_of_le h ?_)
  show 2 ^ 8 ≤ 2 ^ t
  exact Nat.pow_le_pow_right (by decide) ht
theorem bit_lt {S t : Nat} (h : S < 256) (ht : S.testBit t = true) : t < 8 := by
  rcases Nat.lt_or_ge t 8 with q | q
  · exact q
  · rw [bit_hi h q] at ht; cases ht
theorem bit_or (S t u : Nat) : (S ||| 2 ^ t).testBit u = (S.testBit u || decide (t = u)) := by
  rw [Nat.testBit_or, Nat.testBit_two_pow]
theorem or_lt {S t : Nat} (h : S < 256) (ht : t < 8) : S ||| 2 ^ t < 256 := by
  refine Nat.or_lt_two_pow (n := 8) h ?_
  exact Nat.pow_lt_pow_right (by decide) ht
theorem suz_or {S t T : Nat} : suz (S ||| 2 ^ t) T ↔ suz S T ∧ T.testBit t = true := by
  rw [suz_iff, suz_iff]
  constructor
  · intro h
    refine ⟨fun u hu => h u (by rw [bit_or, hu]; rfl), h t (by rw [bit_or]; simp)⟩
  · intro h u hu
    rw [bit_or] at hu
    rcases Bool.or_eq_true_iff.mp hu with q | q
    · exact h.1 u q
    · rw [← of_decide_eq_true q]; exact h.2
theorem suz_l (S t : Nat) : suz S (S ||| 2 ^ t) := (suz_or.mp (suz_rf _)).1
theorem bit_orE {S t : Nat} (h : S.testBit t = true) : S ||| 2 ^ t = S := suz_as (suz_or.mpr ⟨suz_rf S, h⟩) (suz_l S t)
theorem bit_orN {S t : Nat} (h : S.testBit t = false) : S ||| 2 ^ t ≠ S := fun q => by
  have h1 : (S ||| 2 ^ t).testBit t = true := by rw [bit_or]; simp
  rw [q, h] at h1; cases h1
theorem bit_ex {S T : Nat} (h : suz S T) (hne : T ≠ S) : ∃ t, T.testBit t = true ∧ S.testBit t = false := by
  refine Classical.byContradiction fun q => hne (suz_as (suz_iff.mpr fun t ht => ?_) h)
  cases hs : S.testBit t with
  | true => rfl
  | false => exact absurd ⟨t, ht, hs⟩ q
/-- how many of the first n baskets have the set S -/
noncomputable def cz (b : Nat → Nat) (n S : Nat) : Nat := sNz (fun k => ibz (suz S (b k))) n
theorem cz_le (b : Nat → Nat) (n S : Nat) : cz b n S ≤ n := sNz_ub n (fun _ _ => ibz_le _)
theorem cz_anti {b : Nat → Nat} {n S T : Nat} (h : suz S T) : cz b n T ≤ cz b n S := sNz_le n (fun _ _ => ibz_mono (fun q => suz_tr h q))
theorem cz_0 (b : Nat → Nat) : ∀ n : Nat, cz b n 0 = n
  | 0 => rfl
  | n + 1 => by
    show sNz _ n + ibz (suz 0 (b n)) = n + 1
    rw [show sNz (fun k => ibz (suz 0 (b k))) n = n from cz_0 b n, ibz_t (show suz 0 (b n) from Nat.zero_and _)]
theorem cz_c {b b' : Nat → Nat} {n : Nat} (S : Nat) (h : ∀ k, k < n → b' k = b k) : cz b' n S = cz b n S := sNz_c n (fun k hk => by rw [h k hk])
end
section
/-! what both sides answer -/
theorem cz_or {b : Nat → Nat} {n S t : Nat} : cz b n (S ||| 2 ^ t) ≤ cz b n S := cz_anti (suz_l S t)
/-- closed: by sets with one thing more, by all greater sets -/
def kXz (c : Nat → Nat) (m S : Nat) : Prop := m ≤ c S ∧ ∀ t, t < 8 → S.testBit t = false → c (S ||| 2 ^ t) ≠ c S
def nGz (c : Nat → Nat) (S v : Nat) : Prop := ∀ T, 1 ≤ T → T < 256 → T ≠ S → suz S T → ¬ v ≤ c T
def kMz (c : Nat → Nat) (m S : Nat) : Prop := m ≤ c S ∧ nGz c S (c S)
def gXz (c : Nat → Nat) (m S : Nat) : Prop := m ≤ c S ∧ ∀ t, t < 8 → S.testBit t = false → ¬ m ≤ c (S ||| 2 ^ t)
def gMz (c : Nat → Nat) (m S : Nat) : Prop := m ≤ c S ∧ nGz c S m
theorem grow1 {b : Nat → Nat} {n S T : Nat} (hT : T < 256) (hne : T ≠ S) (h : suz S T) : ∃ t, t < 8 ∧ S.testBit t = false ∧ cz b n T ≤ cz b n (S ||| 2 ^ t) := by
  obtain ⟨t, h1, h2⟩ := bit_ex h hne
  exact ⟨t, bit_lt hT h1, h2, cz_anti (suz_or.mpr ⟨h, h1⟩)⟩
theorem kz_iff (b : Nat → Nat) (n m : Nat) {S : Nat} (h1 : 1 ≤ S) (hS : S < 256) : kXz (cz b n) m S ↔ kMz (cz b n) m S := by
  constructor
  · intro h
    refine ⟨h.1, fun T a1 a2 a3 a4 a5 => ?_⟩
    obtain ⟨t, b1, b2, b3⟩ := grow1 (b := b) (n := n) a2 a3 a4
    have b4 := h.2 t b1 b2
    have b5 : cz b n (S ||| 2 ^ t) ≤ cz b n S := cz_or
    omega
  · intro h
    refine ⟨h.1, fun t a1 a2 a3 => ?_⟩
    exact h.2 (S ||| 2 ^ t) (Nat.le_trans h1 Nat.left_le_or) (or_lt hS a1) (bit_orN a2) (suz_l S t) (by omega)
theorem gz_iff (b : Nat → Nat) (n m : Nat) {S : Nat} (h1 : 1 ≤ S) (hS : S < 256) : gXz (cz b n) m S ↔ gMz (cz b n) m S := by
  constructor
  · intro h
    refine ⟨h.1, fun T a1 a2 a3 a4 a5 => ?_⟩
    obtain ⟨t, b1, b2, b3⟩ := grow1 (b := b) (n := n) a2 a3 a4
    exact h.2 t b1 b2 (by omega)
  · intro h
    refine ⟨h.1, fun t a1 a2 a3 => ?_⟩
    exact h.2 (S ||| 2 ^ t) (Nat.le_trans h1 Nat.left_le_or) (or_lt hS a1) (bit_orN a2) (suz_l S t) a3
/-- the answer to closedSet: the set with just k closed ones ahead of it -/
def ksz (P : Nat → Prop) (a r : Int32) : Prop := (∃ S, 1 ≤ S ∧ S < 256 ∧ P S ∧ a = nI (cFz P S) ∧ r = nI S) ∨ ((∀ S, 1 ≤ S → S < 256 → P S → a ≠ nI (cFz P S)) ∧ r = -3)
theorem ksz_u {P Q : Nat → Prop} {a r r' : Int32} (hPQ : ∀ S, 1 ≤ S → S < 256 → (P S ↔ Q S)) (h : ksz P a r) (h' : ksz Q a r') : r = r' := by
  have e : ∀ S, S < 256 → cFz P S = cFz Q S := fun S hS => cFz_c S (fun i h1 h2 => hPQ i h1 (by omega))
  rcases h with ⟨S, a1, a2, a3, a4, a5⟩ | ⟨h1, h2⟩
  · rcases h' with ⟨T, b1, b2, b3, b4, b5⟩ | ⟨h3, h4⟩
    · have h5 : cFz P S = cFz Q T := (nI_eq (Nat.lt_of_le_of_lt (cFz_le P S) (by omega)) (Nat.lt_of_le_of_lt (cFz_le Q T) (by omega))).mp (by rw [← a4, ← b4])
      rw [e S a2] at h5
      have hST : S = T := by
        rcases Nat.lt_trichotomy S T with q | q | q
        · have := cFz_lt a1 q ((hPQ S a1 a2).mp a3); omega
        · exact q
        · have := cFz_lt b1 q b3; omega
      rw [a5, b5, hST]
    · exact absurd (by rw [a4, e S a2]) (h3 S a1 a2 ((hPQ S a1 a2).mp a3))
  · rcases h' with ⟨T, b1, b2, b3, b4, b5⟩ | ⟨h3, h4⟩
    · exact absurd (by rw [b4, e T b2]) (h1 T b1 b2 ((hPQ T b1 b2).mpr b3))
    · rw [h2, h4]
/-- closure -/
theorem cl_iff {b : Nat → Nat} {n S t : Nat} : cz b n (S ||| 2 ^ t) = cz b n S ↔ ∀ k, k < n → suz S (b k) → (b k).testBit t = true := by
  constructor
  · intro h k hk hs
    have h1 := sNz_eq n (fun i _ => ibz_mono (p := suz (S ||| 2 ^ t) (b i)) (q := suz S (b i)) (fun q => suz_tr (suz_l S t) q)) h k hk
    rw [ibz_t hs] at h1
    exact (suz_or.mp (ibz_1 (by rw [h1]; decide))).2
  · intro h
    refine sNz_c n (fun k hk => ibz_c ⟨fun q => suz_tr (suz_l S t) q, fun q => suz_or.mpr ⟨q, h k hk q⟩⟩)
def clz (b : Nat → Nat) (n S : Nat) (r : Int32) : Prop := (cz b n S = 0 ∧ r = -3) ∨ (cz b n S ≠ 0 ∧ ∃ T, T < 256 ∧ r = nI T ∧ ∀ t, t < 8 → (T.testBit t = true ↔ cz b n (S ||| 2 ^ t) = cz b n S))
theorem clz_u {b : Nat → Nat} {n S : Nat} {r r' : Int32} (h : clz b n S r) (h' : clz b n S r') : r = r' := by
  rcases h with ⟨h1, h2⟩ | ⟨h1, T, h2, h3, h4⟩
  · rcases h' with ⟨h5, h6⟩ | ⟨h5, -⟩
    · rw [h2, h6]
    · exact absurd h1 h5
  · rcases h' with ⟨h5, h6⟩ | ⟨h5, T', h6, h7, h8⟩
    · exact absurd h5 h1
    · rw [h3, h7]
      congr 1
      refine Nat.eq_of_testBit_eq (fun t => ?_)
      rcases Nat.lt_or_ge t 8 with q | q
      · have e := (h4 t q).trans (h8 t q).symm
        cases ha : T.testBit t with
        | true => exact (e.mp ha).symm
        | false =>
          cases hb : T'.testBit t with
          | true => rw [e.mpr hb] at ha; cases ha
          | false => rfl
      · rw [bit_hi h2 q, bit_hi h6 q]
/-- companion: the best thing of the first t -/
def cmz (c : Nat → Nat) (S : Nat) : Nat → Option Nat
  | 0 => none
  | t + 1 => if S.testBit t = true then cmz c S t else match cmz c S t with
    | none => some t
    | some u => if c (S ||| 2 ^ u) < c (S ||| 2 ^ t) then some t else some u
theorem cmz_lt (c : Nat → Nat) (S : Nat) : ∀ t u, cmz c S t = some u → u < t
  | 0, u, h => by cases h
  | t + 1, u, h => by
    rw [cmz] at h
    split at h
    · exact Nat.lt_succ_of_lt (cmz_lt c S t u h)
    · split at h
      · cases h; exact Nat.lt_succ_self _
      · split at h
        · cases h; exact Nat.lt_succ_self _
        · cases h
          exact Nat.lt_succ_of_lt (cmz_lt c S t _ (by assumption))
theorem cmz_none (c : Nat → Nat) (S : Nat) : ∀ t, cmz c S t = none → ∀ u, u < t → S.testBit u = true
  | 0, _, u, hu => absurd hu (by omega)
  | t + 1, h, u, hu => by
    rw [cmz] at h
    split at h
    · rename_i hb
      rcases Nat.lt_or_ge u t with q | q
      · exact cmz_none c S t h u q
      · rw [show u = t by omega]; exact hb
    · split at h
      · cases h
      · split at h <;> cases h
theorem full_255 {S : Nat} (hS : S < 256) (h : ∀ u, u < 8 → S.testBit u = true) : S = 255 := by
  refine Nat.eq_of_testBit_eq (fun t => ?_)
  rcases Nat.lt_or_ge t 8 with q | q
  · rw [h t q, show (255 : Nat) = 2 ^ 8 - 1 from rfl, Nat.testBit_two_pow_sub_one, decide_eq_true q]
  · rw [bit_hi hS q, bit_hi (by decide) q]
/-- widest -/
noncomputable def szz (S : Nat) : Nat := sNz (fun t => ibz (S.testBit t = true)) 8
noncomputable def wzz (c : Nat → Nat) (m : Nat) : Nat → Nat
  | 0 => 0
  | S + 1 => @ite Nat (1 ≤ S ∧ m ≤ c S ∧ wzz c m S < szz S) (Classical.propDecidable _) (szz S) (wzz c m S)
theorem wzz_t {c : Nat → Nat} {m S : Nat} (h : 1 ≤ S) (h1 : m ≤ c S) (h2 : wzz c m S < szz S) : wzz c m (S + 1) = szz S := by rw [wzz, if_pos ⟨h, h1, h2⟩]
theorem wzz_f {c : Nat → Nat} {m S : Nat} (h1 : ¬ (m ≤ c S ∧ wzz c m S < szz S)) : wzz c m (S + 1) = wzz c m S := by rw [wzz, if_neg (fun q => h1 q.2)]
theorem szz_le (S : Nat) : szz S ≤ 8 := sNz_ub 8 (fun _ _ => ibz_le _)
theorem wzz_le (c : Nat → Nat) (m : Nat) : ∀ S, wzz c m S ≤ 8
  | 0 => Nat.zero_le 8
  | S + 1 => by
    rcases Classical.em (1 ≤ S ∧ m ≤ c S ∧ wzz c m S < szz S) with q | q
    · rw [wzz, if_pos q]; exact szz_le S
    · rw [wzz, if_neg q]; exact wzz_le c m S
theorem wzz_1 (c : Nat → Nat) (m : Nat) : wzz c m 1 = 0 := by rw [wzz, if_neg (fun q => absurd q.1 (by omega))]; rfl
/-- rules: by sets and their parts, by two sets apart -/
noncomputable def rXz (c : Nat → Nat) (m pc S : Nat) : Nat := cFz (fun q => q < S ∧ suz q S ∧ pc * c q ≤ 100 * c S) S
noncomputable def ruX (c : Nat → Nat) (m pc : Nat) (n : Nat) : Nat := sNz (fun S => ibz (1 ≤ S ∧ m ≤ c S) * cFz (fun q => suz q S ∧ pc * c q ≤ 100 * c S) S) n
noncomputable def rMz (c : Nat → Nat) (m pc F : Nat) (n : Nat) : Nat := cFz (fun G => F &&& G = 0 ∧ m ≤ c (F ||| G) ∧ pc * c F ≤ 100 * c (F ||| G)) n
noncomputable def ruM (c : Nat → Nat) (m pc : Nat) (n : Nat) : Nat := sNz (fun F => ibz (1 ≤ F) * rMz c m pc F 256) n
theorem xor_lt {a b : Nat} (ha : a < 256) (hb : b < 256) : a ^^^ b < 256 := Nat.xor_lt_two_pow (n := 8) ha hb
theorem xor_xor (a b : Nat) : (a ^^^ b) ^^^ b = a := by rw [Nat.xor_assoc, Nat.xor_self, Nat.xor_zero]
/-- a count stays when its range is turned round by an exclusive or -/
theorem cnt_xor (P : Nat → Prop) {q : Nat} (hq : q < 256) : sNz (fun x => ibz (P x)) 256 = sNz (fun x => ibz (P (x ^^^ q))) 256 := by
  have h1 : ∀ x, x < 256 → ibz (P x) = sNz (fun y => ibz (P x ∧ y = x ^^^ q)) 256 := by
    intro x hx
    rw [sNz_one (x ^^^ q) 256 (xor_lt hx hq) (fun i _ hne => ibz_f (fun z => hne z.2))]
    exact ibz_c ⟨fun z => ⟨z, rfl⟩, fun z => z.1⟩
  have h2 : ∀ y, y < 256 → sNz (fun x => ibz (P x ∧ y = x ^^^ q)) 256 = ibz (P (y ^^^ q)) := by
    intro y hy
    rw [sNz_one (y ^^^ q) 256 (xor_lt hy hq) (fun i _ hne => ibz_f (fun z => hne (by rw [z.2, xor_xor])))]
    exact ibz_c ⟨fun z => z.1, fun z => ⟨z, (xor_xor y q).symm⟩⟩
  rw [sNz_c 256 h1, sNz_swap]
  exact sNz_c 256 h2
theorem sub_xor {q S : Nat} (h : suz q S) : q &&& (S ^^^ q) = 0 ∧ q ||| (S ^^^ q) = S := by
  constructor
  · refine Nat.eq_of_testBit_eq (fun t => ?_)
    rw [Nat.testBit_and, Nat.testBit_xor, Nat.zero_testBit]
    cases ha : q.testBit t with
    | false => rfl
    | true => rw [suz_iff.mp h t ha]; rfl
  · refine Nat.eq_of_testBit_eq (fun t => ?_)
    rw [Nat.testBit_or, Nat.testBit_xor]
    cases ha : q.testBit t with
    | false => cases S.testBit t <;> rfl
    | true => rw [suz_iff.mp h t ha]; rfl
theorem xor_sub {q G : Nat} (h : q &&& G = 0) : suz q (G ^^^ q) ∧ q ||| G = G ^^^ q := by
  have key : ∀ t, q.testBit t = true → G.testBit t = false := by
    intro t ht
    have h1 : (q &&& G).testBit t = false := by rw [h, Nat.zero_testBit]
    rw [Nat.testBit_and, ht] at h1
    simpa using h1
  constructor
  · refine suz_iff.mpr (fun t ht => ?_)
    rw [Nat.testBit_xor, ht, key t ht]; rfl
  · refine Nat.eq_of_testBit_eq (fun t => ?_)
    rw [Nat.testBit_or, Nat.testBit_xor]
    cases ha : q.testBit t with
    | false => cases G.testBit t <;> rfl
    | true => rw [key t ha]; rfl
theorem suz_le {q S : Nat} (h : suz q S) : q ≤ S := by
  unfold suz at h
  rw [← h]; exact Nat.and_le_right
theorem ibz_mul (p q : Prop) : ibz p * ibz q = ibz (p ∧ q) := by
  rcases Classical.em p with a | a
  · rw [ibz_t a, Nat.one_mul]; exact ibz_c ⟨fun z => ⟨a, z⟩, fun z => z.2⟩
  · rw [ibz_f a, Nat.zero_mul, ibz_f (fun z => a z.1)]
theorem sNz_mul (k : Nat) (f : Nat → Nat) : ∀ n, k * sNz f n = sNz (fun i => k * f i) n
  | 0 => rfl
  | n + 1 => by rw [sNz, sNz, Nat.mul_add, sNz_mul k f n]
theorem sNz_ext {f : Nat → Nat} {a b : Nat} (h : a ≤ b) (h0 : ∀ i, a ≤ i → i < b → f i = 0) : sNz f a = sNz f b := by
  obtain ⟨k, rfl⟩ := Nat.exists_eq_add_of_le h
  clear h
  induction k with
  | zero => rfl
  | succ k ih =>
    rw [ih (fun i h1 h2 => h0 i h1 (by omega))]
    show _ = sNz f (a + k + 1)
    rw [sNz, h0 (a + k) (by omega) (by omega)]; rfl
theorem ru_eq (c : Nat → Nat) (m pc : Nat) : ruX c m pc 256 = ruM c m pc 256 := by
  unfold ruX ruM rMz cFz
  have h1 : ∀ S, S < 256 → ibz (1 ≤ S ∧ m ≤ c S) * sNz (fun i => ibz (1 ≤ i ∧ suz i S ∧ pc * c i ≤ 100 * c S)) S = sNz (fun q => ibz ((1 ≤ q ∧ q < 256) ∧ (q < S ∧ suz q S ∧ m ≤ c S ∧ pc * c q ≤ 100 * c S))) 256 := by
    intro S hS
    rw [sNz_mul]
    rw [sNz_c (g := fun q => ibz ((1 ≤ q ∧ q < 256) ∧ (q < S ∧ suz q S ∧ m ≤ c S ∧ pc * c q ≤ 100 * c S))) S (fun i hi => by
      rw [ibz_mul]
      exact ibz_c ⟨fun z => ⟨⟨z.2.1, by omega⟩, hi, z.2.2.1, z.1.2, z.2.2.2⟩, fun z => ⟨⟨by omega, z.2.2.2.1⟩, z.1.1, z.2.2.1, z.2.2.2.2⟩⟩)]
    exact sNz_ext (by omega) (fun i a1 a2 => ibz_f (fun z => absurd z.2.1 (by omega)))
  rw [sNz_c 256 h1, sNz_swap]
  refine sNz_c 256 (fun q hq => ?_)
  rcases Classical.em (1 ≤ q) with hq1 | hq1
  · rw [ibz_t hq1, Nat.one_mul, cnt_xor (fun S => (1 ≤ q ∧ q < 256) ∧ (q < S ∧ suz q S ∧ m ≤ c S ∧ pc * c q ≤ 100 * c S)) hq]
    refine sNz_c 256 (fun G hG => ibz_c ⟨fun z => ?_, fun z => ?_⟩)
    · obtain ⟨-, z1, z2, z3, z4⟩ := z
      obtain ⟨e1, e2⟩ := sub_xor z2
      rw [xor_xor] at e1 e2
      refine ⟨?_, e1, by rw [e2]; exact z3, by rw [e2]; exact z4⟩
      rcases Nat.eq_zero_or_pos G with e | e
      · rw [e, Nat.zero_xor] at z1; omega
      · exact e
    · obtain ⟨z0, z1, z2, z3⟩ := z
      obtain ⟨e1, e2⟩ := xor_sub z1
      rw [e2] at z2 z3
      refine ⟨⟨hq1, hq⟩, ?_, e1, z2, z3⟩
      rcases Nat.lt_or_eq_of_le (suz_le e1) with e | e
      · exact e
      · have : G = 0 := by
          have h9 : (G ^^^ q) ^^^ q = q ^^^ q := by rw [← e]
          rw [xor_xor, Nat.xor_self] at h9; exact h9
        omega
  · rw [ibz_f hq1, Nat.zero_mul]
    exact sNz_0 256 (fun i _ => ibz_f (fun z => hq1 z.1.1))
/-- the next part of a set -/
theorem and_mod2 (a b : Nat) : (a &&& b) % 2 = (a % 2) * (b % 2) := by
  rcases Nat.mod_two_eq_zero_or_one a with h | h <;> rcases Nat.mod_two_eq_zero_or_one b with h' | h' <;> rw [h, h']
  all_goals
    have e : (a &&& b).testBit 0 = (a.testBit 0 && b.testBit 0) := Nat.testBit_and a b 0
    simp only [Nat.testBit_zero, h, h'] at e
    rcases Nat.mod_two_eq_zero_or_one (a &&& b) with q | q <;> simp_all
theorem part_next : ∀ (p S q : Nat), suz p S → suz q S → q < p → q ≤ (p - 1) &&& S := by
  intro p
  induction p using Nat.strongRecOn with
  | _ p ih =>
    intro S q hp hq hlt
    have ep : (p &&& S) / 2 = p / 2 &&& S / 2 := Nat.and_div_two
    have eq : (q &&& S) / 2 = q / 2 &&& S / 2 := Nat.and_div_two
    have e1 : ((p - 1) &&& S) / 2 = (p - 1) / 2 &&& S / 2 := Nat.and_div_two
    have m1 := and_mod2 (p - 1) S
    have mq := and_mod2 q S
    unfold suz at hp hq
    rw [hp] at ep
    rw [hq] at eq mq
    rcases Nat.mod_two_eq_zero_or_one p with h | h
    · have hp1 : (p - 1) / 2 = p / 2 - 1 := by omega
      have hp2 : (p - 1) % 2 = 1 := by omega
      have hr := ih (p / 2) (by omega) (S / 2) (q / 2) ep.symm eq.symm (by omega)
      rw [hp1] at e1
      rw [hp2, Nat.one_mul] at m1
      have hqm : q % 2 ≤ S % 2 := by
        rcases Nat.mod_two_eq_zero_or_one q with z | z
        · omega
        · rw [z, Nat.one_mul] at mq; omega
      omega
    · have hp1 : (p - 1) / 2 = p / 2 := by omega
      rw [hp1, ← ep] at e1
      omega
theorem part_sub (p S : Nat) : suz ((p - 1) &&& S) S := by
  unfold suz; rw [Nat.and_assoc, Nat.and_self]
theorem part_lt {p S : Nat} (h : 1 ≤ p) : (p - 1) &&& S < p := Nat.lt_of_le_of_lt Nat.and_le_left (by omega)
end
section
/-! the tree, in plain numbers: nodes 1 .. N - 1, PL the place of a node's thing in the order, AB the node above -/
def lbz (PL : Nat → Nat) (p : Nat) : Nat → Nat
  | 0 => 0
  | x + 1 => if 1 ≤ x ∧ PL x = p then x else lbz PL p x
theorem lbz_in (PL : Nat → Nat) (p : Nat) : ∀ X, lbz PL p X = 0 ∨ (1 ≤ lbz PL p X ∧ lbz PL p X < X ∧ PL (lbz PL p X) = p)
  | 0 => Or.inl rfl
  | X + 1 => by
    rw [lbz]
    split
    · rename_i h; exact Or.inr ⟨h.1, Nat.lt_succ_self X, h.2⟩
    · rcases lbz_in PL p X with h | h
      · exact Or.inl h
      · exact Or.inr ⟨h.1, Nat.lt_succ_of_lt h.2.1, h.2.2⟩
theorem lbz_max (PL : Nat → Nat) (p : Nat) : ∀ X y, 1 ≤ y → y < X → PL y = p → y ≤ lbz PL p X
  | 0, y, _, h, _ => absurd h (by omega)
  | X + 1, y, h1, h2, h3 => by
    rw [lbz]
    split
    · omega
    · rename_i h
      rcases Nat.lt_or_ge y X with q | q
      · exact lbz_max PL p X y h1 q h3
      · exact absurd ⟨by omega, by rw [← show y = X by omega]; exact h3⟩ h
theorem lbz_c {PL PL' : Nat → Nat} (p : Nat) : ∀ X, (∀ y, y < X → PL' y = PL y) → lbz PL' p X = lbz PL p X
  | 0, _ => rfl
  | X + 1, h => by rw [lbz, lbz, h X (Nat.lt_succ_self X), lbz_c p X (fun y hy => h y (by omega))]
/-- the sum over the nodes of one place below X -/
noncomputable def sTz (PL W : Nat → Nat) (p X : Nat) : Nat := sNz (fun y => ibz (1 ≤ y ∧ PL y = p) * W y) X
theorem sTz_0 (PL W : Nat → Nat) (p X : Nat) (h : lbz PL p X = 0) : sTz PL W p X = 0 := by
  refine sNz_0 X (fun y hy => ?_)
  rw [ibz_f, Nat.zero_mul]
  intro q
  have := lbz_max PL p X y q.1 hy q.2
  omega
theorem sTz_s (PL W : Nat → Nat) (p : Nat) : ∀ X, lbz PL p X ≠ 0 → sTz PL W p X = sTz PL W p (lbz PL p X) + W (lbz PL p X)
  | 0, h => absurd rfl h
  | X + 1, h => by
    rw [lbz] at h ⊢
    split at h
    · rename_i hc
      rw [if_pos hc]
      show sTz PL W p X + ibz (1 ≤ X ∧ PL X = p) * W X = _
      rw [ibz_t hc, Nat.one_mul]
    · rename_i hc
      rw [if_neg hc]
      show sTz PL W p X + ibz (1 ≤ X ∧ PL X = p) * W X = _
      rw [ibz_f hc, Nat.zero_mul, Nat.add_zero]
      exact sTz_s PL W p X h
def updN (f : Nat → Nat) (k v : Nat) : Nat → Nat := fun j => if j = k then v else f j
theorem updN_s (f : Nat → Nat) (k v : Nat) : updN f k v k = v := by simp [updN]
theorem updN_n (f : Nat → Nat) {k j : Nat} (v : Nat) (h : j ≠ k) : updN f k v j = f j := by simp [updN, h]
def Trz (N : Nat) (PL AB : Nat → Nat) : Prop := 1 ≤ N ∧ (∀ x, 1 ≤ x → x < N → PL x < 8 ∧ AB x < x ∧ (1 ≤ AB x → PL (AB x) < PL x)) ∧ ∀ x y, 1 ≤ x → x < N → 1 ≤ y → y < N → PL x = PL y → AB x = AB y → x = y
/-- u: the way of the basket B over the places below q -/
def Paz (π : Nat → Nat) (N : Nat) (PL AB : Nat → Nat) (B q : Nat) (u : Nat → Nat) : Prop := u 0 = 0 ∧ ∀ p, p < q → (B.testBit (π p) = true → 1 ≤ u (p + 1) ∧ u (p + 1) < N ∧ PL (u (p + 1)) = p ∧ AB (u (p + 1)) = u p) ∧ (B.testBit (π p) = false → u (p + 1) = u p)
/-- the way u of B goes through x -/
def psz (π PL : Nat → Nat) (B q : Nat) (u : Nat → Nat) (x : Nat) : Prop := PL x < q ∧ B.testBit (π (PL x)) = true ∧ u (PL x + 1) = x
section TREE
variable {π PL AB : Nat → Nat} {N B q : Nat} {u : Nat → Nat}
theorem Paz_in (hT : Trz N PL AB) (h : Paz π N PL AB B q u) : ∀ p, p ≤ q → u p < N ∧ (u p = 0 ∨ (1 ≤ u p ∧ PL (u p) < p ∧ psz π PL B q u (u p)))
  | 0, _ => ⟨by rw [h.1]; exact hT.1, Or.inl h.1⟩
  | p + 1, hp => by
    cases hb : B.testBit (π p) with
    | true =>
      obtain ⟨h1, h2, h3, h4⟩ := (h.2 p (by omega)).1 hb
      refine ⟨h2, Or.inr ⟨h1, by omega, ?_⟩⟩
      refine ⟨by omega, by rw [h3]; exact hb, by rw [h3]⟩
    | false =>
      rw [(h.2 p (by omega)).2 hb]
      obtain ⟨h1, h2⟩ := Paz_in hT h p (by omega)
      refine ⟨h1, ?_⟩
      rcases h2 with h2 | h2
      · exact Or.inl h2
      · exact Or.inr ⟨h2.1, by omega, h2.2.2⟩
theorem Paz_mono (hT : Trz N PL AB) (h : Paz π N PL AB B q u) {a : Nat} (ha : 1 ≤ u a) : ∀ k, a + k ≤ q → 1 ≤ u (a + k) ∧ PL (u a) ≤ PL (u (a + k))
  | 0, _ => ⟨ha, Nat.le_refl _⟩
  | k + 1, hk => by
    obtain ⟨h1, h2⟩ := Paz_mono hT h ha k (by omega)
    cases hb : B.testBit (π (a + k)) with
    | true =>
      obtain ⟨b1, b2, b3, b4⟩ := (h.2 (a + k) (by omega)).1 hb
      refine ⟨b1, ?_⟩
      have b5 := (hT.2.1 _ b1 b2).2.2 (by rw [b4]; exact h1)
      rw [b4] at b5
      exact Nat.le_trans h2 (Nat.le_of_lt b5)
    | false =>
      rw [show a + (k + 1) = a + k + 1 from rfl, (h.2 (a + k) (by omega)).2 hb]
      exact ⟨h1, h2⟩
theorem Paz_next (h : Paz π N PL AB B q u) {p : Nat} (hp : p < q) (hb : B.testBit (π p) = true) : ∀ k a, a + k = p → ∃ p', a ≤ p' ∧ p' ≤ p ∧ B.testBit (π p') = true ∧ u p' = u a
  | 0, a, e => ⟨a, Nat.le_refl a, by omega, by rw [show a = p by omega]; exact hb, rfl⟩
  | k + 1, a, e => by
    cases hc : B.testBit (π a) with
    | true => exact ⟨a, Nat.le_refl a, by omega, hc, rfl⟩
    | false =>
      obtain ⟨p', h1, h2, h3, h4⟩ := Paz_next h hp hb k (a + 1) (by omega)
      exact ⟨p', by omega, h2, h3, by rw [h4, (h.2 a (by omega)).2 hc]⟩
theorem Paz_skip (h : Paz π N PL AB B q u) (hb : B.testBit (π q) = false) : Paz π N PL AB B (q + 1) (updN u (q + 1) (u q)) := by
  refine ⟨by rw [updN_n _ _ (by omega)]; exact h.1, fun p hp => ?_⟩
  rcases Nat.lt_or_ge p q with a | a
  · rw [updN_n _ _ (show p + 1 ≠ q + 1 by omega), updN_n _ _ (show p ≠ q + 1 by omega)]
    exact h.2 p a
  · have e : p = q := by omega
    subst e
    rw [updN_s, updN_n _ _ (show p ≠ p + 1 by omega)]
    exact ⟨fun z => absurd z (by rw [hb]; decide), fun _ => rfl⟩
theorem psz_skip (hb : B.testBit (π q) = false) (x : Nat) (v : Nat) : psz π PL B (q + 1) (updN u (q + 1) v) x ↔ psz π PL B q u x := by
  constructor
  · intro h
    obtain ⟨h1, h2, h3⟩ := h
    have hlt : PL x < q := by
      rcases Nat.lt_or_ge (PL x) q with a | a
      · exact a
      · rw [show PL x = q by omega, hb] at h2; cases h2
    rw [updN_n _ _ (by omega)] at h3
    exact ⟨hlt, h2, h3⟩
  · intro h
    obtain ⟨h1, h2, h3⟩ := h
    exact ⟨by omega, h2, by rw [updN_n _ _ (by omega)]; exact h3⟩
theorem Paz_go (h : Paz π N PL AB B q u) {x : Nat} (h1 : 1 ≤ x) (h2 : x < N) (h3 : PL x = q) (h4 : AB x = u q) (hb : B.testBit (π q) = true) : Paz π N PL AB B (q + 1) (updN u (q + 1) x) := by
  refine ⟨by rw [updN_n _ _ (by omega)]; exact h.1, fun p hp => ?_⟩
  rcases Nat.lt_or_ge p q with a | a
  · rw [updN_n _ _ (show p + 1 ≠ q + 1 by omega), updN_n _ _ (show p ≠ q + 1 by omega)]
    exact h.2 p a
  · have e : p = q := by omega
    subst e
    rw [updN_s, updN_n _ _ (show p ≠ p + 1 by omega)]
    exact ⟨fun _ => ⟨h1, h2, h3, h4⟩, fun z => by rw [hb] at z; cases z⟩
theorem psz_go {x : Nat} (h3 : PL x = q) (hb : B.testBit (π q) = true) (y : Nat) : ibz (psz π PL B (q + 1) (updN u (q + 1) x) y) = ibz (psz π PL B q u y) + ibz (y = x) := by
  rcases Nat.lt_trichotomy (PL y) q with a | a | a
  · have hne : y ≠ x := fun z => by rw [z] at a; omega
    rw [ibz_f hne, Nat.add_zero]
    refine ibz_c ⟨fun z => ?_, fun z => ?_⟩
    · obtain ⟨z1, z2, z3⟩ := z
      rw [updN_n _ _ (by omega)] at z3
      exact ⟨a, z2, z3⟩
    · obtain ⟨z1, z2, z3⟩ := z
      exact ⟨by omega, z2, by rw [updN_n _ _ (by omega)]; exact z3⟩
  · rw [ibz_f (p := psz π PL B q u y) (fun z => absurd z.1 (by omega)), Nat.zero_add]
    refine ibz_c ⟨fun z => ?_, fun z => ?_⟩
    · have z3 := z.2.2
      rw [a, updN_s] at z3
      exact z3.symm
    · subst z
      exact ⟨by omega, by rw [a]; exact hb, by rw [a, updN_s]⟩
  · rw [ibz_f (p := psz π PL B q u y) (fun z => absurd z.1 (by omega)), ibz_f (fun z => absurd z.1 (by omega)), ibz_f (fun z => by rw [z] at a; omega)]
theorem Trz_new (hT : Trz N PL AB) {nd : Nat} (hnd : nd < N) (hq : q < 8) (hpl : nd = 0 ∨ PL nd < q) (hno : ∀ y, 1 ≤ y → y < N → PL y = q → AB y ≠ nd) : Trz (N + 1) (updN PL N q) (updN AB N nd) := by
  refine ⟨by omega, fun x h1 h2 => ?_, fun x y a1 a2 a3 a4 a5 a6 => ?_⟩
  · rcases Nat.lt_or_ge x N with a | a
    · rw [updN_n PL _ (by omega), updN_n AB _ (by omega)]
      obtain ⟨b1, b2, b3⟩ := hT.2.1 x h1 a
      refine ⟨b1, b2, fun z => ?_⟩
      rw [updN_n PL _ (by omega)]
      exact b3 z
    · have e : x = N := by omega
      subst e
      rw [updN_s, updN_s, updN_n PL _ (by omega)]
      refine ⟨hq, hnd, fun z => ?_⟩
      rcases hpl with hpl | hpl
      · omega
      · exact hpl
  · rcases Nat.lt_or_ge x N with bx | bx
    · rw [updN_n PL _ (by omega : x ≠ N)] at a5
      rw [updN_n AB _ (by omega : x ≠ N)] at a6
      rcases Nat.lt_or_ge y N with b | b
      · rw [updN_n PL _ (by omega)] at a5
        rw [updN_n AB _ (by omega)] at a6
        exact hT.2.2 x y a1 bx a3 b a5 a6
      · have e : y = N := by omega
        subst e
        rw [updN_s] at a5 a6
        exact absurd a6 (hno x a1 bx a5)
    · have e : x = N := by omega
      subst e
      rw [updN_s] at a5 a6
      rcases Nat.lt_or_ge y x with b | b
      · rw [updN_n PL _ (by omega)] at a5
        rw [updN_n AB _ (by omega)] at a6
        exact absurd a6.symm (hno y a3 b a5.symm)
      · omega
theorem Paz_new (h : Paz π N PL AB B q u) (p0 nd : Nat) : Paz π (N + 1) (updN PL N p0) (updN AB N nd) B q u := by
  refine ⟨h.1, fun p hp => ⟨fun hb => ?_, (h.2 p hp).2⟩⟩
  obtain ⟨h1, h2, h3, h4⟩ := (h.2 p hp).1 hb
  exact ⟨h1, by omega, by rw [updN_n _ _ (by omega)]; exact h3, by rw [updN_n _ _ (by omega)]; exact h4⟩
theorem psz_new {x : Nat} (p0 : Nat) (hx : x < N) : psz π (updN PL N p0) B q u x ↔ psz π PL B q u x := by
  unfold psz
  rw [updN_n _ _ (by omega : x ≠ N)]
theorem psz_newN (hT : Trz N PL AB) (h : Paz π N PL AB B q u) (p0 : Nat) : ¬ psz π (updN PL N p0) B q u N := by
  intro z
  obtain ⟨z1, z2, z3⟩ := z
  rw [updN_s] at z1 z3
  have := (Paz_in hT h (p0 + 1) (by omega)).1
  omega
end TREE
/-- the tree of the first K baskets and of the basket B up to the place q; th: how many go through a node -/
def TIz (π : Nat → Nat) (N : Nat) (PL AB b : Nat → Nat) (ν : Nat → Nat → Nat) (K B q : Nat) (u th : Nat → Nat) : Prop := Trz N PL AB ∧ (∀ k, k < K → Paz π N PL AB (b k) 8 (ν k)) ∧ Paz π N PL AB B q u ∧ ∀ x, 1 ≤ x → x < N → th x = sNz (fun k => ibz (psz π PL (b k) 8 (ν k) x)) K + ibz (psz π PL B q u x)
section TREE2
variable {π PL AB b : Nat → Nat} {ν : Nat → Nat → Nat} {N K B q : Nat} {u th : Nat → Nat}
theorem TIz_skip (h : TIz π N PL AB b ν K B q u th) (hb : B.testBit (π q) = false) : TIz π N PL AB b ν K B (q + 1) (updN u (q + 1) (u q)) th := by
  obtain ⟨h1, h2, h3, h4⟩ := h
  exact ⟨h1, h2, Paz_skip h3 hb, fun x a1 a2 => by rw [h4 x a1 a2, ibz_c (psz_skip hb x (u q))]⟩
theorem TIz_go (h : TIz π N PL AB b ν K B q u th) (hb : B.testBit (π q) = true) {x : Nat} (h1 : 1 ≤ x) (h2 : x < N) (h3 : PL x = q) (h4 : AB x = u q) : TIz π N PL AB b ν K B (q + 1) (updN u (q + 1) x) (updN th x (th x + 1)) := by
  obtain ⟨a1, a2, a3, a4⟩ := h
  refine ⟨a1, a2, Paz_go a3 h1 h2 h3 h4 hb, fun y b1 b2 => ?_⟩
  rw [psz_go h3 hb y]
  rcases Nat.decEq y x with e | e
  · rw [updN_n _ _ e, a4 y b1 b2, ibz_f e, Nat.add_zero]
  · subst e
    rw [updN_s, a4 y b1 b2, ibz_t (p := y = y) rfl]
    rfl
theorem TIz_new (h : TIz π N PL AB b ν K B q u th) (hq : q < 8) (hno : ∀ y, 1 ≤ y → y < N → PL y = q → AB y ≠ u q) : TIz π (N + 1) (updN PL N q) (updN AB N (u q)) b ν K B q u (updN th N 0) := by
  obtain ⟨a1, a2, a3, a4⟩ := h
  obtain ⟨c1, c2⟩ := Paz_in a1 a3 q (Nat.le_refl q)
  refine ⟨Trz_new a1 c1 hq (c2.elim Or.inl (fun z => Or.inr z.2.1)) hno, fun k hk => Paz_new (a2 k hk) q (u q), Paz_new a3 q (u q), fun x b1 b2 => ?_⟩
  rcases Nat.lt_or_ge x N with e | e
  · rw [updN_n _ _ (by omega), a4 x b1 e, ibz_c (psz_new q e)]
    congr 1
    exact sNz_c K (fun k _ => (ibz_c (psz_new q e)).symm)
  · have e2 : x = N := by omega
    subst e2
    rw [updN_s, ibz_f (psz_newN a1 a3 q), sNz_0 K (fun k hk => ibz_f (psz_newN a1 (a2 k hk) q))]
theorem TIz_next (h : TIz π N PL AB b ν K (b K) 8 u th) (B' : Nat) : TIz π N PL AB b (fun k => if k = K then u else ν k) (K + 1) B' 0 (fun _ => 0) th := by
  obtain ⟨a1, a2, a3, a4⟩ := h
  refine ⟨a1, fun k hk => ?_, ⟨rfl, fun p hp => absurd hp (by omega)⟩, fun x b1 b2 => ?_⟩
  · rcases Nat.lt_or_ge k K with e | e
    · have h9 : (if k = K then u else ν k) = ν k := if_neg (by omega)
      show Paz π N PL AB (b k) 8 (if k = K then u else ν k)
      rw [h9]; exact a2 k e
    · have e2 : k = K := by omega
      subst e2
      show Paz π N PL AB (b k) 8 (if k = k then u else ν k)
      rw [if_pos rfl]; exact a3
  · rw [ibz_f (fun z => absurd z.1 (by omega)), Nat.add_zero, sNz]
    show th x = sNz (fun k => ibz (psz π PL (b k) 8 (if k = K then u else ν k) x)) K + ibz (psz π PL (b K) 8 (if K = K then u else ν K) x)
    rw [if_pos rfl, a4 x b1 b2]
    congr 1
    refine sNz_c K (fun k hk => ?_)
    have h9 : (if k = K then u else ν k) = ν k := if_neg (by omega)
    rw [h9]
theorem TIz_th (h : TIz π N PL AB b ν K B q u th) {x : Nat} (h1 : 1 ≤ x) (h2 : x < N) : th x ≤ K + 1 := by
  rw [h.2.2.2 x h1 h2]
  exact Nat.add_le_add (sNz_ub K (fun _ _ => ibz_le _)) (ibz_le _)
end TREE2
/-! counting on the tree -/
def FTz (π : Nat → Nat) (N : Nat) (PL AB b : Nat → Nat) (ν : Nat → Nat → Nat) (n : Nat) : Prop := Trz N PL AB ∧ ∀ k, k < n → Paz π N PL AB (b k) 8 (ν k)
noncomputable def wgz (π PL b : Nat → Nat) (ν : Nat → Nat → Nat) (n S x : Nat) : Nat := sNz (fun k => ibz (suz S (b k) ∧ psz π PL (b k) 8 (ν k) x)) n
/-- the lifted weights: of the baskets with S and the thing at place p that go through y -/
noncomputable def Gz (π PL b : Nat → Nat) (ν : Nat → Nat → Nat) (n S p y : Nat) : Nat := sNz (fun k => ibz (suz (S ||| 2 ^ π p) (b k) ∧ psz π PL (b k) 8 (ν k) y ∧ PL y ≤ p)) n
section CNT
variable {π PL AB b : Nat → Nat} {ν : Nat → Nat → Nat} {N n : Nat}
theorem wgz_le (S x : Nat) : wgz π PL b ν n S x ≤ n := sNz_ub n (fun _ _ => ibz_le _)
theorem Gz_le (S p y : Nat) : Gz π PL b ν n S p y ≤ n := sNz_ub n (fun _ _ => ibz_le _)
theorem Gz_wgz (S p y : Nat) (h : PL y ≤ p) : Gz π PL b ν n S p y = wgz π PL b ν n (S ||| 2 ^ π p) y := sNz_c n (fun k _ => ibz_c ⟨fun z => ⟨z.1, z.2.1⟩, fun z => ⟨z.1, z.2, h⟩⟩)
theorem cnt_on (h : FTz π N PL AB b ν n) (S : Nat) {p : Nat} (hp : p < 8) : sTz PL (wgz π PL b ν n S) p N = cz b n (S ||| 2 ^ π p) := by
  unfold sTz wgz cz
  rw [sNz_c (g := fun y => sNz (fun k => ibz ((1 ≤ y ∧ PL y = p) ∧ suz S (b k) ∧ psz π PL (b k) 8 (ν k) y)) n) N (fun y _ => by rw [sNz_mul]; exact sNz_c n (fun k _ => ibz_mul _ _))]
  rw [sNz_swap]
  refine sNz_c n (fun k hk => ?_)
  have hP := h.2 k hk
  rcases Classical.em (suz (S ||| 2 ^ π p) (b k)) with e | e
  · obtain ⟨e1, e2⟩ := suz_or.mp e
    obtain ⟨x1, x2, x3, x4⟩ := (hP.2 p hp).1 e2
    rw [sNz_one (ν k (p + 1)) N x2 (fun i _ hne => ibz_f (fun z => hne (by
      obtain ⟨⟨-, z1⟩, -, -, -, z2⟩ := z
      rw [z1] at z2; exact z2.symm)))]
    rw [ibz_t e, ibz_t]
    exact ⟨⟨x1, x3⟩, e1, by omega, by rw [x3]; exact e2, by rw [x3]⟩
  · rw [ibz_f e]
    refine sNz_0 N (fun y _ => ibz_f (fun z => e (suz_or.mpr ⟨z.2.1, ?_⟩)))
    have h1 := z.2.2.2.1
    rw [z.1.2] at h1
    exact h1
theorem Gz_eq (h : FTz π N PL AB b ν n) (S : Nat) {p : Nat} (hp : p < 8) {y : Nat} (hy1 : 1 ≤ y) (hyN : y < N) : Gz π PL b ν n S p y = ibz (PL y = p) * wgz π PL b ν n S y + sNz (fun c => ibz (1 ≤ c ∧ AB c = y) * Gz π PL b ν n S p c) N := by
  unfold Gz wgz
  rw [sNz_c (g := fun c => sNz (fun k => ibz ((1 ≤ c ∧ AB c = y) ∧ suz (S ||| 2 ^ π p) (b k) ∧ psz π PL (b k) 8 (ν k) c ∧ PL c ≤ p)) n) N (fun y _ => by rw [sNz_mul]; exact sNz_c n (fun k _ => ibz_mul _ _))]
  rw [sNz_swap, sNz_mul, ← sNz_add]
  refine sNz_c n (fun k hk => ?_)
  have hT := h.1
  have hP := h.2 k hk
  rw [ibz_mul]
  have hup : ∀ c, c < N → 1 ≤ c → AB c = y → psz π PL (b k) 8 (ν k) c → ν k (PL c) = y ∧ PL y < PL c ∧ psz π PL (b k) 8 (ν k) y := by
    intro c hc h1 h2 h3
    obtain ⟨c1, c2, c3⟩ := h3
    obtain ⟨-, -, -, c4⟩ := (hP.2 (PL c) c1).1 c2
    rw [c3, h2] at c4
    rcases (Paz_in hT hP (PL c) (by omega)).2 with z | z
    · omega
    · rw [← c4] at z
      exact ⟨c4.symm, z.2.1, z.2.2⟩
  rcases Classical.em (suz (S ||| 2 ^ π p) (b k)) with e | e
  · obtain ⟨e1, e2⟩ := suz_or.mp e
    rcases Classical.em (psz π PL (b k) 8 (ν k) y) with f | f
    · rcases Nat.lt_trichotomy (PL y) p with g | g | g
      · rw [ibz_t ⟨e, f, by omega⟩, ibz_f (p := PL y = p ∧ _) (fun z => by have := z.1; omega), Nat.zero_add]
        obtain ⟨p', a1, a2, a3, a4⟩ := Paz_next hP hp e2 (p - (PL y + 1)) (PL y + 1) (by omega)
        rw [f.2.2] at a4
        obtain ⟨x1, x2, x3, x4⟩ := (hP.2 p' (by omega)).1 a3
        rw [a4] at x4
        have hc : psz π PL (b k) 8 (ν k) (ν k (p' + 1)) := ⟨by omega, by rw [x3]; exact a3, by rw [x3]⟩
        rw [sNz_one (ν k (p' + 1)) N x2 (fun i hi hne => ibz_f (fun z => ?_))]
        · rw [ibz_t]
          exact ⟨⟨x1, x4⟩, e, hc, by omega⟩
        · obtain ⟨⟨z1, z2⟩, -, z3, z4⟩ := z
          obtain ⟨v1, v2, -⟩ := hup i hi z1 z2 z3
          have z5 := z3.2.2
          rcases Nat.lt_trichotomy (PL i) p' with w | w | w
          · have q1 := Paz_mono hT hP (a := PL i + 1) (by rw [z5]; exact z1) (p' - (PL i + 1)) (by omega)
            rw [z5, show PL i + 1 + (p' - (PL i + 1)) = p' by omega, a4] at q1
            omega
          · rw [w] at z5; exact hne z5.symm
          · have q1 := Paz_mono hT hP (a := p' + 1) x1 (PL i - (p' + 1)) (by have := z3.1; omega)
            rw [show p' + 1 + (PL i - (p' + 1)) = PL i by omega, v1, x3] at q1
            omega
      · rw [ibz_t ⟨e, f, by omega⟩, ibz_t ⟨g, e1, f⟩, sNz_0 N (fun c hc => ibz_f (fun z => ?_))]
        have := (hup c hc z.1.1 z.1.2 z.2.2.1).2.1
        have := z.2.2.2
        omega
      · rw [ibz_f (fun z => by have := z.2.2; omega), ibz_f (fun z => by have := z.1; omega), sNz_0 N (fun c hc => ibz_f (fun z => ?_))]
        have := (hup c hc z.1.1 z.1.2 z.2.2.1).2.1
        have := z.2.2.2
        omega
    · rw [ibz_f (fun z => f z.2.1), ibz_f (fun z => f z.2.2), sNz_0 N (fun c hc => ibz_f (fun z => ?_))]
      exact f (hup c hc z.1.1 z.1.2 z.2.2.1).2.2
  · rw [ibz_f (fun z => e z.1), ibz_f (fun z => e (suz_or.mpr ⟨z.2.1, by rw [← z.1]; exact z.2.2.2.1⟩)), sNz_0 N (fun c _ => ibz_f (fun z => e z.2.1))]
end CNT
/-- the lifting, on its way: the nodes from x on have been passed up -/
noncomputable def lfz (i G AB : Nat → Nat) (N x y : Nat) : Nat := i y + sNz (fun c => ibz (x ≤ c ∧ 1 ≤ c ∧ AB c = y) * G c) N
theorem lfz_N (i G AB : Nat → Nat) (N y : Nat) : lfz i G AB N N y = i y := by
  unfold lfz
  rw [sNz_0 N (fun c hc => by rw [ibz_f (fun z => absurd z.1 (by omega)), Nat.zero_mul])]; rfl
theorem lfz_top {i G AB : Nat → Nat} {N : Nat} (hG : ∀ y, 1 ≤ y → y < N → G y = i y + sNz (fun c => ibz (1 ≤ c ∧ AB c = y) * G c) N) (hA : ∀ c, 1 ≤ c → c < N → AB c < c) {x y : Nat} (hy : x ≤ y + 1) (hy1 : 1 ≤ y) (hyN : y < N) : lfz i G AB N x y = G y := by
  rw [hG y hy1 hyN]
  unfold lfz
  congr 1
  refine sNz_c N (fun c hc => ?_)
  congr 1
  refine ibz_c ⟨fun z => z.2, fun z => ⟨?_, z⟩⟩
  have := hA c z.1 hc
  omega
theorem lfz_step (i G AB : Nat → Nat) {N x : Nat} (h1 : 1 ≤ x) (h2 : x < N) (y : Nat) : lfz i G AB N x y = lfz i G AB N (x + 1) y + ibz (AB x = y) * G x := by
  unfold lfz
  rw [Nat.add_assoc]
  congr 1
  have e : sNz (fun c => ibz (c = x ∧ AB x = y) * G x) N = ibz (AB x = y) * G x := by
    rw [sNz_one x N h2 (fun c _ hne => by rw [ibz_f (fun z => hne z.1), Nat.zero_mul])]
    congr 1
    exact ibz_c ⟨fun z => z.2, fun z => ⟨rfl, z⟩⟩
  rw [← e, ← sNz_add]
  refine sNz_c N (fun c hc => ?_)
  rcases Nat.lt_trichotomy c x with a | a | a
  · rw [ibz_f (fun z => absurd z.1 (by omega)), ibz_f (fun z => absurd z.1 (by omega)), ibz_f (fun z => absurd z.1 (by omega))]
    simp
  · subst a
    rw [ibz_f (p := c + 1 ≤ c ∧ _) (fun z => absurd z.1 (by omega)), Nat.zero_mul, Nat.zero_add]
    congr 1
    exact ibz_c ⟨fun z => ⟨rfl, z.2.2⟩, fun z => ⟨Nat.le_refl c, h1, z.2⟩⟩
  · rw [ibz_f (p := c = x ∧ _) (fun z => by have := z.1; omega), Nat.zero_mul, Nat.add_zero]
    congr 1
    exact ibz_c ⟨fun z => ⟨by omega, z.2⟩, fun z => ⟨by omega, z.2⟩⟩
theorem lfz_le {i G AB : Nat → Nat} {N : Nat} (hG : ∀ y, 1 ≤ y → y < N → G y = i y + sNz (fun c => ibz (1 ≤ c ∧ AB c = y) * G c) N) (x : Nat) {y : Nat} (hy1 : 1 ≤ y) (hyN : y < N) : lfz i G AB N x y ≤ G y := by
  rw [hG y hy1 hyN]
  unfold lfz
  refine Nat.add_le_add_left (sNz_le N (fun c _ => Nat.mul_le_mul_right _ (ibz_mono (fun z => z.2)))) _
/-! the search: sets that are still to come from the set s with the places below q -/
def pdz (π : Nat → Nat) (s q S : Nat) : Prop := suz s S ∧ S ≠ s ∧ ∀ t, S.testBit t = true → s.testBit t = false → ∃ p, p < q ∧ π p = t
theorem pdz_0 (π : Nat → Nat) (s S : Nat) : ¬ pdz π s 0 S := by
  intro h
  obtain ⟨t, h1, h2⟩ := bit_ex h.1 h.2.1
  obtain ⟨p, h3, -⟩ := h.2.2 t h1 h2
  omega
def injz (π : Nat → Nat) : Prop := (∀ p, p < 8 → π p < 8) ∧ ∀ p q, p < 8 → q < 8 → π p = π q → p = q
section PD
variable {π : Nat → Nat} {s q S : Nat}
theorem pdz_no (hi : injz π) (hq : q < 8) (hs : s.testBit (π q) = false) (h : pdz π s q S) : S.testBit (π q) = false := by
  cases hb : S.testBit (π q) with
  | false => rfl
  | true =>
    obtain ⟨p, h1, h2⟩ := h.2.2 _ hb hs
    have := hi.2 p q (by omega) hq h2
    omega
theorem pdz_has {p : Nat} (h : pdz π (s ||| 2 ^ π q) p S) : S.testBit (π q) = true := (suz_or.mp h.1).2
theorem pdz_s (hi : injz π) (hq : q < 8) (hs : s.testBit (π q) = false) : pdz π s (q + 1) S ↔ pdz π s q S ∨ S = s ||| 2 ^ π q ∨ pdz π (s ||| 2 ^ π q) q S := by
  constructor
  · intro h
    cases hb : S.testBit (π q) with
    | false =>
      refine Or.inl ⟨h.1, h.2.1, fun t h1 h2 => ?_⟩
      obtain ⟨p, h3, h4⟩ := h.2.2 t h1 h2
      refine ⟨p, ?_, h4⟩
      rcases Nat.lt_or_ge p q with e | e
      · exact e
      · rw [show p = q by omega] at h4
        rw [← h4, hb] at h1; cases h1
    | true =>
      rcases Nat.decEq S (s ||| 2 ^ π q) with e | e
      · refine Or.inr (Or.inr ⟨suz_or.mpr ⟨h.1, hb⟩, e, fun t h1 h2 => ?_⟩)
        rw [bit_or] at h2
        obtain ⟨h5, h6⟩ := Bool.or_eq_false_iff.mp h2
        obtain ⟨p, h3, h4⟩ := h.2.2 t h1 h5
        refine ⟨p, ?_, h4⟩
        rcases Nat.lt_or_ge p q with e | e
        · exact e
        · rw [show p = q by omega] at h4
          exact absurd h4 (of_decide_eq_false h6)
      · exact Or.inr (Or.inl e)
  · intro h
    rcases h with h | h | h
    · exact ⟨h.1, h.2.1, fun t h1 h2 => by obtain ⟨p, h3, h4⟩ := h.2.2 t h1 h2; exact ⟨p, by omega, h4⟩⟩
    · subst h
      refine ⟨suz_l s _, bit_orN hs, fun t h1 h2 => ⟨q, by omega, ?_⟩⟩
      rw [bit_or, h2] at h1
      simpa using h1
    · obtain ⟨a1, a2⟩ := suz_or.mp h.1
      refine ⟨a1, fun z => absurd a2 (by rw [z, hs]; decide), fun t h1 h2 => ?_⟩
      cases hb : (s ||| 2 ^ π q).testBit t with
      | false => obtain ⟨p, h3, h4⟩ := h.2.2 t h1 hb; exact ⟨p, by omega, h4⟩
      | true =>
        rw [bit_or, h2] at hb
        exact ⟨q, by omega, by simpa using hb⟩
theorem pdz_u (h : pdz π s q S) : S ≠ s := h.2.1
end PD
theorem injz_sur {π : Nat → Nat} (hi : injz π) {t : Nat} (ht : t < 8) : ∃ p, p < 8 ∧ π p = t := by
  have h1 : sNz (fun t => sNz (fun p => ibz (π p = t)) 8) 8 = sNz (fun _ => 1) 8 := by
    rw [sNz_swap (fun t p => ibz (π p = t)) 8 8]
    refine sNz_c 8 (fun p hp => ?_)
    rw [sNz_one (π p) 8 (hi.1 p hp) (fun i _ hne => ibz_f (fun z => hne z.symm)), ibz_t rfl]
  have h2 : ∀ t, t < 8 → sNz (fun p => ibz (π p = t)) 8 ≤ 1 := by
    intro t _
    rcases Classical.em (∃ p, p < 8 ∧ π p = t) with ⟨p, e1, e2⟩ | e
    · rw [sNz_one p 8 e1 (fun i hi' hne => ibz_f (fun z => hne (hi.2 i p hi' e1 (by rw [z, e2]))))]
      exact ibz_le _
    · rw [sNz_0 8 (fun p hp => ibz_f (fun z => e ⟨p, hp, z⟩))]; exact Nat.zero_le 1
  have h3 := sNz_eq 8 h2 h1 t ht
  refine Classical.byContradiction fun e => ?_
  rw [sNz_0 8 (fun p hp => ibz_f (fun z => e ⟨p, hp, z⟩))] at h3
  cases h3
theorem pdz_all {π : Nat → Nat} (hi : injz π) {S : Nat} (hS : S < 256) : pdz π 0 8 S ↔ S ≠ 0 :=
  ⟨fun h => h.2.1, fun h => ⟨Nat.zero_and S, h, fun t h1 _ => injz_sur hi (bit_lt hS h1)⟩⟩
end
section
/-! ints as numbers -/
theorem zi_sl : ∀ t, t < 8 → ((nI t &&& 31).toBitVec.smod 32).toNat = t := by decide +kernel
theorem zi_shl : ∀ t, t < 8 → (1 : Int32) <<< (nI t &&& 31) = nI (2 ^ t) := by decide +kernel
theorem zi_by : ∀ v, v < 128 → vp_nar .byte (nI v) = nI v := by decide +kernel
theorem zi_i2b : ∀ v, v < 128 → (nI v).toInt8.toInt32 = nI v := by decide +kernel
theorem zi_sh : ∀ v, v < 256 → vp_nar .short (nI v) = nI v := by decide +kernel
theorem zi_i2s : ∀ v, v < 256 → (nI v).toInt16.toInt32 = nI v := by decide +kernel
theorem zi_bv (n : Nat) : (nI n).toBitVec = BitVec.ofNat 32 n := rfl
theorem zi_inj {a b : Int32} (h : a.toBitVec = b.toBitVec) : a = b := Int32.toBitVec_inj.mp h
theorem zi_or (a b : Nat) : nI a ||| nI b = nI (a ||| b) := by
  apply zi_inj
  rw [Int32.toBitVec_or, zi_bv, zi_bv, zi_bv]
  exact (BitVec.ofNat_or).symm
theorem zi_and (a b : Nat) : nI a &&& nI b = nI (a &&& b) := by
  apply zi_inj
  rw [Int32.toBitVec_and, zi_bv, zi_bv, zi_bv]
  exact (BitVec.ofNat_and).symm
theorem zi_xor (a b : Nat) : nI a ^^^ nI b = nI (a ^^^ b) := by
  apply zi_inj
  rw [Int32.toBitVec_xor, zi_bv, zi_bv, zi_bv]
  exact (BitVec.ofNat_xor).symm
/-- set | 1 << t -/
theorem zi_orb {S t : Nat} (ht : t < 8) : nI S ||| (1 : Int32) <<< (nI t &&& 31) = nI (S ||| 2 ^ t) := by rw [zi_shl t ht, zi_or]
/-- set >> t & 1 -/
theorem zi_bit {S t : Nat} (hS : S < 256) (ht : t < 8) : nI S >>> (nI t &&& 31) &&& 1 = nI (if S.testBit t = true then 1 else 0) := by
  rw [pk_shrN (by omega) _ t (zi_sl t ht), pk_andN (Nat.lt_of_le_of_lt (Nat.div_le_self _ _) (by omega)) 1 (by decide), Nat.testBit_eq_decide_div_mod_eq]
  congr 1
  rcases Nat.mod_two_eq_zero_or_one (S / 2 ^ t) with h | h
  · rw [show S / 2 ^ t % 2 ^ 1 = S / 2 ^ t % 2 from rfl, h]; rfl
  · rw [show S / 2 ^ t % 2 ^ 1 = S / 2 ^ t % 2 from rfl, h]; rfl
theorem zi_b1 {S t : Nat} (h : S.testBit t = true) : nI (if S.testBit t = true then 1 else 0) = 1 := by rw [if_pos h]; rfl
theorem zi_b0 {S t : Nat} (h : S.testBit t = false) : nI (if S.testBit t = true then 1 else 0) = 0 := by rw [if_neg (by rw [h]; decide)]; rfl
theorem zi_bne {S t : Nat} : ¬ nI (if S.testBit t = true then 1 else 0) = 0 → S.testBit t = true := fun h => by
  cases hb : S.testBit t with
  | true => rfl
  | false => exact absurd (zi_b0 hb) h
theorem zi_be {S t : Nat} : nI (if S.testBit t = true then 1 else 0) = 0 → S.testBit t = false := fun h => by
  cases hb : S.testBit t with
  | false => rfl
  | true => rw [zi_b1 hb] at h; exact absurd h (by decide)
theorem zi_bib (S t : Nat) : (if S.testBit t = true then 1 else 0) = ibz (S.testBit t = true) := by
  cases hb : S.testBit t with
  | true => rw [ibz_t rfl]; rfl
  | false => rw [ibz_f (by decide)]; rfl
/-- set & ~b -/
theorem zi_sub {S B : Nat} (hS : S < 256) : nI S &&& (nI B ^^^ (-1)) = 0 ↔ suz S B := by
  rw [show (-1 : Int32) = nI 4294967295 from by decide, zi_xor, zi_and, show (0 : Int32) = nI 0 from by decide, nI_eq (Nat.lt_of_le_of_lt Nat.and_le_left (by omega)) (by decide), suz_iff]
  constructor
  · intro h t ht
    have h1 : (S &&& (B ^^^ 4294967295)).testBit t = false := by rw [h, Nat.zero_testBit]
    rw [Nat.testBit_and, Nat.testBit_xor, ht, show (4294967295 : Nat) = 2 ^ 32 - 1 from rfl, Nat.testBit_two_pow_sub_one, decide_eq_true (show t < 32 from Nat.lt_trans (bit_lt hS ht) (by decide))] at h1
    cases hb : B.testBit t with
    | true => rfl
    | false => rw [hb] at h1; cases h1
  · intro h
    refine Nat.eq_of_testBit_eq (fun t => ?_)
    rw [Nat.zero_testBit, Nat.testBit_and, Nat.testBit_xor]
    cases ha : S.testBit t with
    | false => rfl
    | true =>
      rw [h t ha, show (4294967295 : Nat) = 2 ^ 32 - 1 from rfl, Nat.testBit_two_pow_sub_one, decide_eq_true (show t < 32 from Nat.lt_trans (bit_lt hS ha) (by decide))]; rfl
theorem zi_le {a b : Nat} (ha : a < 2 ^ 31) (hb : b < 2 ^ 31) : nI a ≤ nI b ↔ a ≤ b := nI_leI ha hb
theorem zi_nlt {a b : Int32} (h : ¬ a < b) : b ≤ a := Int32.not_lt.mp h
theorem zi_nle {a b : Int32} (h : ¬ a ≤ b) : b < a := Int32.not_le.mp h
theorem zi_pred {S : Nat} (h : 1 ≤ S) : nI S - 1 = nI (S - 1) := by
  obtain ⟨k, rfl⟩ : ∃ k, S = k + 1 := ⟨S - 1, by omega⟩
  exact nI_pred k
end
section
abbrev zR (f L : Nat) : Room := { frames := f, cells := 0, slots := 0, locals := L }
theorem zz_ifne {c : Prop} [Decidable c] (h : ¬ (if c then (1 : Int32) else 0) = 0) : c := Classical.byContradiction fun q => h (if_neg q)
theorem zz_ifeq {c : Prop} [Decidable c] (h : (if c then (1 : Int32) else 0) = 0) : ¬ c := fun q => by rw [if_pos q] at h; exact absurd h (by decide)
theorem zc256 {S : Nat} (hS : S ≤ 256) (c : (256 : Int32) ≤ nI S) : S = 256 := by
  rw [zz_256, zi_le (by decide) (by omega)] at c; omega
theorem zc256' {S : Nat} (hS : S ≤ 256) (c : ¬ (256 : Int32) ≤ nI S) : S < 256 := by
  rw [zz_256, zi_le (by decide) (by omega)] at c; omega
theorem zc8 {S : Nat} (hS : S ≤ 8) (c : (8 : Int32) ≤ nI S) : S = 8 := by
  rw [zz_8, zi_le (by decide) (by omega)] at c; omega
theorem zc8' {S : Nat} (hS : S ≤ 8) (c : ¬ (8 : Int32) ≤ nI S) : S < 8 := by
  rw [zz_8, zi_le (by decide) (by omega)] at c; omega
/-- an answer that asks for a level of 1 .. 20, for a set of 0 .. 255 -/
def levz (a : Int32) (f : Nat → Int32) : Int32 := if 1 ≤ a ∧ a ≤ 20 then f a.toNatClampNeg else -1
def setz (a : Int32) (f : Nat → Int32) : Int32 := if 0 ≤ a ∧ a ≤ 255 then f a.toNatClampNeg else -1
theorem levz_t {m : Nat} (h1 : 1 ≤ m) (h2 : m ≤ 20) (f : Nat → Int32) : levz (nI m) f = f m := by
  unfold levz; rw [if_pos (zz_lev' h1 h2), nI_clamp (by omega)]
theorem levz_f {a : Int32} (h : ¬ (1 ≤ a ∧ a ≤ 20)) (f : Nat → Int32) : levz a f = -1 := if_neg h
theorem setz_t {m : Nat} (h1 : m < 256) (f : Nat → Int32) : setz (nI m) f = f m := by
  unfold setz; rw [if_pos (zz_set' h1), nI_clamp (by omega)]
theorem setz_f {a : Int32} (h : ¬ (0 ≤ a ∧ a ≤ 255)) (f : Nat → Int32) : setz a f = -1 := if_neg h
/-- the model's state holds the baskets b 0 .. b (n - 1) -/
def IMz (n : Nat) (b : Nat → Nat) (σ : zzS) : Prop := n ≤ 20 ∧ σ 0 0 = nI n ∧ ∀ k, k < n → b k < 256 ∧ σ 1 k = nI (b k)
def cMz (c : Nat → Nat) (σ : zzS) : Prop := ∀ S, S < 256 → σ 2 S = nI (c S)
/-- the class's state holds them, and its counts are right if they are said to be built -/
def BXz (n : Nat) (b : Nat → Nat) (σ : zzS) : Prop := n ≤ 20 ∧ σ 0 0 = nI n ∧ ∀ k, k < n → b k < 256 ∧ σ 1 k = nI (b k)
def cXz (c : Nat → Nat) (σ : zzS) : Prop := ∀ S, S < 256 → σ 12 S = nI (c S)
def IXz (n : Nat) (b : Nat → Nat) (σ : zzS) : Prop := BXz n b σ ∧ (σ 0 2 = 0 ∨ (σ 0 2 = 1 ∧ cXz (cz b n) σ))
/-- add, drop -/
def adN (n : Nat) (a : Int32) : Nat := if 20 ≤ n then n else if 0 ≤ a ∧ a ≤ 255 then n + 1 else n
def adB (n : Nat) (b : Nat → Nat) (a : Int32) : Nat → Nat := if 20 ≤ n then b else if 0 ≤ a ∧ a ≤ 255 then updN b n a.toNatClampNeg else b
def adR (n : Nat) (a : Int32) : Int32 := if 20 ≤ n then -2 else if 0 ≤ a ∧ a ≤ 255 then nI (n + 1) else -1
def drN (n : Nat) : Nat := n - 1
def drB (n : Nat) (b : Nat → Nat) : Nat → Nat := if n = 0 then b else fun k => b (k + 1)
def drR (n : Nat) : Int32 := if n = 0 then -3 else nI (n - 1)
def rulz (a p : Int32) (f : Nat → Nat → Int32) : Int32 := if (1 ≤ a ∧ a ≤ 20) ∧ 0 ≤ p ∧ p ≤ 100 then f a.toNatClampNeg p.toNatClampNeg else -1
theorem zz_pct {p : Int32} (h : 0 ≤ p ∧ p ≤ 100) : ∃ q : Nat, q ≤ 100 ∧ p = nI q := nI_of2 (x := p) (M := 100) (n := 100) (by decide) (Int32.not_lt.mpr h.1) h.2
theorem rulz_t {m q : Nat} (h1 : 1 ≤ m) (h2 : m ≤ 20) (hq : q ≤ 100) (f : Nat → Nat → Int32) : rulz (nI m) (nI q) f = f m q := by
  unfold rulz
  rw [if_pos ⟨zz_lev' h1 h2, nI_pos' (by omega), by rw [show (100 : Int32) = nI 100 from by decide]; exact nI_le hq (by decide)⟩, nI_clamp (by omega), nI_clamp (by omega)]
theorem rulz_f {a p : Int32} (h : ¬ ((1 ≤ a ∧ a ≤ 20) ∧ 0 ≤ p ∧ p ≤ 100)) (f : Nat → Nat → Int32) : rulz a p f = -1 := if_neg h
def cmpz (c : Nat → Nat) (S : Nat) : Int32 := if c S = 0 ∨ S = 255 then -3 else match cmz c S 8 with
  | some u => nI u
  | none => -3
def comz (a : Int32) (f : Nat → Int32) : Int32 := if 1 ≤ a ∧ a ≤ 255 then f a.toNatClampNeg else -1
theorem zz_com {a : Int32} (h : 1 ≤ a ∧ a ≤ 255) : ∃ S : Nat, 1 ≤ S ∧ S < 256 ∧ a = nI S := by
  have h0 : (0 : Int32) ≤ a := Int32.le_trans (by decide) h.1
  obtain ⟨S, h1, h2⟩ := zz_set ⟨h0, h.2⟩
  refine ⟨S, ?_, h1, h2⟩
  rw [h2, zz_1] at h
  exact (nI_leI (by decide) (by omega)).mp h.1
theorem comz_t {S : Nat} (h1 : 1 ≤ S) (h2 : S < 256) (f : Nat → Int32) : comz (nI S) f = f S := by
  unfold comz
  rw [if_pos ⟨by rw [zz_1]; exact nI_le h1 (by omega), (zz_set' h2).2⟩, nI_clamp (by omega)]
theorem comz_f {a : Int32} (h : ¬ (1 ≤ a ∧ a ≤ 255)) (f : Nat → Int32) : comz a f = -1 := if_neg h
theorem rMz_s (c : Nat → Nat) (m pc F : Nat) {G : Nat} (h : 1 ≤ G) : rMz c m pc F (G + 1) = rMz c m pc F G + ibz (F &&& G = 0 ∧ m ≤ c (F ||| G) ∧ pc * c F ≤ 100 * c (F ||| G)) := cFz_s _ h
theorem ruM_s (c : Nat → Nat) (m pc : Nat) {F : Nat} (h : 1 ≤ F) : ruM c m pc (F + 1) = ruM c m pc F + rMz c m pc F 256 := by
  show sNz _ (F + 1) = _
  rw [sNz, ibz_t h, Nat.one_mul]; rfl
theorem ruM_1 (c : Nat → Nat) (m pc : Nat) : ruM c m pc 1 = 0 := by
  show sNz _ 1 = 0
  rw [sNz, sNz, ibz_f (by decide), Nat.zero_mul]
theorem or_lt2 {a b : Nat} (h : a < 256) (h2 : b < 256) : a ||| b < 256 := Nat.or_lt_two_pow (n := 8) h h2
end
section
def bstz : Option Nat → Int32
  | none => -1
  | some u => nI u
theorem zi_7 : ∀ u, u < 8 → nI u &&& 7 = nI u := by decide +kernel
theorem cmz_bit {c : Nat → Nat} {S t : Nat} (h : S.testBit t = true) : cmz c S (t + 1) = cmz c S t := by rw [cmz, if_pos h]
theorem cmz_none1 {c : Nat → Nat} {S t : Nat} (h : S.testBit t = false) (h2 : cmz c S t = none) : cmz c S (t + 1) = some t := by
  rw [cmz, if_neg (by rw [h]; decide), h2]
theorem cmz_some {c : Nat → Nat} {S t u : Nat} (h : S.testBit t = false) (h2 : cmz c S t = some u) : cmz c S (t + 1) = if c (S ||| 2 ^ u) < c (S ||| 2 ^ t) then some t else some u := by
  rw [cmz, if_neg (by rw [h]; decide), h2]
theorem zz_100 : (100 : Int32) = nI 100 := by decide
theorem cz_pos {b : Nat → Nat} {n S : Nat} (h : ∃ j, j < n ∧ suz S (b j)) : cz b n S ≠ 0 := fun q => by
  obtain ⟨j, h1, h2⟩ := h
  exact ibz_0 (sNz_z n q j h1) h2
theorem cz_zero {b : Nat → Nat} {n S : Nat} (h : ∀ j, j < n → ¬ suz S (b j)) : cz b n S = 0 := sNz_0 n (fun j hj => ibz_f (h j hj))
end
section
/-- the class's cells hold the tree -/
def TSz (π : Nat → Nat) (N : Nat) (PL AB : Nat → Nat) (σ : zzS) : Prop := N ≤ 161 ∧ σ 0 3 = nI N ∧ (∀ p, p < 8 → σ 9 p = nI (π p)) ∧ injz π ∧ (∀ p, p < 8 → σ 8 (π p) = nI (lbz PL p N)) ∧ ∀ x, 1 ≤ x → x < N → σ 7 x = nI (lbz PL (PL x) x) ∧ σ 6 x = nI (AB x)
theorem zz_161 : (161 : Int32) = nI 161 := by decide
theorem zz_7 : (7 : Int32) = nI 7 := by decide
theorem TSz_c {π : Nat → Nat} {N : Nat} {PL AB : Nat → Nat} {σ σ' : zzS} (h : TSz π N PL AB σ) (h0 : σ' 0 3 = σ 0 3) (h9 : σ' 9 = σ 9) (h8 : σ' 8 = σ 8) (h7 : σ' 7 = σ 7) (h6 : σ' 6 = σ 6) : TSz π N PL AB σ' := by
  unfold TSz
  rw [h0, h9, h8, h7, h6]
  exact h
theorem zi_g : ∀ p, p < 8 → (nI p - 1).toInt8.toInt32 = nI p - 1 := by decide +kernel
theorem zi_vg : ∀ p, p < 9 → vp_nar .byte (nI p - 1) = nI p - 1 := by decide +kernel
theorem zi_gm (d : Nat) : nI d + Int32.ofInt (-1) = nI d - 1 := by
  rw [show Int32.ofInt (-1) = -1 from by decide, Int32.sub_eq_add_neg]
theorem TSz_new {π : Nat → Nat} {N : Nat} {PL AB : Nat → Nat} {σ σ' : zzS} {q nd : Nat} (h : TSz π N PL AB σ) (hq : q < 8) (hN1 : 1 ≤ N) (hN : N + 1 ≤ 161) (f0 : σ' 0 3 = nI (N + 1)) (f9 : σ' 9 = σ 9) (f8 : ∀ t, σ' 8 t = if t = π q then nI N else σ 8 t) (f7 : ∀ x, σ' 7 x = if x = N then nI (lbz PL q N) else σ 7 x) (f6 : ∀ x, σ' 6 x = if x = N then nI nd else σ 6 x) : TSz π (N + 1) (updN PL N q) (updN AB N nd) σ' := by
  obtain ⟨t1, t2, t3, t4, t5, t6⟩ := h
  have hlb : ∀ p X, X ≤ N → lbz (updN PL N q) p X = lbz PL p X := fun p X hX => lbz_c p X (fun y hy => updN_n _ _ (by omega))
  refine ⟨hN, f0, by rw [f9]; exact t3, t4, fun p hp => ?_, fun x h1 h2 => ?_⟩
  · rw [f8, lbz, updN_s, hlb p N (Nat.le_refl N)]
    rcases Nat.decEq p q with e | e
    · rw [if_neg (fun z => e (t4.2 p q hp hq z)), if_neg (fun z => e z.2.symm)]
      exact t5 p hp
    · subst e
      rw [if_pos rfl, if_pos ⟨hN1, rfl⟩]
  · rw [f7, f6, hlb _ x (by omega)]
    rcases Nat.lt_or_ge x N with e | e
    · rw [if_neg (by omega), if_neg (by omega), updN_n _ _ (by omega), updN_n _ _ (by omega)]
      exact t6 x h1 e
    · have e2 : x = N := by omega
      subst e2
      rw [if_pos rfl, if_pos rfl, updN_s, updN_s]
      exact ⟨rfl, rfl⟩
end
section
theorem zz_decN {a : Nat} (h : 1 ≤ a) : nI a + Int32.ofInt (-1) = nI (a - 1) := by
  obtain ⟨k, rfl⟩ : ∃ k, a = k + 1 := ⟨a - 1, by omega⟩
  exact zz_dec1 k
theorem zi_m1lt {v : Nat} (h : v < 2 ^ 31) : (-1 : Int32) < nI v := by
  rw [Int32.lt_iff_toInt_lt, nI_toInt h, show (-1 : Int32).toInt = -1 from by decide]
  omega
def bsXz : Option Nat → Int32
  | none => -3
  | some u => nI u
def moXz (c : Nat → Nat) (S : Nat) : Option Nat → Int32
  | none => -1
  | some u => nI (c (S ||| 2 ^ u))
theorem cFz_gap {P : Nat → Prop} {a b : Nat} (h : a ≤ b) (h0 : ∀ i, a ≤ i → i < b → ¬ P i) : cFz P a = cFz P b := sNz_ext h (fun i h1 h2 => ibz_f (fun z => h0 i h1 h2 z.2))
theorem ruX_t (c : Nat → Nat) (m pc : Nat) {S : Nat} (h : 1 ≤ S) (hm : m ≤ c S) : ruX c m pc (S + 1) = ruX c m pc S + cFz (fun q => suz q S ∧ pc * c q ≤ 100 * c S) S := by
  show sNz _ (S + 1) = _
  rw [sNz, ibz_t ⟨h, hm⟩, Nat.one_mul]; rfl
theorem ruX_f (c : Nat → Nat) (m pc : Nat) {S : Nat} (hm : ¬ m ≤ c S) : ruX c m pc (S + 1) = ruX c m pc S := by
  show sNz _ (S + 1) = _
  rw [sNz, ibz_f (fun z => hm z.2), Nat.zero_mul]; rfl
theorem ruX_1 (c : Nat → Nat) (m pc : Nat) : ruX c m pc 1 = 0 := by
  show sNz _ 1 = 0
  rw [sNz, sNz, ibz_f (fun z => absurd z.1 (by decide)), Nat.zero_mul]
end
section
set_option maxRecDepth 100000
theorem X_isSet (l : Launch) (D : va_G) (h : Nat → Nat) (d : Nat → ClassId) (σ : zzS) (a : Int32) : zzMi l yX0_isSet cX0_isSet 2 .boolean (zR 0 0) D (tX d) (wX h d) (h 0) [.int a] σ (fun r σ' => σ' = σ ∧ r = if 0 ≤ a ∧ a ≤ 255 then 1 else 0) := by
  refine zzMi_of RX0 rfl (by decide) (Nat.le_of_ble_eq_true rfl) rfl (fun Z C E => ?_)
  refine zz_iload_n C dX0_isSet_0 rfl ?_
  refine zz_if_lt C 15 dX0_isSet_1 (by decide) (fun c1 => ?_) (fun c1 => ?_)
  · refine zz_iconst C (v := 0) dX0_isSet_15 (by decide) ?_
    refine E _ _ _ _ dX0_isSet_16 rfl ⟨rfl, (if_neg (fun q => Int32.not_lt.mpr q.1 c1)).symm⟩
  · refine zz_iload_n C dX0_isSet_4 rfl ?_
    refine zz_sipush C (v := 255) dX0_isSet_5 (by decide) ?_
    refine zz_icmp_gt C 15 dX0_isSet_8 (by decide) (fun c8 => ?_) (fun c8 => ?_)
    · refine zz_iconst C (v := 0) dX0_isSet_15 (by decide) ?_
      refine E _ _ _ _ dX0_isSet_16 rfl ⟨rfl, (if_neg (fun q => Int32.not_lt.mpr q.2 c8)).symm⟩
    · refine zz_iconst C (v := 1) dX0_isSet_11 (by decide) ?_
      refine zz_goto C 16 dX0_isSet_12 (by decide) ?_
      refine E _ _ _ _ dX0_isSet_16 rfl ⟨rfl, (if_pos ⟨Int32.not_lt.mp c1, Int32.not_lt.mp c8⟩).symm⟩
theorem X_isBound (l : Launch) (D : va_G) (h : Nat → Nat) (d : Nat → ClassId) (σ : zzS) (a : Int32) : zzMi l yX0_isBound cX0_isBound 2 .boolean (zR 0 0) D (tX d) (wX h d) (h 0) [.int a] σ (fun r σ' => σ' = σ ∧ r = if 1 ≤ a ∧ a ≤ 20 then 1 else 0) := by
  refine zzMi_of RX0 rfl (by decide) (Nat.le_of_ble_eq_true rfl) rfl (fun Z C E => ?_)
  refine zz_iload_n C dX0_isBound_0 rfl ?_
  refine zz_iconst C (v := 1) dX0_isBound_1 (by decide) ?_
  refine zz_icmp_lt C 15 dX0_isBound_2 (by decide) (fun c1 => ?_) (fun c1 => ?_)
  · refine zz_iconst C (v := 0) dX0_isBound_15 (by decide) ?_
    refine E _ _ _ _ dX0_isBound_16 rfl ⟨rfl, (if_neg (fun q => Int32.not_lt.mpr q.1 c1)).symm⟩
  · refine zz_iload_n C dX0_isBound_5 rfl ?_
    refine zz_bipush C (v := 20) dX0_isBound_6 (by decide) ?_
    refine zz_icmp_gt C 15 dX0_isBound_8 (by decide) (fun c8 => ?_) (fun c8 => ?_)
    · refine zz_iconst C (v := 0) dX0_isBound_15 (by decide) ?_
      refine E _ _ _ _ dX0_isBound_16 rfl ⟨rfl, (if_neg (fun q => Int32.not_lt.mpr q.2 c8)).symm⟩
    · refine zz_iconst C (v := 1) dX0_isBound_11 (by decide) ?_
      refine zz_goto C 16 dX0_isBound_12 (by decide) ?_
      refine E _ _ _ _ dX0_isBound_16 rfl ⟨rfl, (if_pos ⟨Int32.not_lt.mp c1, Int32.not_lt.mp c8⟩).symm⟩
theorem X_sizeOf (l : Launch) (D : va_G) (h : Nat → Nat) (d : Nat → ClassId) (σ : zzS) {S : Nat} (hS : S < 256) : zzMi l yX0_sizeOf cX0_sizeOf 4 .int (zR 0 0) D (tX d) (wX h d) (h 0) [.int (nI S)] σ (fun r σ' => σ' = σ ∧ r = nI (szz S)) := by
  refine zzMi_of RX0 rfl (by decide) (Nat.le_of_ble_eq_true rfl) rfl (fun Z C E => ?_)
  have loop : ∀ t, t ≤ 8 → ∀ v, v = nI (sNz (fun t => ibz (S.testBit t = true)) t) → Z σ 4 [.ref (h 0), .int (nI S), .int v, .int (nI t)] [] := by
    refine zz_lp 8 (fun t ht next v hv => ?_)
    subst hv
    refine zz_iload_n C dX0_sizeOf_4 rfl ?_
    refine zz_bipush C (v := 8) dX0_sizeOf_5 (by decide) ?_
    refine zz_icmp_ge C 24 dX0_sizeOf_7 (by decide) (fun c7 => ?_) (fun c7 => ?_)
    · refine zz_iload_n C dX0_sizeOf_24 rfl ?_
      refine E _ _ _ _ dX0_sizeOf_25 rfl ⟨rfl, by rw [zc8 ht c7]; rfl⟩
    · have ht' := zc8' ht c7
      refine zz_iload_n C dX0_sizeOf_10 rfl ?_
      refine zz_iload_n C dX0_sizeOf_11 rfl ?_
      refine zz_iload_n C dX0_sizeOf_12 rfl ?_
      refine zz_ishr C dX0_sizeOf_13 ?_
      refine zz_iconst C (v := 1) dX0_sizeOf_14 (by decide) ?_
      refine zz_iand C dX0_sizeOf_15 ?_
      refine zz_eq (nI (if S.testBit t = true then 1 else 0)) (zi_bit hS ht') ?_
      refine zz_iadd C dX0_sizeOf_16 ?_
      refine zz_istore_n C dX0_sizeOf_17 (L' := [_, _, _, _]) rfl ⟨Nat.le_of_ble_eq_true rfl, by decide⟩ ?_
      refine zz_iinc C dX0_sizeOf_18 rfl (zz_inc1 _) (L' := [_, _, _, _]) rfl (by decide) ?_
      refine zz_goto C 4 dX0_sizeOf_21 (by decide) ?_
      exact next ht' _ (by rw [nI_add, zi_bib]; rfl)
  refine zz_iconst C (v := 0) dX0_sizeOf_0 (by decide) ?_
  refine zz_istore_n C dX0_sizeOf_1 (L' := [_, _, _]) rfl ⟨Nat.le_of_ble_eq_true rfl, by decide⟩ ?_
  refine zz_iconst C (v := 0) dX0_sizeOf_2 (by decide) ?_
  refine zz_istore_n C dX0_sizeOf_3 (L' := [_, _, _, _]) rfl ⟨Nat.le_of_ble_eq_true rfl, by decide⟩ ?_
  exact loop 0 (by decide) 0 rfl
theorem X_isClosed (l : Launch) (D : va_G) (h : Nat → Nat) (d : Nat → ClassId) (σ : zzS) {c : Nat → Nat} (hc : cXz c σ) (hcb : ∀ S, c S ≤ 20) {S m : Nat} (hS : S < 256) (hm : m ≤ 20) : zzMi l yX0_isClosed cX0_isClosed 4 .boolean (zR 0 0) D (tX d) (wX h d) (h 0) [.int (nI S), .int (nI m)] σ (fun r σ' => σ' = σ ∧ ((r = 1 ∧ kXz c m S) ∨ (r = 0 ∧ ¬ kXz c m S))) := by
  refine zzMi_of RX0 rfl (by decide) (Nat.le_of_ble_eq_true rfl) rfl (fun Z C E => ?_)
  have hcS := hcb S
  refine zz_aload_n C dX0_isClosed_0 rfl ?_
  refine x_get_counts C dX0_isClosed_1 ?_
  refine zz_iload_n C dX0_isClosed_4 rfl ?_
  refine x_bald C dX0_isClosed_5 rfl S rfl hS ?_
  refine zz_eq _ (hc S hS) ?_
  refine zz_iload_n C dX0_isClosed_6 rfl ?_
  refine zz_icmp_ge C 12 dX0_isClosed_7 (by decide) (fun c7 => ?_) (fun c7 => ?_)
  · rw [zi_le (by omega) (by omega)] at c7
    have loop : ∀ t, t ≤ 8 → (∀ u, u < t → S.testBit u = false → c (S ||| 2 ^ u) ≠ c S) → Z σ 14 [.ref (h 0), .int (nI S), .int (nI m), .int (nI t)] [] := by
      refine zz_lp 8 (fun t ht next hno => ?_)
      refine zz_iload_n C dX0_isClosed_14 rfl ?_
      refine zz_bipush C (v := 8) dX0_isClosed_15 (by decide) ?_
      refine zz_icmp_ge C 55 dX0_isClosed_17 (by decide) (fun c17 => ?_) (fun c17 => ?_)
      · refine zz_iconst C (v := 1) dX0_isClosed_55 (by decide) ?_
        refine E _ _ _ _ dX0_isClosed_56 rfl ⟨rfl, Or.inl ⟨rfl, c7, fun u hu => hno u (by have := zc8 ht c17; omega)⟩⟩
      · have ht' := zc8' ht c17
        have hct := hcb (S ||| 2 ^ t)
        have go : (S.testBit t = false → c (S ||| 2 ^ t) ≠ c S) → Z σ 49 [.ref (h 0), .int (nI S), .int (nI m), .int (nI t)] [] := by
          intro hh
          refine zz_iinc C dX0_isClosed_49 rfl (zz_inc1 _) (L' := [_, _, _, _]) rfl (by decide) ?_
          refine zz_goto C 14 dX0_isClosed_52 (by decide) ?_
          refine next ht' (fun u hu hb => ?_)
          rcases Nat.lt_or_ge u t with q | q
          · exact hno u q hb
          · have e : u = t := by omega
            subst e; exact hh hb
        refine zz_iload_n C dX0_isClosed_20 rfl ?_
        refine zz_iload_n C dX0_isClosed_21 rfl ?_
        refine zz_ishr C dX0_isClosed_22 ?_
        refine zz_iconst C (v := 1) dX0_isClosed_23 (by decide) ?_
        refine zz_iand C dX0_isClosed_24 ?_
        refine zz_eq (nI (if S.testBit t = true then 1 else 0)) (zi_bit hS ht') ?_
        refine zz_if_ne C 49 dX0_isClosed_25 (by decide) (fun c25 => ?_) (fun c25 => ?_)
        · have hbt := zi_bne c25
          exact go (fun q => by rw [hbt] at q; cases q)
        · have hbt := zi_be c25
          refine zz_aload_n C dX0_isClosed_28 rfl ?_
          refine x_get_counts C dX0_isClosed_29 ?_
          refine zz_iload_n C dX0_isClosed_32 rfl ?_
          refine zz_iconst C (v := 1) dX0_isClosed_33 (by decide) ?_
          refine zz_iload_n C dX0_isClosed_34 rfl ?_
          refine zz_ishl C dX0_isClosed_35 ?_
          refine zz_ior C dX0_isClosed_36 ?_
          refine zz_eq _ (zi_orb ht') ?_
          refine x_bald C dX0_isClosed_37 rfl (S ||| 2 ^ t) rfl (or_lt hS ht') ?_
          refine zz_eq _ (hc _ (or_lt hS ht')) ?_
          refine zz_aload_n C dX0_isClosed_38 rfl ?_
          refine x_get_counts C dX0_isClosed_39 ?_
          refine zz_iload_n C dX0_isClosed_42 rfl ?_
          refine x_bald C dX0_isClosed_43 rfl S rfl hS ?_
          refine zz_eq _ (hc S hS) ?_
          refine zz_icmp_ne C 49 dX0_isClosed_44 (by decide) (fun c44 => ?_) (fun c44 => ?_)
          · rw [nI_eq (by omega) (by omega)] at c44
            exact go (fun _ => c44)
          · rw [nI_eq (by omega) (by omega)] at c44
            refine zz_iconst C (v := 0) dX0_isClosed_47 (by decide) ?_
            refine E _ _ _ _ dX0_isClosed_48 rfl ⟨rfl, Or.inr ⟨rfl, fun q => q.2 t ht' hbt c44⟩⟩
    refine zz_iconst C (v := 0) dX0_isClosed_12 (by decide) ?_
    refine zz_istore_n C dX0_isClosed_13 (L' := [_, _, _, _]) rfl ⟨Nat.le_of_ble_eq_true rfl, by decide⟩ ?_
    exact loop 0 (by decide) (fun u hu => absurd hu (by omega))
  · rw [zi_le (by omega) (by omega)] at c7
    refine zz_iconst C (v := 0) dX0_isClosed_10 (by decide) ?_
    refine E _ _ _ _ dX0_isClosed_11 rfl ⟨rfl, Or.inr ⟨rfl, fun q => c7 q.1⟩⟩
theorem X_isLargest (l : Launch) (D : va_G) (h : Nat → Nat) (d : Nat → ClassId) (σ : zzS) {c : Nat → Nat} (hc : cXz c σ) (hcb : ∀ S, c S ≤ 20) {S m : Nat} (hS : S < 256) (hm : m ≤ 20) : zzMi l yX0_isLargest cX0_isLargest 4 .boolean (zR 0 0) D (tX d) (wX h d) (h 0) [.int (nI S), .int (nI m)] σ (fun r σ' => σ' = σ ∧ ((r = 1 ∧ gXz c m S) ∨ (r = 0 ∧ ¬ gXz c m S))) := by
  refine zzMi_of RX0 rfl (by decide) (Nat.le_of_ble_eq_true rfl) rfl (fun Z C E => ?_)
  have hcS := hcb S
  refine zz_aload_n C dX0_isLargest_0 rfl ?_
  refine x_get_counts C dX0_isLargest_1 ?_
  refine zz_iload_n C dX0_isLargest_4 rfl ?_
  refine x_bald C dX0_isLargest_5 rfl S rfl hS ?_
  refine zz_eq _ (hc S hS) ?_
  refine zz_iload_n C dX0_isLargest_6 rfl ?_
  refine zz_icmp_ge C 12 dX0_isLargest_7 (by decide) (fun c7 => ?_) (fun c7 => ?_)
  · rw [zi_le (by omega) (by omega)] at c7
    have loop : ∀ t, t ≤ 8 → (∀ u, u < t → S.testBit u = false → ¬ m ≤ c (S ||| 2 ^ u)) → Z σ 14 [.ref (h 0), .int (nI S), .int (nI m), .int (nI t)] [] := by
      refine zz_lp 8 (fun t ht next hno => ?_)
      refine zz_iload_n C dX0_isLargest_14 rfl ?_
      refine zz_bipush C (v := 8) dX0_isLargest_15 (by decide) ?_
      refine zz_icmp_ge C 50 dX0_isLargest_17 (by decide) (fun c17 => ?_) (fun c17 => ?_)
      · refine zz_iconst C (v := 1) dX0_isLargest_50 (by decide) ?_
        refine E _ _ _ _ dX0_isLargest_51 rfl ⟨rfl, Or.inl ⟨rfl, c7, fun u hu => hno u (by have := zc8 ht c17; omega)⟩⟩
      · have ht' := zc8' ht c17
        have hct := hcb (S ||| 2 ^ t)
        have go : (S.testBit t = false → ¬ m ≤ c (S ||| 2 ^ t)) → Z σ 44 [.ref (h 0), .int (nI S), .int (nI m), .int (nI t)] [] := by
          intro hh
          refine zz_iinc C dX0_isLargest_44 rfl (zz_inc1 _) (L' := [_, _, _, _]) rfl (by decide) ?_
          refine zz_goto C 14 dX0_isLargest_47 (by decide) ?_
          refine next ht' (fun u hu hb => ?_)
          rcases Nat.lt_or_ge u t with q | q
          · exact hno u q hb
          · have e : u = t := by omega
            subst e; exact hh hb
        refine zz_iload_n C dX0_isLargest_20 rfl ?_
        refine zz_iload_n C dX0_isLargest_21 rfl ?_
        refine zz_ishr C dX0_isLargest_22 ?_
        refine zz_iconst C (v := 1) dX0_isLargest_23 (by decide) ?_
        refine zz_iand C dX0_isLargest_24 ?_
        refine zz_eq (nI (if S.testBit t = true then 1 else 0)) (zi_bit hS ht') ?_
        refine zz_if_ne C 44 dX0_isLargest_25 (by decide) (fun c25 => ?_) (fun c25 => ?_)
        · have hbt := zi_bne c25
          exact go (fun q => by rw [hbt] at q; cases q)
        · have hbt := zi_be c25
          refine zz_aload_n C dX0_isLargest_28 rfl ?_
          refine x_get_counts C dX0_isLargest_29 ?_
          refine zz_iload_n C dX0_isLargest_32 rfl ?_
          refine zz_iconst C (v := 1) dX0_isLargest_33 (by decide) ?_
          refine zz_iload_n C dX0_isLargest_34 rfl ?_
          refine zz_ishl C dX0_isLargest_35 ?_
          refine zz_ior C dX0_isLargest_36 ?_
          refine zz_eq _ (zi_orb ht') ?_
          refine x_bald C dX0_isLargest_37 rfl (S ||| 2 ^ t) rfl (or_lt hS ht') ?_
          refine zz_eq _ (hc _ (or_lt hS ht')) ?_
          refine zz_iload_n C dX0_isLargest_38 rfl ?_
          refine zz_icmp_lt C 44 dX0_isLargest_39 (by decide) (fun c39 => ?_) (fun c39 => ?_)
          · rw [nI_ltI (by omega) (by omega)] at c39
            exact go (fun _ => by omega)
          · rw [nI_ltI (by omega) (by omega)] at c39
            refine zz_iconst C (v := 0) dX0_isLargest_42 (by decide) ?_
            refine E _ _ _ _ dX0_isLargest_43 rfl ⟨rfl, Or.inr ⟨rfl, fun q => q.2 t ht' hbt (by omega)⟩⟩
    refine zz_iconst C (v := 0) dX0_isLargest_12 (by decide) ?_
    refine zz_istore_n C dX0_isLargest_13 (L' := [_, _, _, _]) rfl ⟨Nat.le_of_ble_eq_true rfl, by decide⟩ ?_
    exact loop 0 (by decide) (fun u hu => absurd hu (by omega))
  · rw [zi_le (by omega) (by omega)] at c7
    refine zz_iconst C (v := 0) dX0_isLargest_10 (by decide) ?_
    refine E _ _ _ _ dX0_isLargest_11 rfl ⟨rfl, Or.inr ⟨rfl, fun q => c7 q.1⟩⟩
end
section
set_option maxRecDepth 100000
theorem X_childWith (l : Launch) (D : va_G) (h : Nat → Nat) (d : Nat → ClassId) (σ : zzS) {π : Nat → Nat} {N : Nat} {PL AB : Nat → Nat} (hT : TSz π N PL AB σ) (hR : Trz N PL AB) {nd p : Nat} (hnd : nd < 161) (hp : p < 8) : zzMi l yX0_childWith cX0_childWith 4 .int (zR 0 0) D (tX d) (wX h d) (h 0) [.int (nI nd), .int (nI (π p))] σ (fun r σ' => σ' = σ ∧ ∃ x, r = nI x ∧ ((x = 0 ∧ ∀ y, 1 ≤ y → y < N → PL y = p → AB y ≠ nd) ∨ (1 ≤ x ∧ x < N ∧ PL x = p ∧ AB x = nd))) := by
  refine zzMi_of RX0 rfl (by decide) (Nat.le_of_ble_eq_true rfl) rfl (fun Z C E => ?_)
  obtain ⟨t1, t2, t3, t4, t5, t6⟩ := hT
  have hpi := t4.1 p hp
  have loop : ∀ x, (x = 0 ∨ (1 ≤ x ∧ x < N ∧ PL x = p)) → (∀ y, 1 ≤ y → x < y → y < N → PL y = p → AB y ≠ nd) → Z σ 7 [.ref (h 0), .int (nI nd), .int (nI (π p)), .int (nI x)] [] := by
    intro x
    induction x using Nat.strongRecOn with
    | _ x ih =>
      intro hx hno
      refine zz_iload_n C dX0_childWith_7 rfl ?_
      refine zz_if_eq C 33 dX0_childWith_8 (by decide) (fun c8 => ?_) (fun c8 => ?_)
      · rcases hx with hx | hx
        · refine zz_iconst C (v := 0) dX0_childWith_33 (by decide) ?_
          refine E _ _ _ _ dX0_childWith_34 rfl ⟨rfl, 0, rfl, Or.inl ⟨rfl, fun y a1 a2 a3 => hno y a1 (by omega) a2 a3⟩⟩
        · rw [zz_0, nI_eq (by omega) (by decide)] at c8
          omega
      · rcases hx with hx | hx
        · exact absurd (by rw [hx]; rfl) c8
        · obtain ⟨x1, x2, x3⟩ := hx
          have hab := (hR.2.1 x x1 x2).2.1
          obtain ⟨t7, t8⟩ := t6 x x1 x2
          refine zz_aload_n C dX0_childWith_11 rfl ?_
          refine x_get_above C dX0_childWith_12 ?_
          refine zz_iload_n C dX0_childWith_15 rfl ?_
          refine x_sald C dX0_childWith_16 rfl x rfl (by omega) ?_
          refine zz_eq _ t8 ?_
          refine zz_iload_n C dX0_childWith_17 rfl ?_
          refine zz_icmp_ne C 23 dX0_childWith_18 (by decide) (fun c18 => ?_) (fun c18 => ?_)
          · rw [nI_eq (by omega) (by omega)] at c18
            refine zz_aload_n C dX0_childWith_23 rfl ?_
            refine x_get_sameThing C dX0_childWith_24 ?_
            refine zz_iload_n C dX0_childWith_27 rfl ?_
            refine x_sald C dX0_childWith_28 rfl x rfl (by omega) ?_
            refine zz_eq _ (by rw [t7, x3]) ?_
            refine zz_istore_n C dX0_childWith_29 (L' := [_, _, _, _]) rfl ⟨Nat.le_of_ble_eq_true rfl, by decide⟩ ?_
            refine zz_goto C 7 dX0_childWith_30 (by decide) ?_
            have hlb := lbz_in PL p x
            have hlt : lbz PL p x < x := by omega
            refine ih (lbz PL p x) hlt (hlb.imp id (fun z => ⟨z.1, by omega, z.2.2⟩)) (fun y a1 a2 a3 a4 => ?_)
            rcases Nat.lt_trichotomy y x with q | q | q
            · have := lbz_max PL p x y a1 q a4; omega
            · subst q; exact c18
            · exact hno y a1 q a3 a4
          · rw [nI_eq (by omega) (by omega)] at c18
            refine zz_iload_n C dX0_childWith_21 rfl ?_
            refine E _ _ _ _ dX0_childWith_22 rfl ⟨rfl, x, rfl, Or.inr ⟨x1, x2, x3, c18⟩⟩
  refine zz_aload_n C dX0_childWith_0 rfl ?_
  refine x_get_firstOf C dX0_childWith_1 ?_
  refine zz_iload_n C dX0_childWith_4 rfl ?_
  refine x_sald C dX0_childWith_5 rfl (π p) rfl hpi ?_
  refine zz_eq _ (t5 p hp) ?_
  refine zz_istore_n C dX0_childWith_6 (L' := [_, _, _, _]) rfl ⟨Nat.le_of_ble_eq_true rfl, by decide⟩ ?_
  have hlb := lbz_in PL p N
  exact loop (lbz PL p N) hlb (fun y a1 a2 a3 a4 => by have := lbz_max PL p N y a1 a3 a4; omega)
theorem X_countOn (l : Launch) (D : va_G) (h : Nat → Nat) (d : Nat → ClassId) (σ : zzS) {π : Nat → Nat} {N : Nat} {PL AB : Nat → Nat} (hT : TSz π N PL AB σ) {W : Nat → Nat} {dep p : Nat} (hdep : dep ≤ 8) (hp : p < 8) (hW : ∀ x, 1 ≤ x → x < N → PL x = p → σ 13 (161 * dep + x) = nI (W x)) : zzMi l yX0_countOn cX0_countOn 5 .int (zR 0 0) D (tX d) (wX h d) (h 0) [.int (nI dep), .int (nI (π p))] σ (fun r σ' => σ' = σ ∧ r = nI (sTz PL W p N)) := by
  refine zzMi_of RX0 rfl (by decide) (Nat.le_of_ble_eq_true rfl) rfl (fun Z C E => ?_)
  obtain ⟨t1, t2, t3, t4, t5, t6⟩ := hT
  have hpi := t4.1 p hp
  have loop : ∀ X, X ≤ N → ∀ a, a + sTz PL W p X = sTz PL W p N → Z σ 10 [.ref (h 0), .int (nI dep), .int (nI (π p)), .int (nI a), .int (nI (lbz PL p X))] [] := by
    intro X
    induction X using Nat.strongRecOn with
    | _ X ih =>
      intro hX a ha
      have hlb := lbz_in PL p X
      refine zz_iload C dX0_countOn_10 rfl ?_
      refine zz_if_eq C 43 dX0_countOn_12 (by decide) (fun c12 => ?_) (fun c12 => ?_)
      · rw [zz_0, nI_eq (by omega) (by decide)] at c12
        rw [sTz_0 PL W p X c12] at ha
        refine zz_iload_n C dX0_countOn_43 rfl ?_
        refine E _ _ _ _ dX0_countOn_44 rfl ⟨rfl, by rw [← ha]; rfl⟩
      · rw [zz_0, nI_eq (by omega) (by decide)] at c12
        obtain ⟨x1, x2, x3⟩ : 1 ≤ lbz PL p X ∧ lbz PL p X < X ∧ PL (lbz PL p X) = p := by
          rcases hlb with q | q
          · exact absurd q c12
          · exact q
        have hs := sTz_s PL W p X c12
        obtain ⟨t7, t8⟩ := t6 (lbz PL p X) x1 (by omega)
        refine zz_iload_n C dX0_countOn_15 rfl ?_
        refine zz_aload_n C dX0_countOn_16 rfl ?_
        refine x_get_weights C dX0_countOn_17 ?_
        refine zz_sipush C (v := 161) dX0_countOn_20 (by decide) ?_
        refine zz_iload_n C dX0_countOn_23 rfl ?_
        refine zz_imul C dX0_countOn_24 ?_
        refine zz_eq (nI (161 * dep)) (by rw [zz_161, pk_mul]) ?_
        refine zz_iload C dX0_countOn_25 rfl ?_
        refine zz_iadd C dX0_countOn_27 ?_
        refine zz_eq _ (nI_add _ _) ?_
        refine x_bald C dX0_countOn_28 rfl (161 * dep + lbz PL p X) rfl (by omega) ?_
        refine zz_eq _ (hW _ x1 (by omega) x3) ?_
        refine zz_iadd C dX0_countOn_29 ?_
        refine zz_eq _ (nI_add _ _) ?_
        refine zz_istore_n C dX0_countOn_30 (L' := [_, _, _, _, _]) rfl ⟨Nat.le_of_ble_eq_true rfl, by decide⟩ ?_
        refine zz_aload_n C dX0_countOn_31 rfl ?_
        refine x_get_sameThing C dX0_countOn_32 ?_
        refine zz_iload C dX0_countOn_35 rfl ?_
        refine x_sald C dX0_countOn_37 rfl (lbz PL p X) rfl (by omega) ?_
        refine zz_eq _ (by rw [t7, x3]) ?_
        refine zz_istore C dX0_countOn_38 (L' := [_, _, _, _, _]) rfl ⟨Nat.le_of_ble_eq_true rfl, by decide⟩ ?_
        refine zz_goto C 10 dX0_countOn_40 (by decide) ?_
        exact ih (lbz PL p X) x2 (by omega) _ (by omega)
  refine zz_iconst C (v := 0) dX0_countOn_0 (by decide) ?_
  refine zz_istore_n C dX0_countOn_1 (L' := [_, _, _, _]) rfl ⟨Nat.le_of_ble_eq_true rfl, by decide⟩ ?_
  refine zz_aload_n C dX0_countOn_2 rfl ?_
  refine x_get_firstOf C dX0_countOn_3 ?_
  refine zz_iload_n C dX0_countOn_6 rfl ?_
  refine x_sald C dX0_countOn_7 rfl (π p) rfl hpi ?_
  refine zz_eq _ (t5 p hp) ?_
  refine zz_istore C dX0_countOn_8 (L' := [_, _, _, _, _]) rfl ⟨Nat.le_of_ble_eq_true rfl, by decide⟩ ?_
  exact loop N (Nat.le_refl N) 0 (Nat.zero_add _)
end
section
set_option maxRecDepth 100000
theorem X_liftWeights (l : Launch) (D : va_G) (h : Nat → Nat) (d : Nat → ClassId) (σ : zzS) {π : Nat → Nat} {N : Nat} {PL AB : Nat → Nat} (hT : TSz π N PL AB σ) (hR : Trz N PL AB) {W G : Nat → Nat} {dep p : Nat} (hdep : dep ≤ 7) (hp : p < 8) (hW : ∀ x, 1 ≤ x → x < N → PL x = p → σ 13 (161 * dep + x) = nI (W x)) (hW1 : ∀ x, W x < 128) (hG1 : ∀ x, G x < 128) (hG : ∀ y, 1 ≤ y → y < N → G y = ibz (PL y = p) * W y + sNz (fun c => ibz (1 ≤ c ∧ AB c = y) * G c) N) : zzMv l yX0_liftWeights cX0_liftWeights 6 (zR 0 0) D (tX d) (wX h d) (h 0) [.int (nI dep), .int (nI (π p))] σ (fun σ' => (∀ k, k ≠ 13 → σ' k = σ k) ∧ (∀ i, i < 161 * (dep + 1) → σ' 13 i = σ 13 i) ∧ ∀ y, 1 ≤ y → y < N → σ' 13 (161 * (dep + 1) + y) = nI (G y)) := by
  refine zzMv_of RX0 rfl (by decide) (Nat.le_of_ble_eq_true rfl) rfl (fun Z C E => ?_)
  obtain ⟨t1, t2, t3, t4, t5, t6⟩ := hT
  have hpi := t4.1 p hp
  have hN1 := hR.1
  obtain ⟨fr, hfr⟩ : ∃ fr, fr = 161 * dep := ⟨_, rfl⟩
  obtain ⟨to, hto⟩ : ∃ to, to = 161 * (dep + 1) := ⟨_, rfl⟩
  rw [← hto] at E
  rw [← hfr] at hW
  have hft : fr + 161 = to := by omega
  have hto2 : to + 161 ≤ 1449 := by omega
  have third : ∀ x, x ≤ N - 1 → ∀ σ1 : zzS, (∀ k, k ≠ 13 → σ1 k = σ k) → (∀ i, i < to → σ1 13 i = σ 13 i) → (∀ y, 1 ≤ y → y < N → σ1 13 (to + y) = nI (lfz (fun y => ibz (PL y = p) * W y) G AB N (x + 1) y)) → Z σ1 94 [.ref (h 0), .int (nI dep), .int (nI (π p)), .int (nI fr), .int (nI to), .int (nI x)] [] := by
    intro x
    induction x with
    | zero =>
      intro hx σ1 h1 h2 h3
      refine zz_iload C dX0_liftWeights_94 rfl ?_
      refine zz_if_le C 134 dX0_liftWeights_96 (by decide) (fun c96 => ?_) (fun c96 => ?_)
      · refine E _ _ _ dX0_liftWeights_134 ⟨h1, h2, fun y a1 a2 => ?_⟩
        rw [h3 y a1 a2, lfz_top hG (fun c b1 b2 => (hR.2.1 c b1 b2).2.1) (by omega) a1 a2]
      · exact absurd (by decide) c96
    | succ x ih =>
      intro hx σ1 h1 h2 h3
      have hxN : x + 1 < N := by omega
      obtain ⟨r1, r2, r3⟩ := hR.2.1 (x + 1) (by omega) hxN
      refine zz_iload C dX0_liftWeights_94 rfl ?_
      refine zz_if_le C 134 dX0_liftWeights_96 (by decide) (fun c96 => ?_) (fun c96 => ?_)
      · rw [zz_0, zi_le (by omega) (by decide)] at c96
        omega
      · refine zz_aload_n C dX0_liftWeights_99 rfl ?_
        refine x_get_weights C dX0_liftWeights_100 ?_
        refine zz_iload C dX0_liftWeights_103 rfl ?_
        refine zz_aload_n C dX0_liftWeights_105 rfl ?_
        refine x_get_above C dX0_liftWeights_106 ?_
        refine zz_iload C dX0_liftWeights_109 rfl ?_
        refine x_sald C dX0_liftWeights_111 rfl (x + 1) rfl (by omega) ?_
        refine zz_eq (nI (AB (x + 1))) (by rw [h1 6 (by decide)]; exact (t6 (x + 1) (by omega) hxN).2) ?_
        refine zz_iadd C dX0_liftWeights_112 ?_
        refine zz_eq _ (nI_add _ _) ?_
        refine zz_dup2 C dX0_liftWeights_113 rfl rfl ?_
        refine x_bald C dX0_liftWeights_114 rfl (to + AB (x + 1)) rfl (by omega) ?_
        refine zz_aload_n C dX0_liftWeights_115 rfl ?_
        refine x_get_weights C dX0_liftWeights_116 ?_
        refine zz_iload C dX0_liftWeights_119 rfl ?_
        refine zz_iload C dX0_liftWeights_121 rfl ?_
        refine zz_iadd C dX0_liftWeights_123 ?_
        refine zz_eq _ (nI_add _ _) ?_
        refine x_bald C dX0_liftWeights_124 rfl (to + (x + 1)) rfl (by omega) ?_
        refine zz_eq (nI (G (x + 1))) (by rw [h3 (x + 1) (by omega) hxN]; congr 1; exact lfz_top hG (fun c b1 b2 => (hR.2.1 c b1 b2).2.1) (by omega) (by omega) hxN) ?_
        refine zz_iadd C dX0_liftWeights_125 ?_
        refine zz_i2b C dX0_liftWeights_126 ?_
        refine x_bast C dX0_liftWeights_127 rfl (to + AB (x + 1)) rfl (by omega) (pk_vb _) (fun σ2 e2 => ?_)
        refine zz_iinc C dX0_liftWeights_128 rfl (zz_dec1 _) (L' := [_, _, _, _, _, _]) rfl (by decide) ?_
        refine zz_goto C 94 dX0_liftWeights_131 (by decide) ?_
        subst e2
        refine ih (by omega) _ (fun k hk => by rw [zzu_n _ _ _ _ hk]; exact h1 k hk) (fun i hi => by rw [zzu_sn _ _ _ _ (by omega)]; exact h2 i hi) (fun y a1 a2 => ?_)
        rw [lfz_step _ _ _ (by omega) hxN y]
        rcases Nat.decEq y (AB (x + 1)) with e | e
        · rw [zzu_sn _ _ _ _ (by omega), h3 y a1 a2, ibz_f (fun z => e z.symm), Nat.zero_mul]
          rfl
        · subst e
          rw [zzu_ss, h3 _ a1 a2, nI_add, ibz_t rfl, Nat.one_mul]
          refine zi_i2b _ ?_
          have q1 := lfz_step (fun y => ibz (PL y = p) * W y) G AB (show 1 ≤ x + 1 by omega) hxN (AB (x + 1))
          rw [ibz_t rfl, Nat.one_mul] at q1
          have q2 := lfz_le hG (x + 1) a1 a2
          have q3 := hG1 (AB (x + 1))
          omega
  have second : ∀ X, X ≤ N → ∀ σ1 : zzS, (∀ k, k ≠ 13 → σ1 k = σ k) → (∀ i, i < to → σ1 13 i = σ 13 i) → (∀ y, 1 ≤ y → y < N → σ1 13 (to + y) = nI (ibz (PL y = p ∧ X ≤ y) * W y)) → Z σ1 50 [.ref (h 0), .int (nI dep), .int (nI (π p)), .int (nI fr), .int (nI to), .int (nI (lbz PL p X))] [] := by
    intro X
    induction X using Nat.strongRecOn with
    | _ X ih =>
      intro hX σ1 h1 h2 h3
      have hlb := lbz_in PL p X
      refine zz_iload C dX0_liftWeights_50 rfl ?_
      refine zz_if_eq C 86 dX0_liftWeights_52 (by decide) (fun c52 => ?_) (fun c52 => ?_)
      · rw [zz_0, nI_eq (by omega) (by decide)] at c52
        refine zz_aload_n C dX0_liftWeights_86 rfl ?_
        refine x_get_nodeCount C dX0_liftWeights_87 ?_
        refine zz_eq (nI N) (by rw [h1 0 (by decide)]; exact t2) ?_
        refine zz_iconst C (v := 1) dX0_liftWeights_90 (by decide) ?_
        refine zz_isub C dX0_liftWeights_91 ?_
        refine zz_eq _ (zi_pred hN1) ?_
        refine zz_istore C dX0_liftWeights_92 (L' := [_, _, _, _, _, _]) rfl ⟨Nat.le_of_ble_eq_true rfl, by decide⟩ ?_
        refine third (N - 1) (Nat.le_refl _) σ1 h1 h2 (fun y a1 a2 => ?_)
        rw [show N - 1 + 1 = N by omega, lfz_N, h3 y a1 a2]
        congr 2
        refine ibz_c ⟨fun z => z.1, fun z => ⟨z, ?_⟩⟩
        rcases Nat.lt_or_ge y X with q | q
        · have := lbz_max PL p X y a1 q z; omega
        · exact q
      · rw [zz_0, nI_eq (by omega) (by decide)] at c52
        obtain ⟨x1, x2, x3⟩ : 1 ≤ lbz PL p X ∧ lbz PL p X < X ∧ PL (lbz PL p X) = p := by
          rcases hlb with q | q
          · exact absurd q c52
          · exact q
        obtain ⟨t7, t8⟩ := t6 (lbz PL p X) x1 (by omega)
        refine zz_aload_n C dX0_liftWeights_55 rfl ?_
        refine x_get_weights C dX0_liftWeights_56 ?_
        refine zz_iload C dX0_liftWeights_59 rfl ?_
        refine zz_iload C dX0_liftWeights_61 rfl ?_
        refine zz_iadd C dX0_liftWeights_63 ?_
        refine zz_eq _ (nI_add _ _) ?_
        refine zz_aload_n C dX0_liftWeights_64 rfl ?_
        refine x_get_weights C dX0_liftWeights_65 ?_
        refine zz_iload_n C dX0_liftWeights_68 rfl ?_
        refine zz_iload C dX0_liftWeights_69 rfl ?_
        refine zz_iadd C dX0_liftWeights_71 ?_
        refine zz_eq _ (nI_add _ _) ?_
        refine x_bald C dX0_liftWeights_72 rfl (fr + lbz PL p X) rfl (by omega) ?_
        refine zz_eq (nI (W (lbz PL p X))) (by rw [h2 _ (by omega)]; exact hW _ x1 (by omega) x3) ?_
        refine x_bast C dX0_liftWeights_73 rfl (to + lbz PL p X) rfl (by omega) (zi_by _ (hW1 _)) (fun σ2 e2 => ?_)
        subst e2
        refine zz_aload_n C dX0_liftWeights_74 rfl ?_
        refine x_get_sameThing C dX0_liftWeights_75 ?_
        refine zz_iload C dX0_liftWeights_78 rfl ?_
        refine x_sald C dX0_liftWeights_80 rfl (lbz PL p X) rfl (by omega) ?_
        refine zz_eq (nI (lbz PL p (lbz PL p X))) (by show σ1 7 _ = _; rw [h1 7 (by decide), t7, x3]) ?_
        refine zz_istore C dX0_liftWeights_81 (L' := [_, _, _, _, _, _]) rfl ⟨Nat.le_of_ble_eq_true rfl, by decide⟩ ?_
        refine zz_goto C 50 dX0_liftWeights_83 (by decide) ?_
        refine ih (lbz PL p X) x2 (by omega) _ (fun k hk => by rw [zzu_n _ _ _ _ hk]; exact h1 k hk) (fun i hi => by rw [zzu_sn _ _ _ _ (by omega)]; exact h2 i hi) (fun y a1 a2 => ?_)
        rcases Nat.decEq y (lbz PL p X) with e | e
        · rw [zzu_sn _ _ _ _ (by omega), h3 y a1 a2]
          congr 2
          refine ibz_c ⟨fun z => ⟨z.1, by omega⟩, fun z => ⟨z.1, ?_⟩⟩
          rcases Nat.lt_or_ge y X with q | q
          · have := lbz_max PL p X y a1 q z.1; omega
          · exact q
        · subst e
          rw [zzu_ss, ibz_t ⟨x3, Nat.le_refl _⟩, Nat.one_mul]
  have first : ∀ x, x ≤ N → ∀ σ1 : zzS, (∀ k, k ≠ 13 → σ1 k = σ k) → (∀ i, i < to → σ1 13 i = σ 13 i) → (∀ y, y < x → σ1 13 (to + y) = 0) → Z σ1 16 [.ref (h 0), .int (nI dep), .int (nI (π p)), .int (nI fr), .int (nI to), .int (nI x)] [] := by
    refine zz_lp N (fun x hx next σ1 h1 h2 h3 => ?_)
    refine zz_iload C dX0_liftWeights_16 rfl ?_
    refine zz_aload_n C dX0_liftWeights_18 rfl ?_
    refine x_get_nodeCount C dX0_liftWeights_19 ?_
    refine zz_eq (nI N) (by rw [h1 0 (by decide)]; exact t2) ?_
    refine zz_icmp_ge C 42 dX0_liftWeights_22 (by decide) (fun c22 => ?_) (fun c22 => ?_)
    · rw [zi_le (by omega) (by omega)] at c22
      refine zz_aload_n C dX0_liftWeights_42 rfl ?_
      refine x_get_firstOf C dX0_liftWeights_43 ?_
      refine zz_iload_n C dX0_liftWeights_46 rfl ?_
      refine x_sald C dX0_liftWeights_47 rfl (π p) rfl hpi ?_
      refine zz_eq (nI (lbz PL p N)) (by rw [h1 8 (by decide)]; exact t5 p hp) ?_
      refine zz_istore C dX0_liftWeights_48 (L' := [_, _, _, _, _, _]) rfl ⟨Nat.le_of_ble_eq_true rfl, by decide⟩ ?_
      refine second N (Nat.le_refl N) σ1 h1 h2 (fun y a1 a2 => ?_)
      rw [h3 y (by omega), ibz_f (fun z => absurd z.2 (by omega)), Nat.zero_mul]
      rfl
    · rw [zi_le (by omega) (by omega)] at c22
      refine zz_aload_n C dX0_liftWeights_25 rfl ?_
      refine x_get_weights C dX0_liftWeights_26 ?_
      refine zz_iload C dX0_liftWeights_29 rfl ?_
      refine zz_iload C dX0_liftWeights_31 rfl ?_
      refine zz_iadd C dX0_liftWeights_33 ?_
      refine zz_eq _ (nI_add _ _) ?_
      refine zz_iconst C (v := 0) dX0_liftWeights_34 (by decide) ?_
      refine x_bast C dX0_liftWeights_35 rfl (to + x) rfl (by omega) rfl (fun σ2 e2 => ?_)
      refine zz_iinc C dX0_liftWeights_36 rfl (zz_inc1 _) (L' := [_, _, _, _, _, _]) rfl (by decide) ?_
      refine zz_goto C 16 dX0_liftWeights_39 (by decide) ?_
      subst e2
      refine next (by omega) _ (fun k hk => by rw [zzu_n _ _ _ _ hk]; exact h1 k hk) (fun i hi => by rw [zzu_sn _ _ _ _ (by omega)]; exact h2 i hi) (fun y hy => ?_)
      rcases Nat.decEq y x with e | e
      · rw [zzu_sn _ _ _ _ (by omega)]; exact h3 y (by omega)
      · subst e; rw [zzu_ss]; decide
  refine zz_sipush C (v := 161) dX0_liftWeights_0 (by decide) ?_
  refine zz_iload_n C dX0_liftWeights_3 rfl ?_
  refine zz_imul C dX0_liftWeights_4 ?_
  refine zz_eq (nI fr) (by rw [zz_161, pk_mul, hfr]) ?_
  refine zz_istore_n C dX0_liftWeights_5 (L' := [_, _, _, _]) rfl ⟨Nat.le_of_ble_eq_true rfl, by decide⟩ ?_
  refine zz_iload_n C dX0_liftWeights_6 rfl ?_
  refine zz_sipush C (v := 161) dX0_liftWeights_7 (by decide) ?_
  refine zz_iadd C dX0_liftWeights_10 ?_
  refine zz_eq (nI to) (by rw [zz_161, nI_add, hft]) ?_
  refine zz_istore C dX0_liftWeights_11 (L' := [_, _, _, _, _]) rfl ⟨Nat.le_of_ble_eq_true rfl, by decide⟩ ?_
  refine zz_iconst C (v := 0) dX0_liftWeights_13 (by decide) ?_
  refine zz_istore C dX0_liftWeights_14 (L' := [_, _, _, _, _, _]) rfl ⟨Nat.le_of_ble_eq_true rfl, by decide⟩ ?_
  exact first 0 (Nat.zero_le _) σ (fun _ _ => rfl) (fun _ _ => rfl) (fun y hy => absurd hy (by omega))
end
section
set_option maxRecDepth 100000
theorem X_orderThings (l : Launch) (D : va_G) (h : Nat → Nat) (d : Nat → ClassId) (σ : zzS) {n : Nat} (hn : n ≤ 20) (hI : σ 0 0 = nI n) : zzMv l yX0_orderThings cX0_orderThings 3 (zR 0 0) D (tX d) (wX h d) (h 0) [] σ (fun σ' => (∀ k, k ≠ 9 → k ≠ 10 → k ≠ 11 → σ' k = σ k) ∧ ∃ π, injz π ∧ ∀ p, p < 8 → σ' 9 p = nI (π p)) := by
  refine zzMv_of RX0 rfl (by decide) (Nat.le_of_ble_eq_true rfl) rfl (fun Z C E => ?_)
  have third : ∀ p, p ≤ 8 → ∀ (σ1 : zzS) (π : Nat → Nat), (∀ k, k ≠ 9 → k ≠ 10 → k ≠ 11 → σ1 k = σ k) → injz π → (∀ p, p < 8 → σ1 9 p = nI (π p)) → Z σ1 129 [.ref (h 0), .int (nI p)] [] := by
    refine zz_lp 8 (fun p hp next σ1 π h1 h2 h3 => ?_)
    refine zz_iload_n C dX0_orderThings_129 rfl ?_
    refine zz_bipush C (v := 8) dX0_orderThings_130 (by decide) ?_
    refine zz_icmp_ge C 154 dX0_orderThings_132 (by decide) (fun c132 => ?_) (fun c132 => ?_)
    · refine E _ _ _ dX0_orderThings_154 ⟨h1, π, h2, h3⟩
    · have hp' := zc8' hp c132
      refine zz_aload_n C dX0_orderThings_135 rfl ?_
      refine x_get_placeOf C dX0_orderThings_136 ?_
      refine zz_aload_n C dX0_orderThings_139 rfl ?_
      refine x_get_order C dX0_orderThings_140 ?_
      refine zz_iload_n C dX0_orderThings_143 rfl ?_
      refine x_bald C dX0_orderThings_144 rfl p rfl hp' ?_
      refine zz_eq _ (h3 p hp') ?_
      refine zz_iload_n C dX0_orderThings_145 rfl ?_
      refine zz_i2b C dX0_orderThings_146 ?_
      refine x_bast C dX0_orderThings_147 rfl (π p) rfl (h2.1 p hp') rfl (fun σ2 e2 => ?_)
      refine zz_iinc C dX0_orderThings_148 rfl (zz_inc1 _) (L' := [_, _]) rfl (by decide) ?_
      refine zz_goto C 129 dX0_orderThings_151 (by decide) ?_
      subst e2
      exact next hp' _ π (fun k a1 a2 a3 => by rw [zzu_n _ _ _ _ a2]; exact h1 k a1 a2 a3) h2 h3
  have second : ∀ t, t ≤ 8 → ∀ (σ1 : zzS) (π : Nat → Nat), (∀ k, k ≠ 9 → k ≠ 10 → k ≠ 11 → σ1 k = σ k) → (∀ p, p < t → π p < t) → (∀ p q, p < t → q < t → π p = π q → p = q) → (∀ p, p < t → σ1 9 p = nI (π p)) → Z σ1 59 [.ref (h 0), .int (nI t)] [] := by
    refine zz_lp 8 (fun t ht next σ1 π h1 h2 h3 h4 => ?_)
    refine zz_iload_n C dX0_orderThings_59 rfl ?_
    refine zz_bipush C (v := 8) dX0_orderThings_60 (by decide) ?_
    refine zz_icmp_ge C 127 dX0_orderThings_62 (by decide) (fun c62 => ?_) (fun c62 => ?_)
    · have e := zc8 ht c62
      subst e
      refine zz_iconst C (v := 0) dX0_orderThings_127 (by decide) ?_
      refine zz_istore_n C dX0_orderThings_128 (L' := [_, _]) rfl ⟨Nat.le_of_ble_eq_true rfl, by decide⟩ ?_
      exact third 0 (by decide) σ1 π h1 ⟨h2, h3⟩ h4
    · have ht' := zc8' ht c62
      have inner : ∀ a, a ≤ t → ∀ (σ1 : zzS) (π : Nat → Nat), (∀ k, k ≠ 9 → k ≠ 10 → k ≠ 11 → σ1 k = σ k) → (∀ p, p ≤ t → p ≠ a → π p < t) → (∀ p q, p ≤ t → q ≤ t → p ≠ a → q ≠ a → π p = π q → p = q) → (∀ p, p ≤ t → p ≠ a → σ1 9 p = nI (π p)) → Z σ1 67 [.ref (h 0), .int (nI t), .int (nI a)] [] := by
        have fin : ∀ a, a ≤ t → ∀ (σ1 : zzS) (π : Nat → Nat), (∀ k, k ≠ 9 → k ≠ 10 → k ≠ 11 → σ1 k = σ k) → (∀ p, p ≤ t → p ≠ a → π p < t) → (∀ p q, p ≤ t → q ≤ t → p ≠ a → q ≠ a → π p = π q → p = q) → (∀ p, p ≤ t → p ≠ a → σ1 9 p = nI (π p)) → Z σ1 113 [.ref (h 0), .int (nI t), .int (nI a)] [] := by
          intro a ha σ1 π h1 h2 h3 h4
          refine zz_aload_n C dX0_orderThings_113 rfl ?_
          refine x_get_order C dX0_orderThings_114 ?_
          refine zz_iload_n C dX0_orderThings_117 rfl ?_
          refine zz_iload_n C dX0_orderThings_118 rfl ?_
          refine zz_i2b C dX0_orderThings_119 ?_
          refine zz_eq _ (zi_i2b t (by omega)) ?_
          refine x_bast C dX0_orderThings_120 rfl a rfl (by omega) (zi_by t (by omega)) (fun σ2 e2 => ?_)
          refine zz_iinc C dX0_orderThings_121 rfl (zz_inc1 _) (L' := [_, _, _]) rfl (by decide) ?_
          refine zz_goto C 59 dX0_orderThings_124 (by decide) ?_
          subst e2
          refine zz_take C 2 (L' := [_, _]) rfl ?_
          refine next ht' _ (updN π a t) (fun k a1 a2 a3 => by rw [zzu_n _ _ _ _ a1]; exact h1 k a1 a2 a3) (fun p hp => ?_) (fun p q hp hq e => ?_) (fun p hp => ?_)
          · rcases Nat.decEq p a with e | e
            · rw [updN_n _ _ e]; have := h2 p (by omega) e; omega
            · rw [e, updN_s]; omega
          · rcases Nat.decEq p a with e1 | e1
            · rw [updN_n _ _ e1] at e
              rcases Nat.decEq q a with e2 | e2
              · rw [updN_n _ _ e2] at e
                exact h3 p q (by omega) (by omega) e1 e2 e
              · rw [e2, updN_s] at e
                have := h2 p (by omega) e1; omega
            · rw [e1, updN_s] at e
              rcases Nat.decEq q a with e2 | e2
              · rw [updN_n _ _ e2] at e
                have := h2 q (by omega) e2; omega
              · rw [e1, e2]
          · rcases Nat.decEq p a with e | e
            · rw [updN_n _ _ e, zzu_sn _ _ _ _ e]; exact h4 p (by omega) e
            · rw [e, updN_s, zzu_ss]
        intro a
        induction a with
        | zero =>
          intro ha σ1 π h1 h2 h3 h4
          refine zz_iload_n C dX0_orderThings_67 rfl ?_
          refine zz_if_le C 113 dX0_orderThings_68 (by decide) (fun c68 => ?_) (fun c68 => ?_)
          · exact fin _ ha σ1 π h1 h2 h3 h4
          · exact absurd (by decide) c68
        | succ a ih =>
          intro ha σ1 π h1 h2 h3 h4
          have ha1 := h2 a (by omega) (by omega)
          refine zz_iload_n C dX0_orderThings_67 rfl ?_
          refine zz_if_le C 113 dX0_orderThings_68 (by decide) (fun c68 => ?_) (fun c68 => ?_)
          · exact fin _ ha σ1 π h1 h2 h3 h4
          · refine zz_aload_n C dX0_orderThings_71 rfl ?_
            refine x_get_howOften C dX0_orderThings_72 ?_
            refine zz_aload_n C dX0_orderThings_75 rfl ?_
            refine x_get_order C dX0_orderThings_76 ?_
            refine zz_iload_n C dX0_orderThings_79 rfl ?_
            refine zz_iconst C (v := 1) dX0_orderThings_80 (by decide) ?_
            refine zz_isub C dX0_orderThings_81 ?_
            refine zz_eq _ (nI_pred a) ?_
            refine x_bald C dX0_orderThings_82 rfl a rfl (by omega) ?_
            refine zz_eq _ (h4 a (by omega) (by omega)) ?_
            refine x_bald C dX0_orderThings_83 rfl (π a) rfl (by omega) ?_
            refine zz_aload_n C dX0_orderThings_84 rfl ?_
            refine x_get_howOften C dX0_orderThings_85 ?_
            refine zz_iload_n C dX0_orderThings_88 rfl ?_
            refine x_bald C dX0_orderThings_89 rfl t rfl (by omega) ?_
            refine zz_icmp_ge C 113 dX0_orderThings_90 (by decide) (fun c90 => ?_) (fun c90 => ?_)
            · exact fin _ ha σ1 π h1 h2 h3 h4
            · refine zz_aload_n C dX0_orderThings_93 rfl ?_
              refine x_get_order C dX0_orderThings_94 ?_
              refine zz_iload_n C dX0_orderThings_97 rfl ?_
              refine zz_aload_n C dX0_orderThings_98 rfl ?_
              refine x_get_order C dX0_orderThings_99 ?_
              refine zz_iload_n C dX0_orderThings_102 rfl ?_
              refine zz_iconst C (v := 1) dX0_orderThings_103 (by decide) ?_
              refine zz_isub C dX0_orderThings_104 ?_
              refine zz_eq _ (nI_pred a) ?_
              refine x_bald C dX0_orderThings_105 rfl a rfl (by omega) ?_
              refine zz_eq _ (h4 a (by omega) (by omega)) ?_
              refine x_bast C dX0_orderThings_106 rfl (a + 1) rfl (by omega) (zi_by _ (by omega)) (fun σ2 e2 => ?_)
              refine zz_iinc C dX0_orderThings_107 rfl (zz_dec1 _) (L' := [_, _, _]) rfl (by decide) ?_
              refine zz_goto C 67 dX0_orderThings_110 (by decide) ?_
              subst e2
              refine ih (by omega) _ (updN π (a + 1) (π a)) (fun k a1 a2 a3 => by rw [zzu_n _ _ _ _ a1]; exact h1 k a1 a2 a3) (fun p hp hne => ?_) (fun p q hp hq np nq e => ?_) (fun p hp hne => ?_)
              · rcases Nat.decEq p (a + 1) with e | e
                · rw [updN_n _ _ e]; exact h2 p hp e
                · rw [e, updN_s]; exact ha1
              · rcases Nat.decEq p (a + 1) with e1 | e1
                · rw [updN_n _ _ e1] at e
                  rcases Nat.decEq q (a + 1) with e2 | e2
                  · rw [updN_n _ _ e2] at e
                    exact h3 p q hp hq e1 e2 e
                  · rw [e2, updN_s] at e
                    exact absurd (h3 p a hp (by omega) e1 (by omega) e) np
                · rw [e1, updN_s] at e
                  rcases Nat.decEq q (a + 1) with e2 | e2
                  · rw [updN_n _ _ e2] at e
                    exact absurd (h3 q a hq (by omega) e2 (by omega) e.symm) nq
                  · rw [e1, e2]
              · rcases Nat.decEq p (a + 1) with e | e
                · rw [updN_n _ _ e, zzu_sn _ _ _ _ e]; exact h4 p hp e
                · rw [e, updN_s, zzu_ss]
      refine zz_iload_n C dX0_orderThings_65 rfl ?_
      refine zz_istore_n C dX0_orderThings_66 (L' := [_, _, _]) rfl ⟨Nat.le_of_ble_eq_true rfl, by decide⟩ ?_
      refine inner t (Nat.le_refl t) σ1 π h1 (fun p a1 a2 => h2 p (by omega)) (fun p q a1 a2 a3 a4 e => h3 p q (by omega) (by omega) e) (fun p a1 a2 => h4 p (by omega))
  have first : ∀ t, t ≤ 8 → ∀ σ1 : zzS, (∀ k, k ≠ 9 → k ≠ 10 → k ≠ 11 → σ1 k = σ k) → Z σ1 2 [.ref (h 0), .int (nI t)] [] := by
    refine zz_lp 8 (fun t ht next σ1 h1 => ?_)
    refine zz_iload_n C dX0_orderThings_2 rfl ?_
    refine zz_bipush C (v := 8) dX0_orderThings_3 (by decide) ?_
    refine zz_icmp_ge C 57 dX0_orderThings_5 (by decide) (fun c5 => ?_) (fun c5 => ?_)
    · refine zz_iconst C (v := 0) dX0_orderThings_57 (by decide) ?_
      refine zz_istore_n C dX0_orderThings_58 (L' := [_, _]) rfl ⟨Nat.le_of_ble_eq_true rfl, by decide⟩ ?_
      exact second 0 (by decide) σ1 (fun _ => 0) h1 (fun p hp => absurd hp (by omega)) (fun p q hp => absurd hp (by omega)) (fun p hp => absurd hp (by omega))
    · have ht' := zc8' ht c5
      have inner : ∀ j, j ≤ n → ∀ σ1 : zzS, (∀ k, k ≠ 9 → k ≠ 10 → k ≠ 11 → σ1 k = σ k) → Z σ1 17 [.ref (h 0), .int (nI t), .int (nI j)] [] := by
        refine zz_lp n (fun j hj nxt σ1 h1 => ?_)
        refine zz_iload_n C dX0_orderThings_17 rfl ?_
        refine zz_aload_n C dX0_orderThings_18 rfl ?_
        refine x_get_basketCount C dX0_orderThings_19 ?_
        refine zz_eq (nI n) (by rw [h1 0 (by decide) (by decide) (by decide)]; exact hI) ?_
        refine zz_icmp_ge C 51 dX0_orderThings_22 (by decide) (fun c22 => ?_) (fun c22 => ?_)
        · refine zz_iinc C dX0_orderThings_51 rfl (zz_inc1 _) (L' := [_, _, _]) rfl (by decide) ?_
          refine zz_goto C 2 dX0_orderThings_54 (by decide) ?_
          refine zz_take C 2 (L' := [_, _]) rfl ?_
          exact next ht' σ1 h1
        · rw [zi_le (by omega) (by omega)] at c22
          refine zz_aload_n C dX0_orderThings_25 rfl ?_
          refine x_get_howOften C dX0_orderThings_26 ?_
          refine zz_iload_n C dX0_orderThings_29 rfl ?_
          refine zz_dup2 C dX0_orderThings_30 rfl rfl ?_
          refine x_bald C dX0_orderThings_31 rfl t rfl ht' ?_
          refine zz_aload_n C dX0_orderThings_32 rfl ?_
          refine x_get_baskets C dX0_orderThings_33 ?_
          refine zz_iload_n C dX0_orderThings_36 rfl ?_
          refine x_sald C dX0_orderThings_37 rfl j rfl (by omega) ?_
          refine zz_iload_n C dX0_orderThings_38 rfl ?_
          refine zz_ishr C dX0_orderThings_39 ?_
          refine zz_iconst C (v := 1) dX0_orderThings_40 (by decide) ?_
          refine zz_iand C dX0_orderThings_41 ?_
          refine zz_iadd C dX0_orderThings_42 ?_
          refine zz_i2b C dX0_orderThings_43 ?_
          refine x_bast C dX0_orderThings_44 rfl t rfl ht' (pk_vb _) (fun σ2 e2 => ?_)
          refine zz_iinc C dX0_orderThings_45 rfl (zz_inc1 _) (L' := [_, _, _]) rfl (by decide) ?_
          refine zz_goto C 17 dX0_orderThings_48 (by decide) ?_
          subst e2
          exact nxt (by omega) _ (fun k a1 a2 a3 => by rw [zzu_n _ _ _ _ a3]; exact h1 k a1 a2 a3)
      refine zz_aload_n C dX0_orderThings_8 rfl ?_
      refine x_get_howOften C dX0_orderThings_9 ?_
      refine zz_iload_n C dX0_orderThings_12 rfl ?_
      refine zz_iconst C (v := 0) dX0_orderThings_13 (by decide) ?_
      refine x_bast C dX0_orderThings_14 rfl t rfl ht' rfl (fun σ2 e2 => ?_)
      refine zz_iconst C (v := 0) dX0_orderThings_15 (by decide) ?_
      refine zz_istore_n C dX0_orderThings_16 (L' := [_, _, _]) rfl ⟨Nat.le_of_ble_eq_true rfl, by decide⟩ ?_
      subst e2
      exact inner 0 (Nat.zero_le n) _ (fun k a1 a2 a3 => by rw [zzu_n _ _ _ _ a3]; exact h1 k a1 a2 a3)
  refine zz_iconst C (v := 0) dX0_orderThings_0 (by decide) ?_
  refine zz_istore_n C dX0_orderThings_1 (L' := [_, _]) rfl ⟨Nat.le_of_ble_eq_true rfl, by decide⟩ ?_
  exact first 0 (by decide) σ (fun _ _ _ _ => rfl)
end
section
set_option maxRecDepth 100000
theorem X_plant (l : Launch) (D : va_G) (h : Nat → Nat) (d : Nat → ClassId) (σ : zzS) {π : Nat → Nat} {N : Nat} {PL AB b : Nat → Nat} {ν : Nat → Nat → Nat} {K B : Nat} {th : Nat → Nat} (hT : TSz π N PL AB σ) (hI : TIz π N PL AB b ν K B 0 (fun _ => 0) th) (hth : ∀ x, 1 ≤ x → x < N → σ 5 x = nI (th x)) (hK : K < 20) (hN : N ≤ 1 + 8 * K) (hB : B < 256) : zzMv l yX0_plant cX0_plant 6 (zR 1 40) D (tX d) (wX h d) (h 0) [.int (nI B)] σ (fun σ' => ∃ (N' : Nat) (PL' AB' u th' : Nat → Nat), TSz π N' PL' AB' σ' ∧ TIz π N' PL' AB' b ν K B 8 u th' ∧ (∀ x, 1 ≤ x → x < N' → σ' 5 x = nI (th' x)) ∧ N' ≤ 1 + 8 * (K + 1) ∧ σ' 0 0 = σ 0 0 ∧ σ' 0 2 = σ 0 2 ∧ σ' 1 = σ 1) := by
  refine zzMv_of RX0 rfl (by decide) (Nat.le_of_ble_eq_true rfl) rfl (fun Z C E => ?_)
  have loop : ∀ q, q ≤ 8 → ∀ (σ1 : zzS) (N : Nat) (PL AB u th : Nat → Nat) (v : Int32), TSz π N PL AB σ1 → TIz π N PL AB b ν K B q u th → (∀ x, 1 ≤ x → x < N → σ1 5 x = nI (th x)) → N ≤ 1 + 8 * K + q → σ1 0 0 = σ 0 0 → σ1 0 2 = σ 0 2 → σ1 1 = σ 1 → v = nI (u q) → Z σ1 4 [.ref (h 0), .int (nI B), .int v, .int (nI q)] [] := by
    refine zz_lp 8 (fun q hq next σ1 N PL AB u th v hT hI hth hN g0 g2 g1 hv => ?_)
    subst hv
    refine zz_iload_n C dX0_plant_4 rfl ?_
    refine zz_bipush C (v := 8) dX0_plant_5 (by decide) ?_
    refine zz_icmp_ge C 132 dX0_plant_7 (by decide) (fun c7 => ?_) (fun c7 => ?_)
    · have e := zc8 hq c7
      subst e
      refine E _ _ _ dX0_plant_132 ⟨N, PL, AB, u, th, hT, hI, hth, by omega, g0, g2, g1⟩
    · have hq' := zc8' hq c7
      have hpi := hT.2.2.2.1.1 q hq'
      have fin : ∀ (σ1 : zzS) (N : Nat) (PL AB th : Nat → Nat) (x : Nat), TSz π N PL AB σ1 → TIz π N PL AB b ν K B q u th → (∀ x, 1 ≤ x → x < N → σ1 5 x = nI (th x)) → N ≤ 1 + 8 * K + (q + 1) → σ1 0 0 = σ 0 0 → σ1 0 2 = σ 0 2 → σ1 1 = σ 1 → 1 ≤ x → x < N → PL x = q → AB x = u q → B.testBit (π q) = true → Z σ1 111 [.ref (h 0), .int (nI B), .int (nI (u q)), .int (nI q), .int (nI (π q)), .int (nI x)] [] := by
        intro σ1 N PL AB th x hT hI hth hN g0 g2 g1 x1 x2 x3 x4 hbt
        have hx161 := hT.1
        have hle := TIz_th hI x1 x2
        refine zz_aload_n C dX0_plant_111 rfl ?_
        refine x_get_through C dX0_plant_112 ?_
        refine zz_iload C dX0_plant_115 rfl ?_
        refine zz_dup2 C dX0_plant_117 rfl rfl ?_
        refine x_bald C dX0_plant_118 rfl x rfl (by omega) ?_
        refine zz_eq _ (hth x x1 x2) ?_
        refine zz_iconst C (v := 1) dX0_plant_119 (by decide) ?_
        refine zz_iadd C dX0_plant_120 ?_
        refine zz_eq _ (nI_1 _) ?_
        refine zz_i2b C dX0_plant_121 ?_
        refine zz_eq _ (zi_i2b _ (by omega)) ?_
        refine x_bast C dX0_plant_122 rfl x rfl (by omega) (zi_by _ (by omega)) (fun σ2 e2 => ?_)
        subst e2
        refine zz_iload C dX0_plant_123 rfl ?_
        refine zz_istore_n C dX0_plant_125 (L' := [_, _, _, _, _, _]) rfl ⟨Nat.le_of_ble_eq_true rfl, by decide⟩ ?_
        refine zz_iinc C dX0_plant_126 rfl (zz_inc1 _) (L' := [_, _, _, _, _, _]) rfl (by decide) ?_
        refine zz_goto C 4 dX0_plant_129 (by decide) ?_
        refine zz_take C 4 (L' := [_, _, _, _]) rfl ?_
        refine next hq' _ N PL AB (updN u (q + 1) x) (updN th x (th x + 1)) _ (TSz_c hT rfl rfl rfl rfl rfl) (TIz_go hI hbt x1 x2 x3 x4) (fun y a1 a2 => ?_) (by omega) g0 g2 g1 (by rw [updN_s])
        rcases Nat.decEq y x with e | e
        · rw [zzu_sn _ _ _ _ e, updN_n _ _ e]; exact hth y a1 a2
        · subst e; rw [zzu_ss, updN_s]
      refine zz_aload_n C dX0_plant_10 rfl ?_
      refine x_get_order C dX0_plant_11 ?_
      refine zz_iload_n C dX0_plant_14 rfl ?_
      refine x_bald C dX0_plant_15 rfl q rfl hq' ?_
      refine zz_eq _ (hT.2.2.1 q hq') ?_
      refine zz_istore C dX0_plant_16 (L' := [_, _, _, _, _]) rfl ⟨Nat.le_of_ble_eq_true rfl, by decide⟩ ?_
      refine zz_iload_n C dX0_plant_18 rfl ?_
      refine zz_iload C dX0_plant_19 rfl ?_
      refine zz_ishr C dX0_plant_21 ?_
      refine zz_iconst C (v := 1) dX0_plant_22 (by decide) ?_
      refine zz_iand C dX0_plant_23 ?_
      refine zz_eq (nI (if B.testBit (π q) = true then 1 else 0)) (zi_bit hB hpi) ?_
      refine zz_if_ne C 30 dX0_plant_24 (by decide) (fun c24 => ?_) (fun c24 => ?_)
      · have hbt := zi_bne c24
        have hTR := hI.1
        have huq := (Paz_in hTR hI.2.2.1 q (Nat.le_refl q)).1
        have h161 := hT.1
        refine zz_aload_n C dX0_plant_30 rfl ?_
        refine zz_iload_n C dX0_plant_31 rfl ?_
        refine zz_iload C dX0_plant_32 rfl ?_
        refine zz_calli C (X_childWith l D h d σ1 hT hTR (nd := u q) (by omega) hq') rfl rfl rfl q108 q110 qs4 q19 q111 (nA := 2) (by decide +kernel) rfl ⟨rfl, rfl, by decide, by decide⟩ rfl (Nat.le_of_ble_eq_true rfl) dX0_plant_34 (fun r σ2 hp => ?_)
        obtain ⟨rfl, x, rfl, hx⟩ := hp
        refine zz_istore C dX0_plant_37 (L' := [_, _, _, _, _, _]) rfl ⟨Nat.le_of_ble_eq_true rfl, by decide⟩ ?_
        refine zz_iload C dX0_plant_39 rfl ?_
        refine zz_if_ne C 111 dX0_plant_41 (by decide) (fun c41 => ?_) (fun c41 => ?_)
        · rcases hx with ⟨hx, -⟩ | ⟨x1, x2, x3, x4⟩
          · exact absurd (by rw [hx]; rfl) c41
          · exact fin _ N PL AB th x hT hI hth (by omega) g0 g2 g1 x1 x2 x3 x4 hbt
        · rcases hx with ⟨hx, hno⟩ | ⟨x1, x2, x3, x4⟩
          · have hN1 := hTR.1
            have hlb := lbz_in PL q N
            refine zz_aload_n C dX0_plant_44 rfl ?_
            refine x_get_nodeCount C dX0_plant_45 ?_
            refine zz_eq _ hT.2.1 ?_
            refine zz_istore C dX0_plant_48 (L' := [_, _, _, _, _, _]) rfl ⟨Nat.le_of_ble_eq_true rfl, by decide⟩ ?_
            refine zz_aload_n C dX0_plant_50 rfl ?_
            refine zz_dup C dX0_plant_51 rfl ?_
            refine x_get_nodeCount C dX0_plant_52 ?_
            refine zz_eq _ hT.2.1 ?_
            refine zz_iconst C (v := 1) dX0_plant_55 (by decide) ?_
            refine zz_iadd C dX0_plant_56 ?_
            refine zz_eq _ (nI_1 _) ?_
            refine x_put_nodeCount C dX0_plant_57 (fun σa ea => ?_)
            refine zz_aload_n C dX0_plant_60 rfl ?_
            refine x_get_thingAt C dX0_plant_61 ?_
            refine zz_iload C dX0_plant_64 rfl ?_
            refine zz_iload C dX0_plant_66 rfl ?_
            refine zz_i2b C dX0_plant_68 ?_
            refine zz_eq _ (zi_i2b _ (by omega)) ?_
            refine x_bast C dX0_plant_69 rfl N rfl (by omega) (zi_by _ (by omega)) (fun σb eb => ?_)
            refine zz_aload_n C dX0_plant_70 rfl ?_
            refine x_get_through C dX0_plant_71 ?_
            refine zz_iload C dX0_plant_74 rfl ?_
            refine zz_iconst C (v := 0) dX0_plant_76 (by decide) ?_
            refine x_bast C dX0_plant_77 rfl N rfl (by omega) rfl (fun σc ec => ?_)
            refine zz_aload_n C dX0_plant_78 rfl ?_
            refine x_get_above C dX0_plant_79 ?_
            refine zz_iload C dX0_plant_82 rfl ?_
            refine zz_iload_n C dX0_plant_84 rfl ?_
            refine zz_i2s C dX0_plant_85 ?_
            refine zz_eq _ (zi_i2s _ (by omega)) ?_
            refine x_sast C dX0_plant_86 rfl N rfl (by omega) (zi_sh _ (by omega)) (fun σd ed => ?_)
            subst ea eb ec ed
            refine zz_aload_n C dX0_plant_87 rfl ?_
            refine x_get_sameThing C dX0_plant_88 ?_
            refine zz_iload C dX0_plant_91 rfl ?_
            refine zz_aload_n C dX0_plant_93 rfl ?_
            refine x_get_firstOf C dX0_plant_94 ?_
            refine zz_iload C dX0_plant_97 rfl ?_
            refine x_sald C dX0_plant_99 rfl (π q) rfl hpi ?_
            refine zz_eq (nI (lbz PL q N)) (hT.2.2.2.2.1 q hq') ?_
            refine x_sast C dX0_plant_100 rfl N rfl (by omega) (zi_sh _ (by omega)) (fun σe ee => ?_)
            refine zz_aload_n C dX0_plant_101 rfl ?_
            refine x_get_firstOf C dX0_plant_102 ?_
            refine zz_iload C dX0_plant_105 rfl ?_
            refine zz_iload C dX0_plant_107 rfl ?_
            refine zz_i2s C dX0_plant_109 ?_
            refine zz_eq _ (zi_i2s _ (by omega)) ?_
            refine x_sast C dX0_plant_110 rfl (π q) rfl hpi (zi_sh _ (by omega)) (fun σf ef => ?_)
            subst ee ef
            refine fin _ (N + 1) (updN PL N q) (updN AB N (u q)) (updN th N 0) N (TSz_new hT hq' hN1 (by omega) rfl rfl (fun _ => rfl) (fun _ => rfl) (fun _ => rfl)) (TIz_new hI hq' hno) (fun y a1 a2 => ?_) (by omega) g0 g2 g1 hN1 (by omega) (updN_s _ _ _) (updN_s _ _ _) hbt
            show zzu _ 5 N _ 5 y = _
            rcases Nat.decEq y N with e | e
            · rw [zzu_sn _ _ _ _ e, updN_n _ _ e]; exact hth y a1 (by omega)
            · subst e; rw [zzu_ss, updN_s]; decide
          · rw [zz_0, nI_eq (by omega) (by decide)] at c41
            omega
      · have hbt := zi_be c24
        refine zz_goto C 126 dX0_plant_27 (by decide) ?_
        refine zz_iinc C dX0_plant_126 rfl (zz_inc1 _) (L' := [_, _, _, _, _]) rfl (by decide) ?_
        refine zz_goto C 4 dX0_plant_129 (by decide) ?_
        refine zz_take C 4 (L' := [_, _, _, _]) rfl ?_
        exact next hq' σ1 N PL AB (updN u (q + 1) (u q)) th _ hT (TIz_skip hI hbt) hth (by omega) g0 g2 g1 (by rw [updN_s])
  refine zz_iconst C (v := 0) dX0_plant_0 (by decide) ?_
  refine zz_istore_n C dX0_plant_1 (L' := [_, _, _]) rfl ⟨Nat.le_of_ble_eq_true rfl, by decide⟩ ?_
  refine zz_iconst C (v := 0) dX0_plant_2 (by decide) ?_
  refine zz_istore_n C dX0_plant_3 (L' := [_, _, _, _]) rfl ⟨Nat.le_of_ble_eq_true rfl, by decide⟩ ?_
  exact loop 0 (by decide) σ N PL AB (fun _ => 0) th 0 hT hI hth (by omega) rfl rfl rfl rfl
end
section
set_option maxRecDepth 100000
theorem X_growSets (l : Launch) (D : va_G) (h : Nat → Nat) (d : Nat → ClassId) (σ : zzS) {π : Nat → Nat} {N : Nat} {PL AB b : Nat → Nat} {ν : Nat → Nat → Nat} {n : Nat} (hT : TSz π N PL AB σ) (hF : FTz π N PL AB b ν n) (hn : n ≤ 20) (h00 : σ 0 0 = nI n) (hth : ∀ x, 1 ≤ x → x < N → σ 5 x = nI (wgz π PL b ν n 0 x)) : zzMv l yX0_growSets cX0_growSets 6 (zR 1 40) D (tX d) (wX h d) (h 0) [] σ (fun σ' => cXz (cz b n) σ' ∧ ∀ k, k < 12 → σ' k = σ k) := by
  refine zzMv_of RX0 rfl (by decide) (Nat.le_of_ble_eq_true rfl) rfl (fun Z C E => ?_)
  have hR := hF.1
  have hinj := hT.2.2.2.1
  have h161 := hT.1
  have dfs : ∀ q, q ≤ 8 → ∀ (dep s : Nat) (σ1 : zzS), dep + q ≤ 8 → s < 256 → (∀ k, k < 12 → σ1 k = σ k) → σ1 14 dep = nI s → σ1 15 dep = nI q - 1 → (∀ p, p < q → s.testBit (π p) = false) → (∀ x, 1 ≤ x → x < N → PL x < q → σ1 13 (161 * dep + x) = nI (wgz π PL b ν n s x)) → (∀ S, S < 256 → pdz π s q S → σ1 12 S = 0) →
      (∀ σ2 : zzS, (∀ k, k < 12 → σ2 k = σ k) → (∀ S, S < 256 → pdz π s q S → σ2 12 S = nI (cz b n S)) → (∀ S, S < 256 → ¬ pdz π s q S → σ2 12 S = σ1 12 S) → (∀ j, j ≤ dep → σ2 14 j = σ1 14 j) → (∀ j, j < dep → σ2 15 j = σ1 15 j) → (∀ i, i < 161 * (dep + 1) → σ2 13 i = σ1 13 i) → Z σ2 78 [.ref (h 0), .int (nI dep - 1)] []) → Z σ1 78 [.ref (h 0), .int (nI dep)] [] := by
    intro q
    induction q with
    | zero =>
      intro hq dep s σ1 hd hs hk h14 h15 hbits hw hc k
      refine zz_iload_n C dX0_growSets_78 rfl ?_
      refine zz_if_lt C 186 dX0_growSets_79 (by decide) (fun c79 => ?_) (fun c79 => ?_)
      · exact absurd c79 (nI_pos (by omega))
      · refine zz_aload_n C dX0_growSets_82 rfl ?_
        refine x_get_goesOnAt C dX0_growSets_83 ?_
        refine zz_iload_n C dX0_growSets_86 rfl ?_
        refine x_bald C dX0_growSets_87 rfl dep rfl (by omega) ?_
        refine zz_eq _ h15 ?_
        refine zz_istore_n C dX0_growSets_88 (L' := [_, _, _]) rfl ⟨Nat.le_of_ble_eq_true rfl, by decide⟩ ?_
        refine zz_iload_n C dX0_growSets_89 rfl ?_
        refine zz_if_ge C 99 dX0_growSets_90 (by decide) (fun c90 => ?_) (fun c90 => ?_)
        · exact absurd c90 (by decide)
        · refine zz_iinc C dX0_growSets_93 rfl (zi_gm _) (L' := [_, _, _]) rfl (by decide) ?_
          refine zz_goto C 78 dX0_growSets_96 (by decide) ?_
          refine zz_take C 2 (L' := [_, _]) rfl ?_
          exact k σ1 hk (fun S _ z => absurd z (pdz_0 π s S)) (fun _ _ _ => rfl) (fun _ _ => rfl) (fun _ _ => rfl) (fun _ _ => rfl)
    | succ p ih =>
      intro hq dep s σ1 hd hs hk h14 h15 hbits hw hc k
      have hp : p < 8 := by omega
      have hpi := hinj.1 p hp
      have hsp := hbits p (by omega)
      have hpd : ∀ S, pdz π s (p + 1) S ↔ pdz π s p S ∨ S = s ||| 2 ^ π p ∨ pdz π (s ||| 2 ^ π p) p S := fun S => pdz_s hinj hp hsp
      have hno : ∀ S, pdz π s p S → S.testBit (π p) = false := fun S z => pdz_no hinj hp hsp z
      have hs'b : (s ||| 2 ^ π p).testBit (π p) = true := (suz_or.mp (suz_rf _)).2
      have hs' : s ||| 2 ^ π p < 256 := or_lt hs hpi
      have hcz := cz_le b n (s ||| 2 ^ π p)
      have e15 : σ1 15 dep = nI p := by rw [h15]; exact nI_pred p
      refine zz_iload_n C dX0_growSets_78 rfl ?_
      refine zz_if_lt C 186 dX0_growSets_79 (by decide) (fun c79 => ?_) (fun c79 => ?_)
      · exact absurd c79 (nI_pos (by omega))
      · refine zz_aload_n C dX0_growSets_82 rfl ?_
        refine x_get_goesOnAt C dX0_growSets_83 ?_
        refine zz_iload_n C dX0_growSets_86 rfl ?_
        refine x_bald C dX0_growSets_87 rfl dep rfl (by omega) ?_
        refine zz_eq _ e15 ?_
        refine zz_istore_n C dX0_growSets_88 (L' := [_, _, _]) rfl ⟨Nat.le_of_ble_eq_true rfl, by decide⟩ ?_
        refine zz_iload_n C dX0_growSets_89 rfl ?_
        refine zz_if_ge C 99 dX0_growSets_90 (by decide) (fun c90 => ?_) (fun c90 => ?_)
        · refine zz_aload_n C dX0_growSets_99 rfl ?_
          refine x_get_goesOnAt C dX0_growSets_100 ?_
          refine zz_iload_n C dX0_growSets_103 rfl ?_
          refine zz_dup2 C dX0_growSets_104 rfl rfl ?_
          refine x_bald C dX0_growSets_105 rfl dep rfl (by omega) ?_
          refine zz_eq _ e15 ?_
          refine zz_iconst C (v := 1) dX0_growSets_106 (by decide) ?_
          refine zz_isub C dX0_growSets_107 ?_
          refine zz_i2b C dX0_growSets_108 ?_
          refine zz_eq _ (zi_g p hp) ?_
          refine x_bast C dX0_growSets_109 rfl dep rfl (by omega) (zi_vg p (by omega)) (fun σa ea => ?_)
          have ka : ∀ k, k ≠ 15 → σa k = σ1 k := fun k hk => by rw [ea]; exact zzu_n _ _ _ _ hk
          have ka15 : σa 15 dep = nI p - 1 := by rw [ea]; exact zzu_ss _ _ _ _
          have ka15' : ∀ j, j ≠ dep → σa 15 j = σ1 15 j := fun j hj => by rw [ea]; exact zzu_sn _ _ _ _ hj
          clear ea
          have hTa : TSz π N PL AB σa := TSz_c hT (by rw [ka 0 (by decide), hk 0 (by decide)]) (by rw [ka 9 (by decide), hk 9 (by decide)]) (by rw [ka 8 (by decide), hk 8 (by decide)]) (by rw [ka 7 (by decide), hk 7 (by decide)]) (by rw [ka 6 (by decide), hk 6 (by decide)])
          refine zz_aload_n C dX0_growSets_110 rfl ?_
          refine x_get_order C dX0_growSets_111 ?_
          refine zz_iload_n C dX0_growSets_114 rfl ?_
          refine x_bald C dX0_growSets_115 rfl p rfl (by omega) ?_
          refine zz_eq _ (hTa.2.2.1 p hp) ?_
          refine zz_istore_n C dX0_growSets_116 (L' := [_, _, _, _]) rfl ⟨Nat.le_of_ble_eq_true rfl, by decide⟩ ?_
          refine zz_aload_n C dX0_growSets_117 rfl ?_
          refine zz_iload_n C dX0_growSets_118 rfl ?_
          refine zz_iload_n C dX0_growSets_119 rfl ?_
          refine zz_calli C (X_countOn l D h d σa hTa (W := wgz π PL b ν n s) (dep := dep) (by omega) hp (fun x x1 x2 x3 => by rw [ka 13 (by decide)]; exact hw x x1 x2 (by omega))) rfl rfl rfl q116 q118 qs6 q19 q119 (nA := 2) (by decide +kernel) rfl ⟨rfl, rfl, by decide, by decide⟩ rfl (Nat.le_of_ble_eq_true rfl) dX0_growSets_120 (fun r σ9 hr => ?_)
          obtain ⟨rfl, rfl⟩ := hr
          refine zz_eq _ (by rw [cnt_on hF s hp]) ?_
          refine zz_istore C dX0_growSets_123 (L' := [_, _, _, _, _]) rfl ⟨Nat.le_of_ble_eq_true rfl, by decide⟩ ?_
          refine zz_iload C dX0_growSets_125 rfl ?_
          refine zz_if_ne C 133 dX0_growSets_127 (by decide) (fun c127 => ?_) (fun c127 => ?_)
          · rw [zz_0, nI_eq (by omega) (by decide)] at c127
            refine zz_aload_n C dX0_growSets_133 rfl ?_
            refine x_get_setAt C dX0_growSets_134 ?_
            refine zz_iload_n C dX0_growSets_137 rfl ?_
            refine x_sald C dX0_growSets_138 rfl dep rfl (by omega) ?_
            refine zz_eq (nI s) (by rw [ka 14 (by decide)]; exact h14) ?_
            refine zz_iconst C (v := 1) dX0_growSets_139 (by decide) ?_
            refine zz_iload_n C dX0_growSets_140 rfl ?_
            refine zz_ishl C dX0_growSets_141 ?_
            refine zz_ior C dX0_growSets_142 ?_
            refine zz_eq _ (zi_orb hpi) ?_
            refine zz_istore C dX0_growSets_143 (L' := [_, _, _, _, _, _]) rfl ⟨Nat.le_of_ble_eq_true rfl, by decide⟩ ?_
            refine zz_aload_n C dX0_growSets_145 rfl ?_
            refine x_get_counts C dX0_growSets_146 ?_
            refine zz_iload C dX0_growSets_149 rfl ?_
            refine zz_iload C dX0_growSets_151 rfl ?_
            refine zz_i2b C dX0_growSets_153 ?_
            refine zz_eq _ (zi_i2b _ (by omega)) ?_
            refine x_bast C dX0_growSets_154 rfl (s ||| 2 ^ π p) rfl hs' (zi_by _ (by omega)) (fun σb eb => ?_)
            have kb : ∀ k, k ≠ 12 → σb k = σ9 k := fun k hk => by rw [eb]; exact zzu_n _ _ _ _ hk
            have kb12 : σb 12 (s ||| 2 ^ π p) = nI (cz b n (s ||| 2 ^ π p)) := by rw [eb]; exact zzu_ss _ _ _ _
            have kb12' : ∀ S, S ≠ s ||| 2 ^ π p → σb 12 S = σ1 12 S := fun S hS => by rw [eb, zzu_sn _ _ _ _ hS, ka 12 (by decide)]
            clear eb
            have hTb : TSz π N PL AB σb := TSz_c hTa (by rw [kb 0 (by decide)]) (by rw [kb 9 (by decide)]) (by rw [kb 8 (by decide)]) (by rw [kb 7 (by decide)]) (by rw [kb 6 (by decide)])
            refine zz_aload_n C dX0_growSets_155 rfl ?_
            refine zz_iload_n C dX0_growSets_156 rfl ?_
            refine zz_iload_n C dX0_growSets_157 rfl ?_
            refine zz_callv C (X_liftWeights l D h d σb hTb hR (W := wgz π PL b ν n s) (G := Gz π PL b ν n s p) (dep := dep) (p := p) (by omega) hp (fun x x1 x2 x3 => by rw [kb 13 (by decide), ka 13 (by decide)]; exact hw x x1 x2 (by omega)) (fun x => Nat.lt_of_le_of_lt (wgz_le s x) (by omega)) (fun x => Nat.lt_of_le_of_lt (Gz_le s p x) (by omega)) (fun y y1 y2 => Gz_eq hF s hp y1 y2)) rfl rfl rfl q120 q122 qs7 q19 q123 (nA := 2) (by decide +kernel) rfl ⟨rfl, rfl, by decide, by decide⟩ rfl (Nat.le_of_ble_eq_true rfl) dX0_growSets_158 (fun σc hc3 => ?_)
            obtain ⟨kc, kc13, kcG⟩ := hc3
            refine zz_iinc C dX0_growSets_161 rfl (zz_inc1 _) (L' := [_, _, _, _, _, _]) rfl (by decide) ?_
            refine zz_aload_n C dX0_growSets_164 rfl ?_
            refine x_get_setAt C dX0_growSets_165 ?_
            refine zz_iload_n C dX0_growSets_168 rfl ?_
            refine zz_iload C dX0_growSets_169 rfl ?_
            refine zz_i2s C dX0_growSets_171 ?_
            refine zz_eq _ (zi_i2s _ hs') ?_
            refine x_sast C dX0_growSets_172 rfl (dep + 1) rfl (by omega) (zi_sh _ hs') (fun σd ed => ?_)
            refine zz_aload_n C dX0_growSets_173 rfl ?_
            refine x_get_goesOnAt C dX0_growSets_174 ?_
            refine zz_iload_n C dX0_growSets_177 rfl ?_
            refine zz_iload_n C dX0_growSets_178 rfl ?_
            refine zz_iconst C (v := 1) dX0_growSets_179 (by decide) ?_
            refine zz_isub C dX0_growSets_180 ?_
            refine zz_i2b C dX0_growSets_181 ?_
            refine zz_eq _ (zi_g p hp) ?_
            refine x_bast C dX0_growSets_182 rfl (dep + 1) rfl (by omega) (zi_vg p (by omega)) (fun σe ee => ?_)
            have ke : ∀ k, k ≠ 14 → k ≠ 15 → σe k = σc k := fun k h1 h2 => by rw [ee, zzu_n _ _ _ _ h2, ed, zzu_n _ _ _ _ h1]
            have ke15 : σe 15 (dep + 1) = nI p - 1 := by rw [ee]; exact zzu_ss _ _ _ _
            have ke15' : ∀ j, j ≠ dep + 1 → σe 15 j = σ9 15 j := fun j hj => by rw [ee, zzu_sn _ _ _ _ hj, ed, zzu_n _ _ _ _ (by decide), kc 15 (by decide), kb 15 (by decide)]
            have ke14 : σe 14 (dep + 1) = nI (s ||| 2 ^ π p) := by rw [ee, zzu_n _ _ _ _ (by decide), ed]; exact zzu_ss _ _ _ _
            have ke14' : ∀ j, j ≠ dep + 1 → σe 14 j = σ1 14 j := fun j hj => by rw [ee, zzu_n _ _ _ _ (by decide), ed, zzu_sn _ _ _ _ hj, kc 14 (by decide), kb 14 (by decide), ka 14 (by decide)]
            have ke12 : ∀ S, σe 12 S = σb 12 S := fun S => by rw [ke 12 (by decide) (by decide), kc 12 (by decide)]
            have ke13 : ∀ i, i < 161 * (dep + 1) → σe 13 i = σ1 13 i := fun i hi => by rw [ke 13 (by decide) (by decide), kc13 i hi, kb 13 (by decide), ka 13 (by decide)]
            have ke13' : ∀ i, σe 13 i = σc 13 i := fun i => by rw [ke 13 (by decide) (by decide)]
            have keL : ∀ k, k < 12 → σe k = σ k := fun k hk12 => by rw [ke k (by omega) (by omega), kc k (by omega), kb k (by omega), ka k (by omega), hk k hk12]
            clear ee ed
            refine zz_goto C 78 dX0_growSets_183 (by decide) ?_
            refine zz_take C 2 (L' := [_, _]) rfl ?_
            refine ih (by omega) (dep + 1) (s ||| 2 ^ π p) σe (by omega) hs' keL ke14 ke15 (fun p' hp' => ?_) (fun x x1 x2 x3 => ?_) (fun S hS hP => ?_) (fun σ2 f1 f2 f3 f4 f5 f6 => ?_)
            · rw [bit_or, hbits p' (by omega), decide_eq_false (fun z => by have := hinj.2 p p' hp (by omega) z; omega)]; rfl
            · rw [ke13', kcG x x1 x2, Gz_wgz s p x (by omega)]
            · rw [ke12, kb12' S (pdz_u hP)]
              exact hc S hS ((hpd S).mpr (Or.inr (Or.inr hP)))
            · rw [nI_pred]
              refine ih (by omega) dep s σ2 (by omega) hs f1 (by rw [f4 dep (by omega), ke14' dep (by omega)]; exact h14) (by rw [f5 dep (by omega), ke15' dep (by omega)]; exact ka15) (fun p' hp' => hbits p' (by omega)) (fun x x1 x2 x3 => ?_) (fun S hS hP => ?_) (fun σ3 g1 g2 g3 g4 g5 g6 => ?_)
              · rw [f6 _ (by omega), ke13 _ (by omega)]
                exact hw x x1 x2 (by omega)
              · have hb := hno S hP
                rw [f3 S hS (fun z => absurd (pdz_has z) (by rw [hb]; decide)), ke12, kb12' S (fun z => by rw [z, hs'b] at hb; cases hb)]
                exact hc S hS ((hpd S).mpr (Or.inl hP))
              · refine k σ3 g1 (fun S hS hP => ?_) (fun S hS hP => ?_) (fun j hj => by rw [g4 j hj, f4 j (by omega), ke14' j (by omega)]) (fun j hj => by rw [g5 j hj, f5 j (by omega), ke15' j (by omega), ka15' j (by omega)]) (fun i hi => by rw [g6 i hi, f6 i (by omega), ke13 i hi])
                · rcases Classical.em (pdz π s p S) with z | z
                  · exact g2 S hS z
                  · rw [g3 S hS z]
                    rcases (hpd S).mp hP with y | y | y
                    · exact absurd y z
                    · subst y
                      rw [f3 _ hS (fun w => pdz_u w rfl), ke12]; exact kb12
                    · exact f2 S hS y
                · have n1 : ¬ pdz π s p S := fun z => hP ((hpd S).mpr (Or.inl z))
                  have n2 : S ≠ s ||| 2 ^ π p := fun z => hP ((hpd S).mpr (Or.inr (Or.inl z)))
                  have n3 : ¬ pdz π (s ||| 2 ^ π p) p S := fun z => hP ((hpd S).mpr (Or.inr (Or.inr z)))
                  rw [g3 S hS n1, f3 S hS n3, ke12, kb12' S n2]
          · rw [zz_0, nI_eq (by omega) (by decide)] at c127
            refine zz_goto C 78 dX0_growSets_130 (by decide) ?_
            refine zz_take C 2 (L' := [_, _]) rfl ?_
            refine ih (by omega) dep s σ9 (by omega) hs (fun k hk12 => by rw [ka k (by omega)]; exact hk k hk12) (by rw [ka 14 (by decide)]; exact h14) ka15 (fun p' hp' => hbits p' (by omega)) (fun x x1 x2 x3 => by rw [ka 13 (by decide)]; exact hw x x1 x2 (by omega)) (fun S hS hP => by rw [ka 12 (by decide)]; exact hc S hS ((hpd S).mpr (Or.inl hP))) (fun σ2 f1 f2 f3 f4 f5 f6 => ?_)
            refine k σ2 f1 (fun S hS hP => ?_) (fun S hS hP => ?_) (fun j hj => by rw [f4 j hj, ka 14 (by decide)]) (fun j hj => by rw [f5 j hj, ka15' j (by omega)]) (fun i hi => by rw [f6 i hi, ka 13 (by decide)])
            · rcases Classical.em (pdz π s p S) with z | z
              · exact f2 S hS z
              · rw [f3 S hS z, ka 12 (by decide), hc S hS hP]
                have hsub : suz (s ||| 2 ^ π p) S := by
                  rcases (hpd S).mp hP with y | y | y
                  · exact absurd y z
                  · rw [y]; exact suz_rf _
                  · exact y.1
                have := cz_anti (b := b) (n := n) hsub
                rw [show cz b n S = 0 by omega]; rfl
            · have n1 : ¬ pdz π s p S := fun z => hP ((hpd S).mpr (Or.inl z))
              rw [f3 S hS n1, ka 12 (by decide)]
        · exact absurd (nI_pos' (by omega)) c90
  have second : ∀ x, x ≤ N → ∀ σ1 : zzS, (∀ k, k < 12 → σ1 k = σ k) → σ1 12 0 = nI n → (∀ T, 1 ≤ T → T < 256 → σ1 12 T = 0) → (∀ y, 1 ≤ y → y < x → σ1 13 y = nI (wgz π PL b ν n 0 y)) → Z σ1 35 [.ref (h 0), .int (nI x)] [] := by
    refine zz_lp N (fun x hx next σ1 hk h12 h12' h13 => ?_)
    refine zz_iload_n C dX0_growSets_35 rfl ?_
    refine zz_aload_n C dX0_growSets_36 rfl ?_
    refine x_get_nodeCount C dX0_growSets_37 ?_
    refine zz_eq (nI N) (by rw [hk 0 (by decide)]; exact hT.2.1) ?_
    refine zz_icmp_ge C 61 dX0_growSets_40 (by decide) (fun c40 => ?_) (fun c40 => ?_)
    · rw [zi_le (by omega) (by omega)] at c40
      refine zz_iconst C (v := 0) dX0_growSets_61 (by decide) ?_
      refine zz_istore_n C dX0_growSets_62 (L' := [_, _]) rfl ⟨Nat.le_of_ble_eq_true rfl, by decide⟩ ?_
      refine zz_aload_n C dX0_growSets_63 rfl ?_
      refine x_get_setAt C dX0_growSets_64 ?_
      refine zz_iconst C (v := 0) dX0_growSets_67 (by decide) ?_
      refine zz_iconst C (v := 0) dX0_growSets_68 (by decide) ?_
      refine x_sast C dX0_growSets_69 rfl 0 rfl (by decide) (v := nI 0) (by decide) (fun σ2 e2 => ?_)
      refine zz_aload_n C dX0_growSets_70 rfl ?_
      refine x_get_goesOnAt C dX0_growSets_71 ?_
      refine zz_iconst C (v := 0) dX0_growSets_74 (by decide) ?_
      refine zz_bipush C (v := 7) dX0_growSets_75 (by decide) ?_
      refine x_bast C dX0_growSets_77 rfl 0 rfl (by decide) (v := nI 8 - 1) (by decide) (fun σ3 e3 => ?_)
      subst e2 e3
      refine dfs 8 (Nat.le_refl 8) 0 0 _ (by decide) (by decide) (fun k hk12 => by rw [zzu_n _ _ _ _ (by omega), zzu_n _ _ _ _ (by omega)]; exact hk k hk12) (by rw [zzu_n _ _ _ _ (by decide)]; exact zzu_ss _ _ _ _) (zzu_ss _ _ _ _) (fun p _ => Nat.zero_testBit _) (fun y y1 y2 _ => ?_) (fun S hS hP => ?_) (fun σ4 f1 f2 f3 f4 f5 f6 => ?_)
      · rw [zzu_n _ _ _ _ (by decide), zzu_n _ _ _ _ (by decide), Nat.mul_zero, Nat.zero_add]
        exact h13 y y1 (by omega)
      · rw [zzu_n _ _ _ _ (by decide), zzu_n _ _ _ _ (by decide)]
        have := (pdz_all hinj hS).mp hP
        exact h12' S (by omega) hS
      · refine zz_iload_n C dX0_growSets_78 rfl ?_
        refine zz_if_lt C 186 dX0_growSets_79 (by decide) (fun c79 => ?_) (fun c79 => ?_)
        · refine E _ _ _ dX0_growSets_186 ⟨fun S hS => ?_, f1⟩
          rcases Nat.decEq S 0 with e | e
          · exact f2 S hS ((pdz_all hinj hS).mpr e)
          · subst e
            rw [f3 0 hS (fun z => absurd rfl ((pdz_all hinj hS).mp z)), zzu_n _ _ _ _ (by decide), zzu_n _ _ _ _ (by decide), h12, cz_0]
        · exact absurd (by decide) c79
    · rw [zi_le (by omega) (by omega)] at c40
      refine zz_aload_n C dX0_growSets_43 rfl ?_
      refine x_get_weights C dX0_growSets_44 ?_
      refine zz_iload_n C dX0_growSets_47 rfl ?_
      refine zz_aload_n C dX0_growSets_48 rfl ?_
      refine x_get_through C dX0_growSets_49 ?_
      refine zz_iload_n C dX0_growSets_52 rfl ?_
      refine x_bald C dX0_growSets_53 rfl x rfl (by omega) ?_
      refine x_bast C dX0_growSets_54 rfl x rfl (by omega) rfl (fun σ2 e2 => ?_)
      refine zz_iinc C dX0_growSets_55 rfl (zz_inc1 _) (L' := [_, _]) rfl (by decide) ?_
      refine zz_goto C 35 dX0_growSets_58 (by decide) ?_
      subst e2
      refine next (by omega) _ (fun k hk12 => by rw [zzu_n _ _ _ _ (by omega)]; exact hk k hk12) h12 h12' (fun y y1 y2 => ?_)
      rcases Nat.decEq y x with e | e
      · rw [zzu_sn _ _ _ _ e]; exact h13 y y1 (by omega)
      · subst e
        rw [zzu_ss, hk 5 (by decide), hth y y1 (by omega)]
        exact zi_by _ (Nat.lt_of_le_of_lt (wgz_le 0 y) (by omega))
  have first : ∀ S, S ≤ 256 → ∀ σ1 : zzS, (∀ k, k < 12 → σ1 k = σ k) → (∀ T, T < S → σ1 12 T = 0) → Z σ1 2 [.ref (h 0), .int (nI S)] [] := by
    refine zz_lp 256 (fun S hS next σ1 hk h12 => ?_)
    refine zz_iload_n C dX0_growSets_2 rfl ?_
    refine zz_sipush C (v := 256) dX0_growSets_3 (by decide) ?_
    refine zz_icmp_ge C 22 dX0_growSets_6 (by decide) (fun c6 => ?_) (fun c6 => ?_)
    · have e := zc256 hS c6
      subst e
      refine zz_aload_n C dX0_growSets_22 rfl ?_
      refine x_get_counts C dX0_growSets_23 ?_
      refine zz_iconst C (v := 0) dX0_growSets_26 (by decide) ?_
      refine zz_aload_n C dX0_growSets_27 rfl ?_
      refine x_get_basketCount C dX0_growSets_28 ?_
      refine zz_eq (nI n) (by rw [hk 0 (by decide)]; exact h00) ?_
      refine zz_i2b C dX0_growSets_31 ?_
      refine zz_eq _ (zi_i2b _ (by omega)) ?_
      refine x_bast C dX0_growSets_32 rfl 0 rfl (by decide) (zi_by _ (by omega)) (fun σ2 e2 => ?_)
      refine zz_iconst C (v := 0) dX0_growSets_33 (by decide) ?_
      refine zz_istore_n C dX0_growSets_34 (L' := [_, _]) rfl ⟨Nat.le_of_ble_eq_true rfl, by decide⟩ ?_
      subst e2
      exact second 0 (Nat.zero_le _) _ (fun k hk12 => by rw [zzu_n _ _ _ _ (by omega)]; exact hk k hk12) (zzu_ss _ _ _ _) (fun T a1 a2 => by rw [zzu_sn _ _ _ _ (by omega)]; exact h12 T a2) (fun y a1 a2 => absurd a2 (by omega))
    · have hS' := zc256' hS c6
      refine zz_aload_n C dX0_growSets_9 rfl ?_
      refine x_get_counts C dX0_growSets_10 ?_
      refine zz_iload_n C dX0_growSets_13 rfl ?_
      refine zz_iconst C (v := 0) dX0_growSets_14 (by decide) ?_
      refine x_bast C dX0_growSets_15 rfl S rfl hS' rfl (fun σ2 e2 => ?_)
      refine zz_iinc C dX0_growSets_16 rfl (zz_inc1 _) (L' := [_, _]) rfl (by decide) ?_
      refine zz_goto C 2 dX0_growSets_19 (by decide) ?_
      subst e2
      refine next hS' _ (fun k hk12 => by rw [zzu_n _ _ _ _ (by omega)]; exact hk k hk12) (fun T hT => ?_)
      rcases Nat.decEq T S with e | e
      · rw [zzu_sn _ _ _ _ e]; exact h12 T (by omega)
      · subst e; rw [zzu_ss]; decide
  refine zz_iconst C (v := 0) dX0_growSets_0 (by decide) ?_
  refine zz_istore_n C dX0_growSets_1 (L' := [_, _]) rfl ⟨Nat.le_of_ble_eq_true rfl, by decide⟩ ?_
  exact first 0 (by decide) σ (fun _ _ => rfl) (fun T hT => absurd hT (by omega))
end
section
set_option maxRecDepth 100000
theorem X_build (l : Launch) (D : va_G) (h : Nat → Nat) (d : Nat → ClassId) (σ : zzS) {n : Nat} {b : Nat → Nat} (hI : IXz n b σ) : zzMv l yX0_build cX0_build 2 (zR 2 80) D (tX d) (wX h d) (h 0) [] σ (fun σ' => IXz n b σ' ∧ cXz (cz b n) σ') := by
  refine zzMv_of RX0 rfl (by decide) (Nat.le_of_ble_eq_true rfl) rfl (fun Z C E => ?_)
  obtain ⟨⟨hn, h00, hbs⟩, hbu⟩ := id hI
  refine zz_aload_n C dX0_build_0 rfl ?_
  refine x_get_built C dX0_build_1 ?_
  refine zz_if_eq C 8 dX0_build_4 (by decide) (fun c4 => ?_) (fun c4 => ?_)
  · refine zz_aload_n C dX0_build_8 rfl ?_
    refine zz_iconst C (v := 1) dX0_build_9 (by decide) ?_
    refine x_put_built C dX0_build_10 (Or.inr rfl) (fun σ1 e1 => ?_)
    refine zz_aload_n C dX0_build_13 rfl ?_
    refine zz_callv C (X_orderThings l D h d σ1 hn (by rw [e1]; exact h00)) rfl rfl rfl q100 q102 qs2 q19 q103 (nA := 0) (by decide +kernel) rfl ⟨rfl, rfl, by decide, by decide⟩ rfl (Nat.le_of_ble_eq_true rfl) dX0_build_14 (fun σ2 hp2 => ?_)
    obtain ⟨k2, π, hinj, hord⟩ := hp2
    refine zz_aload_n C dX0_build_17 rfl ?_
    refine zz_iconst C (v := 1) dX0_build_18 (by decide) ?_
    refine x_put_nodeCount C dX0_build_19 (fun σ3 e3 => ?_)
    have a3 : ∀ k, k ≠ 0 → k ≠ 9 → k ≠ 10 → k ≠ 11 → σ3 k = σ k := fun k h0 h9 h10 h11 => by rw [e3, zzu_n _ _ _ _ h0, k2 k h9 h10 h11, e1, zzu_n _ _ _ _ h0]
    have a30 : σ3 0 0 = nI n := by
      rw [e3, zzu_sn _ _ _ _ (by decide), k2 0 (by decide) (by decide) (by decide), e1, zzu_sn _ _ _ _ (by decide)]; exact h00
    have a32 : σ3 0 2 = 1 := by
      rw [e3, zzu_sn _ _ _ _ (by decide), k2 0 (by decide) (by decide) (by decide), e1]; exact zzu_ss _ _ _ _
    have a33 : σ3 0 3 = nI 1 := by rw [e3]; exact zzu_ss _ _ _ _
    have a39 : σ3 9 = σ2 9 := by rw [e3, zzu_n _ _ _ _ (by decide)]
    refine zz_aload_n C dX0_build_22 rfl ?_
    refine x_get_through C dX0_build_23 ?_
    refine zz_iconst C (v := 0) dX0_build_26 (by decide) ?_
    refine zz_aload_n C dX0_build_27 rfl ?_
    refine x_get_basketCount C dX0_build_28 ?_
    refine zz_eq _ a30 ?_
    refine zz_i2b C dX0_build_31 ?_
    refine zz_eq _ (zi_i2b _ (by omega)) ?_
    refine x_bast C dX0_build_32 rfl 0 rfl (by decide) (zi_by _ (by omega)) (fun σ4 e4 => ?_)
    have a4 : ∀ k, k ≠ 5 → σ4 k = σ3 k := fun k hk => by rw [e4, zzu_n _ _ _ _ hk]
    clear e1 e3 e4 k2
    have plants : ∀ K, K ≤ n → ∀ (σ6 : zzS) (N : Nat) (PL AB : Nat → Nat) (ν : Nat → Nat → Nat) (th : Nat → Nat), TSz π N PL AB σ6 → TIz π N PL AB b ν K (b K) 0 (fun _ => 0) th → (∀ x, 1 ≤ x → x < N → σ6 5 x = nI (th x)) → N ≤ 1 + 8 * K → σ6 0 0 = nI n → σ6 0 2 = 1 → σ6 1 = σ 1 → Z σ6 56 [.ref (h 0), .int (nI K)] [] := by
      refine zz_lp n (fun K hK next σ6 N PL AB ν th hT hTI hth hN g0 g2 g1 => ?_)
      refine zz_iload_n C dX0_build_56 rfl ?_
      refine zz_aload_n C dX0_build_57 rfl ?_
      refine x_get_basketCount C dX0_build_58 ?_
      refine zz_eq _ g0 ?_
      refine zz_icmp_ge C 80 dX0_build_61 (by decide) (fun c61 => ?_) (fun c61 => ?_)
      · rw [zi_le (by omega) (by omega)] at c61
        have e : K = n := by omega
        subst e
        refine zz_aload_n C dX0_build_80 rfl ?_
        refine zz_callv C (X_growSets l D h d σ6 hT ⟨hTI.1, hTI.2.1⟩ hn g0 (fun x x1 x2 => by rw [hth x x1 x2, hTI.2.2.2 x x1 x2, ibz_f (fun z => absurd z.1 (by omega)), Nat.add_zero]; exact congrArg nI (sNz_c K (fun k _ => ibz_c ⟨fun z => ⟨Nat.zero_and _, z⟩, fun z => z.2⟩)))) rfl rfl rfl q112 q114 qs5 q19 q115 (nA := 0) (by decide +kernel) rfl ⟨rfl, rfl, by decide, by decide⟩ rfl (Nat.le_of_ble_eq_true rfl) dX0_build_81 (fun σ7 hp7 => ?_)
        obtain ⟨hc7, k7⟩ := hp7
        refine E _ _ _ dX0_build_84 ⟨⟨⟨hn, by rw [k7 0 (by decide)]; exact g0, fun k hk => ?_⟩, Or.inr ⟨by rw [k7 0 (by decide)]; exact g2, hc7⟩⟩, hc7⟩
        rw [k7 1 (by decide), g1]
        exact hbs k hk
      · rw [zi_le (by omega) (by omega)] at c61
        have hK' : K < n := by omega
        refine zz_aload_n C dX0_build_64 rfl ?_
        refine zz_aload_n C dX0_build_65 rfl ?_
        refine x_get_baskets C dX0_build_66 ?_
        refine zz_iload_n C dX0_build_69 rfl ?_
        refine x_sald C dX0_build_70 rfl K rfl (by omega) ?_
        refine zz_eq (nI (b K)) (by rw [g1]; exact (hbs K hK').2) ?_
        refine zz_callv C (X_plant l D h d σ6 hT hTI hth (by omega) hN (hbs K hK').1) rfl rfl rfl q104 q106 qs3 q19 q107 (nA := 1) (by decide +kernel) rfl ⟨rfl, rfl, by decide, by decide⟩ rfl (Nat.le_of_ble_eq_true rfl) dX0_build_71 (fun σ7 hp7 => ?_)
        obtain ⟨N', PL', AB', u, th', q1, q2, q3, q4, q5, q6, q7⟩ := hp7
        refine zz_iinc C dX0_build_74 rfl (zz_inc1 _) (L' := [_, _]) rfl (by decide) ?_
        refine zz_goto C 56 dX0_build_77 (by decide) ?_
        exact next hK' σ7 N' PL' AB' _ th' q1 (TIz_next q2 (b (K + 1))) q3 q4 (by rw [q5]; exact g0) (by rw [q6]; exact g2) (by rw [q7]; exact g1)
    have firsts : ∀ t, t ≤ 8 → ∀ σ5 : zzS, (∀ k, k ≠ 8 → σ5 k = σ4 k) → (∀ u, u < t → σ5 8 u = 0) → Z σ5 35 [.ref (h 0), .int (nI t)] [] := by
      refine zz_lp 8 (fun t ht next σ5 k5 h8 => ?_)
      refine zz_iload_n C dX0_build_35 rfl ?_
      refine zz_bipush C (v := 8) dX0_build_36 (by decide) ?_
      refine zz_icmp_ge C 54 dX0_build_38 (by decide) (fun c38 => ?_) (fun c38 => ?_)
      · have e := zc8 ht c38
        subst e
        refine zz_iconst C (v := 0) dX0_build_54 (by decide) ?_
        refine zz_istore_n C dX0_build_55 (L' := [_, _]) rfl ⟨Nat.le_of_ble_eq_true rfl, by decide⟩ ?_
        refine plants 0 (Nat.zero_le n) σ5 1 (fun _ => 0) (fun _ => 0) (fun _ _ => 0) (fun _ => 0) ⟨by decide, by rw [k5 0 (by decide), a4 0 (by decide)]; exact a33, fun p hp => by rw [k5 9 (by decide), a4 9 (by decide), a39]; exact hord p hp, hinj, fun p hp => ?_, fun x x1 x2 => absurd x2 (by omega)⟩ ⟨⟨Nat.le_refl 1, fun x x1 x2 => absurd x2 (by omega), fun x y x1 x2 => absurd x2 (by omega)⟩, fun k hk => absurd hk (by omega), ⟨rfl, fun p hp => absurd hp (by omega)⟩, fun x x1 x2 => absurd x2 (by omega)⟩ (fun x x1 x2 => absurd x2 (by omega)) (by omega) (by rw [k5 0 (by decide), a4 0 (by decide)]; exact a30) (by rw [k5 0 (by decide), a4 0 (by decide)]; exact a32) (by rw [k5 1 (by decide), a4 1 (by decide), a3 1 (by decide) (by decide) (by decide) (by decide)])
        rw [h8 _ (hinj.1 p hp), lbz, if_neg (fun z => absurd z.1 (by omega))]
        rfl
      · have ht' := zc8' ht c38
        refine zz_aload_n C dX0_build_41 rfl ?_
        refine x_get_firstOf C dX0_build_42 ?_
        refine zz_iload_n C dX0_build_45 rfl ?_
        refine zz_iconst C (v := 0) dX0_build_46 (by decide) ?_
        refine x_sast C dX0_build_47 rfl t rfl ht' rfl (fun σ6 e6 => ?_)
        refine zz_iinc C dX0_build_48 rfl (zz_inc1 _) (L' := [_, _]) rfl (by decide) ?_
        refine zz_goto C 35 dX0_build_51 (by decide) ?_
        subst e6
        refine next ht' _ (fun k hk => by rw [zzu_n _ _ _ _ hk]; exact k5 k hk) (fun u hu => ?_)
        rcases Nat.decEq u t with e | e
        · rw [zzu_sn _ _ _ _ e]; exact h8 u (by omega)
        · subst e; rw [zzu_ss]; decide
    refine zz_iconst C (v := 0) dX0_build_33 (by decide) ?_
    refine zz_istore_n C dX0_build_34 (L' := [_, _]) rfl ⟨Nat.le_of_ble_eq_true rfl, by decide⟩ ?_
    exact firsts 0 (by decide) σ4 (fun _ _ => rfl) (fun u hu => absurd hu (by omega))
  · rcases hbu with hbu | ⟨-, hc⟩
    · exact absurd hbu c4
    · refine E _ _ _ dX0_build_7 ⟨hI, hc⟩
end
section
set_option maxRecDepth 100000
theorem X_add (l : Launch) (D : va_G) (h : Nat → Nat) (d : Nat → ClassId) (σ : zzS) {n : Nat} {b : Nat → Nat} (hI : IXz n b σ) (a : Int32) : zzMi l yX0_add cX0_add 2 .int (zR 1 40) D (tX d) (wX h d) (h 0) [.int a] σ (fun r σ' => IXz (adN n a) (adB n b a) σ' ∧ r = adR n a) := by
  refine zzMi_of RX0 rfl (by decide) (Nat.le_of_ble_eq_true rfl) rfl (fun Z C E => ?_)
  obtain ⟨⟨hn, h00, hbs⟩, hbu⟩ := id hI
  unfold adN adB adR at E
  refine zz_aload_n C dX0_add_0 rfl ?_
  refine x_get_basketCount C dX0_add_1 ?_
  refine zz_eq _ h00 ?_
  refine zz_bipush C (v := 20) dX0_add_4 (by decide) ?_
  refine zz_icmp_lt C 12 dX0_add_6 (by decide) (fun c6 => ?_) (fun c6 => ?_)
  · rw [zz_20, nI_ltI (by omega) (by decide)] at c6
    rw [if_neg (show ¬ 20 ≤ n by omega), if_neg (show ¬ 20 ≤ n by omega), if_neg (show ¬ 20 ≤ n by omega)] at E
    refine zz_aload_n C dX0_add_12 rfl ?_
    refine zz_iload_n C dX0_add_13 rfl ?_
    refine zz_calli C (X_isSet l D h d σ a) rfl rfl rfl q84 q86 qs0 q19 q87 (nA := 1) (by decide +kernel) rfl ⟨rfl, rfl, by decide, by decide⟩ rfl (Nat.le_of_ble_eq_true rfl) dX0_add_14 (fun r σ1 hp => ?_)
    obtain ⟨rfl, rfl⟩ := hp
    refine zz_if_ne C 22 dX0_add_17 (by decide) (fun c17 => ?_) (fun c17 => ?_)
    · have hs := zz_ifne c17
      rw [if_pos hs, if_pos hs, if_pos hs] at E
      obtain ⟨S, hS, rfl⟩ := zz_set hs
      rw [nI_clamp (by omega)] at E
      refine zz_aload_n C dX0_add_22 rfl ?_
      refine x_get_baskets C dX0_add_23 ?_
      refine zz_aload_n C dX0_add_26 rfl ?_
      refine x_get_basketCount C dX0_add_27 ?_
      refine zz_eq _ h00 ?_
      refine zz_iload_n C dX0_add_30 rfl ?_
      refine zz_i2s C dX0_add_31 ?_
      refine zz_eq _ (zi_i2s _ hS) ?_
      refine x_sast C dX0_add_32 rfl n rfl (by omega) (zi_sh _ hS) (fun σ2 e2 => ?_)
      refine zz_aload_n C dX0_add_33 rfl ?_
      refine zz_dup C dX0_add_34 rfl ?_
      refine x_get_basketCount C dX0_add_35 ?_
      refine zz_eq (nI n) (by rw [e2]; exact h00) ?_
      refine zz_iconst C (v := 1) dX0_add_38 (by decide) ?_
      refine zz_iadd C dX0_add_39 ?_
      refine zz_eq _ (nI_1 n) ?_
      refine x_put_basketCount C dX0_add_40 (fun σ3 e3 => ?_)
      refine zz_aload_n C dX0_add_43 rfl ?_
      refine zz_iconst C (v := 0) dX0_add_44 (by decide) ?_
      refine x_put_built C dX0_add_45 (Or.inl rfl) (fun σ4 e4 => ?_)
      refine zz_aload_n C dX0_add_48 rfl ?_
      refine x_get_basketCount C dX0_add_49 ?_
      refine zz_eq (nI (n + 1)) (by rw [e4, zzu_sn _ _ _ _ (by decide), e3]; exact zzu_ss _ _ _ _) ?_
      refine E _ _ _ _ dX0_add_52 rfl ⟨⟨⟨by omega, by rw [e4, zzu_sn _ _ _ _ (by decide), e3]; exact zzu_ss _ _ _ _, fun k hk => ?_⟩, Or.inl (by rw [e4]; exact zzu_ss _ _ _ _)⟩, rfl⟩
      subst e4
      subst e3
      subst e2
      show _ ∧ (zzu σ1 1 n (nI S)) 1 k = _
      rcases Nat.decEq k n with e | e
      · rw [updN_n _ _ e, zzu_sn _ _ _ _ e]
        exact hbs k (by omega)
      · subst e
        rw [updN_s, zzu_ss]
        exact ⟨hS, rfl⟩
    · have hs := zz_ifeq c17
      rw [if_neg hs, if_neg hs, if_neg hs] at E
      refine zz_iconst C (v := (-1)) dX0_add_20 (by decide) ?_
      refine E _ _ _ _ dX0_add_21 rfl ⟨hI, rfl⟩
  · rw [zz_20, nI_ltI (by omega) (by decide)] at c6
    rw [if_pos (show 20 ≤ n by omega), if_pos (show 20 ≤ n by omega), if_pos (show 20 ≤ n by omega)] at E
    refine zz_bipush C (v := (-2)) dX0_add_9 (by decide) ?_
    refine E _ _ _ _ dX0_add_11 rfl ⟨hI, rfl⟩
theorem X_drop (l : Launch) (D : va_G) (h : Nat → Nat) (d : Nat → ClassId) (σ : zzS) {n : Nat} {b : Nat → Nat} (hI : IXz n b σ) : zzMi l yX0_drop cX0_drop 2 .int (zR 0 0) D (tX d) (wX h d) (h 0) [] σ (fun r σ' => IXz (drN n) (drB n b) σ' ∧ r = drR n) := by
  refine zzMi_of RX0 rfl (by decide) (Nat.le_of_ble_eq_true rfl) rfl (fun Z C E => ?_)
  obtain ⟨⟨hn, h00, hbs⟩, hbu⟩ := id hI
  unfold drN drB drR at E
  refine zz_aload_n C dX0_drop_0 rfl ?_
  refine x_get_basketCount C dX0_drop_1 ?_
  refine zz_eq _ h00 ?_
  refine zz_if_ne C 10 dX0_drop_4 (by decide) (fun c4 => ?_) (fun c4 => ?_)
  · rw [zz_0, nI_eq (by omega) (by decide)] at c4
    rw [if_neg c4, if_neg c4] at E
    have loop : ∀ k, k ≤ n - 1 → ∀ σ : zzS, σ 0 0 = nI (n - 1) → (∀ j, j < k → σ 1 j = nI (b (j + 1))) → (∀ j, k ≤ j → j < n → σ 1 j = nI (b j)) → Z σ 22 [.ref (h 0), .int (nI k)] [] := by
      refine zz_lp (n - 1) (fun k hk next σ h0 h1 h2 => ?_)
      refine zz_iload_n C dX0_drop_22 rfl ?_
      refine zz_aload_n C dX0_drop_23 rfl ?_
      refine x_get_basketCount C dX0_drop_24 ?_
      refine zz_eq _ h0 ?_
      refine zz_icmp_ge C 50 dX0_drop_27 (by decide) (fun c27 => ?_) (fun c27 => ?_)
      · rw [zi_le (by omega) (by omega)] at c27
        refine zz_aload_n C dX0_drop_50 rfl ?_
        refine zz_iconst C (v := 0) dX0_drop_51 (by decide) ?_
        refine x_put_built C dX0_drop_52 (Or.inl rfl) (fun σ1 e1 => ?_)
        refine zz_aload_n C dX0_drop_55 rfl ?_
        refine x_get_basketCount C dX0_drop_56 ?_
        refine zz_eq (nI (n - 1)) (by rw [e1, zzu_sn _ _ _ _ (by decide)]; exact h0) ?_
        refine E _ _ _ _ dX0_drop_59 rfl ⟨⟨⟨by omega, by rw [e1, zzu_sn _ _ _ _ (by decide)]; exact h0, fun j hj => ⟨(hbs (j + 1) (by omega)).1, by subst e1; exact h1 j (by omega)⟩⟩, Or.inl (by rw [e1]; exact zzu_ss _ _ _ _)⟩, rfl⟩
      · rw [zi_le (by omega) (by omega)] at c27
        have hb1 := (hbs (k + 1) (by omega)).1
        refine zz_aload_n C dX0_drop_30 rfl ?_
        refine x_get_baskets C dX0_drop_31 ?_
        refine zz_iload_n C dX0_drop_34 rfl ?_
        refine zz_aload_n C dX0_drop_35 rfl ?_
        refine x_get_baskets C dX0_drop_36 ?_
        refine zz_iload_n C dX0_drop_39 rfl ?_
        refine zz_iconst C (v := 1) dX0_drop_40 (by decide) ?_
        refine zz_iadd C dX0_drop_41 ?_
        refine zz_eq _ (nI_1 k) ?_
        refine x_sald C dX0_drop_42 rfl (k + 1) rfl (by omega) ?_
        refine zz_eq _ (h2 (k + 1) (by omega) (by omega)) ?_
        refine x_sast C dX0_drop_43 rfl k rfl (by omega) (zi_sh _ hb1) (fun σ1 e1 => ?_)
        refine zz_iinc C dX0_drop_44 rfl (zz_inc1 _) (L' := [_, _]) rfl (by decide) ?_
        refine zz_goto C 22 dX0_drop_47 (by decide) ?_
        subst e1
        refine next (by omega) _ h0 (fun j hj => ?_) (fun j a1 a2 => ?_)
        · rcases Nat.decEq j k with e | e
          · rw [zzu_sn _ _ _ _ e]; exact h1 j (by omega)
          · subst e; exact zzu_ss _ _ _ _
        · rw [zzu_sn _ _ _ _ (by omega)]; exact h2 j (by omega) a2
    refine zz_aload_n C dX0_drop_10 rfl ?_
    refine zz_dup C dX0_drop_11 rfl ?_
    refine x_get_basketCount C dX0_drop_12 ?_
    refine zz_eq _ h00 ?_
    refine zz_iconst C (v := 1) dX0_drop_15 (by decide) ?_
    refine zz_isub C dX0_drop_16 ?_
    refine zz_eq _ (zi_pred (by omega)) ?_
    refine x_put_basketCount C dX0_drop_17 (fun σ1 e1 => ?_)
    refine zz_iconst C (v := 0) dX0_drop_20 (by decide) ?_
    refine zz_istore_n C dX0_drop_21 (L' := [_, _]) rfl ⟨Nat.le_of_ble_eq_true rfl, by decide⟩ ?_
    subst e1
    exact loop 0 (Nat.zero_le _) _ (zzu_ss _ _ _ _) (fun j hj => absurd hj (by omega)) (fun j _ hj => (hbs j hj).2)
  · rw [zz_0, nI_eq (by omega) (by decide)] at c4
    rw [if_pos c4, if_pos c4] at E
    refine zz_bipush C (v := (-3)) dX0_drop_7 (by decide) ?_
    refine E _ _ _ _ dX0_drop_9 rfl ⟨?_, rfl⟩
    subst c4
    exact hI
theorem X_count (l : Launch) (D : va_G) (h : Nat → Nat) (d : Nat → ClassId) (σ : zzS) {n : Nat} {b : Nat → Nat} (hI : IXz n b σ) (a : Int32) : zzMi l yX0_count cX0_count 2 .int (zR 3 120) D (tX d) (wX h d) (h 0) [.int a] σ (fun r σ' => IXz n b σ' ∧ r = setz a (fun S => nI (cz b n S))) := by
  refine zzMi_of RX0 rfl (by decide) (Nat.le_of_ble_eq_true rfl) rfl (fun Z C E => ?_)
  refine zz_aload_n C dX0_count_0 rfl ?_
  refine zz_iload_n C dX0_count_1 rfl ?_
  refine zz_calli C (X_isSet l D h d σ a) rfl rfl rfl q84 q86 qs0 q19 q87 (nA := 1) (by decide +kernel) rfl ⟨rfl, rfl, by decide, by decide⟩ rfl (Nat.le_of_ble_eq_true rfl) dX0_count_2 (fun r σ1 hp => ?_)
  obtain ⟨rfl, rfl⟩ := hp
  refine zz_if_ne C 10 dX0_count_5 (by decide) (fun c5 => ?_) (fun c5 => ?_)
  · obtain ⟨S, hS, rfl⟩ := zz_set (zz_ifne c5)
    refine zz_aload_n C dX0_count_10 rfl ?_
    refine zz_callv C (X_build l D h d _ hI) rfl rfl rfl q96 q98 qs1 q19 q99 (nA := 0) (by decide +kernel) rfl ⟨rfl, rfl, by decide, by decide⟩ rfl (Nat.le_of_ble_eq_true rfl) dX0_count_11 (fun σ2 hp2 => ?_)
    refine zz_aload_n C dX0_count_14 rfl ?_
    refine x_get_counts C dX0_count_15 ?_
    refine zz_iload_n C dX0_count_18 rfl ?_
    refine x_bald C dX0_count_19 rfl S rfl hS ?_
    refine E _ _ _ _ dX0_count_20 rfl ⟨hp2.1, by rw [setz_t hS]; exact hp2.2 S hS⟩
  · refine zz_iconst C (v := (-1)) dX0_count_8 (by decide) ?_
    refine E _ _ _ _ dX0_count_9 rfl ⟨hI, (setz_f (zz_ifeq c5) _).symm⟩
theorem X_frequent (l : Launch) (D : va_G) (h : Nat → Nat) (d : Nat → ClassId) (σ : zzS) {n : Nat} {b : Nat → Nat} (hI : IXz n b σ) (a : Int32) : zzMi l yX0_frequent cX0_frequent 4 .int (zR 3 120) D (tX d) (wX h d) (h 0) [.int a] σ (fun r σ' => IXz n b σ' ∧ r = levz a (fun m => nI (cFz (fun S => m ≤ cz b n S) 256))) := by
  refine zzMi_of RX0 rfl (by decide) (Nat.le_of_ble_eq_true rfl) rfl (fun Z C E => ?_)
  have hcb : ∀ S, cz b n S ≤ 20 := fun S => Nat.le_trans (cz_le b n S) hI.1.1
  refine zz_aload_n C dX0_frequent_0 rfl ?_
  refine zz_iload_n C dX0_frequent_1 rfl ?_
  refine zz_calli C (X_isBound l D h d σ a) rfl rfl rfl q128 q130 qs8 q19 q131 (nA := 1) (by decide +kernel) rfl ⟨rfl, rfl, by decide, by decide⟩ rfl (Nat.le_of_ble_eq_true rfl) dX0_frequent_2 (fun r σ1 hp => ?_)
  obtain ⟨rfl, rfl⟩ := hp
  refine zz_if_ne C 10 dX0_frequent_5 (by decide) (fun c5 => ?_) (fun c5 => ?_)
  · obtain ⟨m, hm1, hm2, rfl⟩ := zz_lev (zz_ifne c5)
    refine zz_aload_n C dX0_frequent_10 rfl ?_
    refine zz_callv C (X_build l D h d _ hI) rfl rfl rfl q96 q98 qs1 q19 q99 (nA := 0) (by decide +kernel) rfl ⟨rfl, rfl, by decide, by decide⟩ rfl (Nat.le_of_ble_eq_true rfl) dX0_frequent_11 (fun σ2 hp2 => ?_)
    obtain ⟨hI2, hc⟩ := hp2
    have loop : ∀ S, S ≤ 256 → 1 ≤ S → ∀ v, v = nI (cFz (fun S => m ≤ cz b n S) S) → Z σ2 18 [.ref (h 0), .int (nI m), .int v, .int (nI S)] [] := by
      refine zz_lp 256 (fun S hS next hS1 v hv => ?_)
      subst hv
      refine zz_iload_n C dX0_frequent_18 rfl ?_
      refine zz_sipush C (v := 256) dX0_frequent_19 (by decide) ?_
      refine zz_icmp_ge C 44 dX0_frequent_22 (by decide) (fun c22 => ?_) (fun c22 => ?_)
      · refine zz_iload_n C dX0_frequent_44 rfl ?_
        refine E _ _ _ _ dX0_frequent_45 rfl ⟨hI2, by rw [levz_t hm1 hm2, zc256 hS c22]⟩
      · have hS' := zc256' hS c22
        have hcS := hcb S
        refine zz_aload_n C dX0_frequent_25 rfl ?_
        refine x_get_counts C dX0_frequent_26 ?_
        refine zz_iload_n C dX0_frequent_29 rfl ?_
        refine x_bald C dX0_frequent_30 rfl S rfl hS' ?_
        refine zz_eq _ (hc S hS') ?_
        refine zz_iload_n C dX0_frequent_31 rfl ?_
        refine zz_icmp_lt C 38 dX0_frequent_32 (by decide) (fun c32 => ?_) (fun c32 => ?_)
        · rw [nI_ltI (by omega) (by omega)] at c32
          refine zz_iinc C dX0_frequent_38 rfl (zz_inc1 _) (L' := [_, _, _, _]) rfl (by decide) ?_
          refine zz_goto C 18 dX0_frequent_41 (by decide) ?_
          exact next hS' (by omega) _ (by rw [cFz_s _ hS1, ibz_f (by omega)]; rfl)
        · rw [nI_ltI (by omega) (by omega)] at c32
          refine zz_iinc C dX0_frequent_35 rfl (zz_inc1 _) (L' := [_, _, _, _]) rfl (by decide) ?_
          refine zz_iinc C dX0_frequent_38 rfl (zz_inc1 _) (L' := [_, _, _, _]) rfl (by decide) ?_
          refine zz_goto C 18 dX0_frequent_41 (by decide) ?_
          exact next hS' (by omega) _ (by rw [cFz_s _ hS1, ibz_t (by omega)])
    refine zz_iconst C (v := 0) dX0_frequent_14 (by decide) ?_
    refine zz_istore_n C dX0_frequent_15 (L' := [_, _, _]) rfl ⟨Nat.le_of_ble_eq_true rfl, by decide⟩ ?_
    refine zz_iconst C (v := 1) dX0_frequent_16 (by decide) ?_
    refine zz_istore_n C dX0_frequent_17 (L' := [_, _, _, _]) rfl ⟨Nat.le_of_ble_eq_true rfl, by decide⟩ ?_
    exact loop 1 (by decide) (by decide) 0 (by rw [cFz_1]; rfl)
  · refine zz_iconst C (v := (-1)) dX0_frequent_8 (by decide) ?_
    refine E _ _ _ _ dX0_frequent_9 rfl ⟨hI, (levz_f (zz_ifeq c5) _).symm⟩
theorem X_closed (l : Launch) (D : va_G) (h : Nat → Nat) (d : Nat → ClassId) (σ : zzS) {n : Nat} {b : Nat → Nat} (hI : IXz n b σ) (a : Int32) : zzMi l yX0_closed cX0_closed 4 .int (zR 3 120) D (tX d) (wX h d) (h 0) [.int a] σ (fun r σ' => IXz n b σ' ∧ r = levz a (fun m => nI (cFz (kXz (cz b n) m) 256))) := by
  refine zzMi_of RX0 rfl (by decide) (Nat.le_of_ble_eq_true rfl) rfl (fun Z C E => ?_)
  have hcb : ∀ S, cz b n S ≤ 20 := fun S => Nat.le_trans (cz_le b n S) hI.1.1
  refine zz_aload_n C dX0_closed_0 rfl ?_
  refine zz_iload_n C dX0_closed_1 rfl ?_
  refine zz_calli C (X_isBound l D h d σ a) rfl rfl rfl q128 q130 qs8 q19 q131 (nA := 1) (by decide +kernel) rfl ⟨rfl, rfl, by decide, by decide⟩ rfl (Nat.le_of_ble_eq_true rfl) dX0_closed_2 (fun r σ1 hp => ?_)
  obtain ⟨rfl, rfl⟩ := hp
  refine zz_if_ne C 10 dX0_closed_5 (by decide) (fun c5 => ?_) (fun c5 => ?_)
  · obtain ⟨m, hm1, hm2, rfl⟩ := zz_lev (zz_ifne c5)
    refine zz_aload_n C dX0_closed_10 rfl ?_
    refine zz_callv C (X_build l D h d _ hI) rfl rfl rfl q96 q98 qs1 q19 q99 (nA := 0) (by decide +kernel) rfl ⟨rfl, rfl, by decide, by decide⟩ rfl (Nat.le_of_ble_eq_true rfl) dX0_closed_11 (fun σ2 hp2 => ?_)
    obtain ⟨hI2, hc⟩ := hp2
    have loop : ∀ S, S ≤ 256 → 1 ≤ S → ∀ v, v = nI (cFz (kXz (cz b n) m) S) → Z σ2 18 [.ref (h 0), .int (nI m), .int v, .int (nI S)] [] := by
      refine zz_lp 256 (fun S hS next hS1 v hv => ?_)
      subst hv
      refine zz_iload_n C dX0_closed_18 rfl ?_
      refine zz_sipush C (v := 256) dX0_closed_19 (by decide) ?_
      refine zz_icmp_ge C 43 dX0_closed_22 (by decide) (fun c22 => ?_) (fun c22 => ?_)
      · refine zz_iload_n C dX0_closed_43 rfl ?_
        refine E _ _ _ _ dX0_closed_44 rfl ⟨hI2, by rw [levz_t hm1 hm2, zc256 hS c22]⟩
      · have hS' := zc256' hS c22
        refine zz_aload_n C dX0_closed_25 rfl ?_
        refine zz_iload_n C dX0_closed_26 rfl ?_
        refine zz_iload_n C dX0_closed_27 rfl ?_
        refine zz_calli C (X_isClosed l D h d σ2 hc hcb hS' hm2) rfl rfl rfl q136 q138 qs9 q19 q139 (nA := 2) (by decide +kernel) rfl ⟨rfl, rfl, by decide, by decide⟩ rfl (Nat.le_of_ble_eq_true rfl) dX0_closed_28 (fun r σ3 hp => ?_)
        obtain ⟨rfl, hp⟩ := hp
        refine zz_if_eq C 37 dX0_closed_31 (by decide) (fun c31 => ?_) (fun c31 => ?_)
        · rcases hp with ⟨hr, hp⟩ | ⟨hr, hp⟩
          · rw [hr] at c31; exact absurd c31 (by decide)
          · refine zz_iinc C dX0_closed_37 rfl (zz_inc1 _) (L' := [_, _, _, _]) rfl (by decide) ?_
            refine zz_goto C 18 dX0_closed_40 (by decide) ?_
            exact next hS' (by omega) _ (by rw [cFz_s _ hS1, ibz_f hp]; rfl)
        · rcases hp with ⟨hr, hp⟩ | ⟨hr, hp⟩
          · refine zz_iinc C dX0_closed_34 rfl (zz_inc1 _) (L' := [_, _, _, _]) rfl (by decide) ?_
            refine zz_iinc C dX0_closed_37 rfl (zz_inc1 _) (L' := [_, _, _, _]) rfl (by decide) ?_
            refine zz_goto C 18 dX0_closed_40 (by decide) ?_
            exact next hS' (by omega) _ (by rw [cFz_s _ hS1, ibz_t hp])
          · exact absurd hr c31
    refine zz_iconst C (v := 0) dX0_closed_14 (by decide) ?_
    refine zz_istore_n C dX0_closed_15 (L' := [_, _, _]) rfl ⟨Nat.le_of_ble_eq_true rfl, by decide⟩ ?_
    refine zz_iconst C (v := 1) dX0_closed_16 (by decide) ?_
    refine zz_istore_n C dX0_closed_17 (L' := [_, _, _, _]) rfl ⟨Nat.le_of_ble_eq_true rfl, by decide⟩ ?_
    exact loop 1 (by decide) (by decide) 0 (by rw [cFz_1]; rfl)
  · refine zz_iconst C (v := (-1)) dX0_closed_8 (by decide) ?_
    refine E _ _ _ _ dX0_closed_9 rfl ⟨hI, (levz_f (zz_ifeq c5) _).symm⟩
theorem X_largest (l : Launch) (D : va_G) (h : Nat → Nat) (d : Nat → ClassId) (σ : zzS) {n : Nat} {b : Nat → Nat} (hI : IXz n b σ) (a : Int32) : zzMi l yX0_largest cX0_largest 4 .int (zR 3 120) D (tX d) (wX h d) (h 0) [.int a] σ (fun r σ' => IXz n b σ' ∧ r = levz a (fun m => nI (cFz (gXz (cz b n) m) 256))) := by
  refine zzMi_of RX0 rfl (by decide) (Nat.le_of_ble_eq_true rfl) rfl (fun Z C E => ?_)
  have hcb : ∀ S, cz b n S ≤ 20 := fun S => Nat.le_trans (cz_le b n S) hI.1.1
  refine zz_aload_n C dX0_largest_0 rfl ?_
  refine zz_iload_n C dX0_largest_1 rfl ?_
  refine zz_calli C (X_isBound l D h d σ a) rfl rfl rfl q128 q130 qs8 q19 q131 (nA := 1) (by decide +kernel) rfl ⟨rfl, rfl, by decide, by decide⟩ rfl (Nat.le_of_ble_eq_true rfl) dX0_largest_2 (fun r σ1 hp => ?_)
  obtain ⟨rfl, rfl⟩ := hp
  refine zz_if_ne C 10 dX0_largest_5 (by decide) (fun c5 => ?_) (fun c5 => ?_)
  · obtain ⟨m, hm1, hm2, rfl⟩ := zz_lev (zz_ifne c5)
    refine zz_aload_n C dX0_largest_10 rfl ?_
    refine zz_callv C (X_build l D h d _ hI) rfl rfl rfl q96 q98 qs1 q19 q99 (nA := 0) (by decide +kernel) rfl ⟨rfl, rfl, by decide, by decide⟩ rfl (Nat.le_of_ble_eq_true rfl) dX0_largest_11 (fun σ2 hp2 => ?_)
    obtain ⟨hI2, hc⟩ := hp2
    have loop : ∀ S, S ≤ 256 → 1 ≤ S → ∀ v, v = nI (cFz (gXz (cz b n) m) S) → Z σ2 18 [.ref (h 0), .int (nI m), .int v, .int (nI S)] [] := by
      refine zz_lp 256 (fun S hS next hS1 v hv => ?_)
      subst hv
      refine zz_iload_n C dX0_largest_18 rfl ?_
      refine zz_sipush C (v := 256) dX0_largest_19 (by decide) ?_
      refine zz_icmp_ge C 43 dX0_largest_22 (by decide) (fun c22 => ?_) (fun c22 => ?_)
      · refine zz_iload_n C dX0_largest_43 rfl ?_
        refine E _ _ _ _ dX0_largest_44 rfl ⟨hI2, by rw [levz_t hm1 hm2, zc256 hS c22]⟩
      · have hS' := zc256' hS c22
        refine zz_aload_n C dX0_largest_25 rfl ?_
        refine zz_iload_n C dX0_largest_26 rfl ?_
        refine zz_iload_n C dX0_largest_27 rfl ?_
        refine zz_calli C (X_isLargest l D h d σ2 hc hcb hS' hm2) rfl rfl rfl q144 q146 qs10 q19 q147 (nA := 2) (by decide +kernel) rfl ⟨rfl, rfl, by decide, by decide⟩ rfl (Nat.le_of_ble_eq_true rfl) dX0_largest_28 (fun r σ3 hp => ?_)
        obtain ⟨rfl, hp⟩ := hp
        refine zz_if_eq C 37 dX0_largest_31 (by decide) (fun c31 => ?_) (fun c31 => ?_)
        · rcases hp with ⟨hr, hp⟩ | ⟨hr, hp⟩
          · rw [hr] at c31; exact absurd c31 (by decide)
          · refine zz_iinc C dX0_largest_37 rfl (zz_inc1 _) (L' := [_, _, _, _]) rfl (by decide) ?_
            refine zz_goto C 18 dX0_largest_40 (by decide) ?_
            exact next hS' (by omega) _ (by rw [cFz_s _ hS1, ibz_f hp]; rfl)
        · rcases hp with ⟨hr, hp⟩ | ⟨hr, hp⟩
          · refine zz_iinc C dX0_largest_34 rfl (zz_inc1 _) (L' := [_, _, _, _]) rfl (by decide) ?_
            refine zz_iinc C dX0_largest_37 rfl (zz_inc1 _) (L' := [_, _, _, _]) rfl (by decide) ?_
            refine zz_goto C 18 dX0_largest_40 (by decide) ?_
            exact next hS' (by omega) _ (by rw [cFz_s _ hS1, ibz_t hp])
          · exact absurd hr c31
    refine zz_iconst C (v := 0) dX0_largest_14 (by decide) ?_
    refine zz_istore_n C dX0_largest_15 (L' := [_, _, _]) rfl ⟨Nat.le_of_ble_eq_true rfl, by decide⟩ ?_
    refine zz_iconst C (v := 1) dX0_largest_16 (by decide) ?_
    refine zz_istore_n C dX0_largest_17 (L' := [_, _, _, _]) rfl ⟨Nat.le_of_ble_eq_true rfl, by decide⟩ ?_
    exact loop 1 (by decide) (by decide) 0 (by rw [cFz_1]; rfl)
  · refine zz_iconst C (v := (-1)) dX0_largest_8 (by decide) ?_
    refine E _ _ _ _ dX0_largest_9 rfl ⟨hI, (levz_f (zz_ifeq c5) _).symm⟩
theorem X_widest (l : Launch) (D : va_G) (h : Nat → Nat) (d : Nat → ClassId) (σ : zzS) {n : Nat} {b : Nat → Nat} (hI : IXz n b σ) (a : Int32) : zzMi l yX0_widest cX0_widest 5 .int (zR 3 120) D (tX d) (wX h d) (h 0) [.int a] σ (fun r σ' => IXz n b σ' ∧ r = levz a (fun m => nI (wzz (cz b n) m 256))) := by
  refine zzMi_of RX0 rfl (by decide) (Nat.le_of_ble_eq_true rfl) rfl (fun Z C E => ?_)
  have hcb : ∀ S, cz b n S ≤ 20 := fun S => Nat.le_trans (cz_le b n S) hI.1.1
  refine zz_aload_n C dX0_widest_0 rfl ?_
  refine zz_iload_n C dX0_widest_1 rfl ?_
  refine zz_calli C (X_isBound l D h d σ a) rfl rfl rfl q128 q130 qs8 q19 q131 (nA := 1) (by decide +kernel) rfl ⟨rfl, rfl, by decide, by decide⟩ rfl (Nat.le_of_ble_eq_true rfl) dX0_widest_2 (fun r σ1 hp => ?_)
  obtain ⟨rfl, rfl⟩ := hp
  refine zz_if_ne C 10 dX0_widest_5 (by decide) (fun c5 => ?_) (fun c5 => ?_)
  · obtain ⟨m, hm1, hm2, rfl⟩ := zz_lev (zz_ifne c5)
    refine zz_aload_n C dX0_widest_10 rfl ?_
    refine zz_callv C (X_build l D h d _ hI) rfl rfl rfl q96 q98 qs1 q19 q99 (nA := 0) (by decide +kernel) rfl ⟨rfl, rfl, by decide, by decide⟩ rfl (Nat.le_of_ble_eq_true rfl) dX0_widest_11 (fun σ2 hp2 => ?_)
    obtain ⟨hI2, hc⟩ := hp2
    have loop : ∀ S, S ≤ 256 → 1 ≤ S → ∀ v, v = nI (wzz (cz b n) m S) → Z σ2 18 [.ref (h 0), .int (nI m), .int v, .int (nI S)] [] := by
      refine zz_lp 256 (fun S hS next hS1 v hv => ?_)
      subst hv
      refine zz_iload_n C dX0_widest_18 rfl ?_
      refine zz_sipush C (v := 256) dX0_widest_19 (by decide) ?_
      refine zz_icmp_ge C 57 dX0_widest_22 (by decide) (fun c22 => ?_) (fun c22 => ?_)
      · refine zz_iload_n C dX0_widest_57 rfl ?_
        refine E _ _ _ _ dX0_widest_58 rfl ⟨hI2, by rw [levz_t hm1 hm2, zc256 hS c22]⟩
      · have hS' := zc256' hS c22
        have hcS := hcb S
        have hw := wzz_le (cz b n) m S
        have hs := szz_le S
        refine zz_aload_n C dX0_widest_25 rfl ?_
        refine zz_iload_n C dX0_widest_26 rfl ?_
        refine zz_calli C (X_sizeOf l D h d σ2 hS') rfl rfl rfl q160 q162 qs11 q19 q163 (nA := 1) (by decide +kernel) rfl ⟨rfl, rfl, by decide, by decide⟩ rfl (Nat.le_of_ble_eq_true rfl) dX0_widest_27 (fun r σ3 hp => ?_)
        obtain ⟨rfl, rfl⟩ := hp
        refine zz_istore C dX0_widest_30 (L' := [_, _, _, _, _]) rfl ⟨Nat.le_of_ble_eq_true rfl, by decide⟩ ?_
        refine zz_aload_n C dX0_widest_32 rfl ?_
        refine x_get_counts C dX0_widest_33 ?_
        refine zz_iload_n C dX0_widest_36 rfl ?_
        refine x_bald C dX0_widest_37 rfl S rfl hS' ?_
        refine zz_eq _ (hc S hS') ?_
        refine zz_iload_n C dX0_widest_38 rfl ?_
        refine zz_icmp_lt C 51 dX0_widest_39 (by decide) (fun c39 => ?_) (fun c39 => ?_)
        · rw [nI_ltI (by omega) (by omega)] at c39
          refine zz_iinc C dX0_widest_51 rfl (zz_inc1 _) (L' := [_, _, _, _, _]) rfl (by decide) ?_
          refine zz_goto C 18 dX0_widest_54 (by decide) ?_
          refine zz_take C 4 (L' := [_, _, _, _]) rfl ?_
          exact next hS' (by omega) _ (by rw [wzz_f (fun q => absurd q.1 (by omega))])
        · rw [nI_ltI (by omega) (by omega)] at c39
          refine zz_iload C dX0_widest_42 rfl ?_
          refine zz_iload_n C dX0_widest_44 rfl ?_
          refine zz_icmp_le C 51 dX0_widest_45 (by decide) (fun c45 => ?_) (fun c45 => ?_)
          · rw [zi_le (by omega) (by omega)] at c45
            refine zz_iinc C dX0_widest_51 rfl (zz_inc1 _) (L' := [_, _, _, _, _]) rfl (by decide) ?_
            refine zz_goto C 18 dX0_widest_54 (by decide) ?_
            refine zz_take C 4 (L' := [_, _, _, _]) rfl ?_
            exact next hS' (by omega) _ (by rw [wzz_f (fun q => absurd q.2 (by omega))])
          · rw [zi_le (by omega) (by omega)] at c45
            refine zz_iload C dX0_widest_48 rfl ?_
            refine zz_istore_n C dX0_widest_50 (L' := [_, _, _, _, _]) rfl ⟨Nat.le_of_ble_eq_true rfl, by decide⟩ ?_
            refine zz_iinc C dX0_widest_51 rfl (zz_inc1 _) (L' := [_, _, _, _, _]) rfl (by decide) ?_
            refine zz_goto C 18 dX0_widest_54 (by decide) ?_
            refine zz_take C 4 (L' := [_, _, _, _]) rfl ?_
            exact next hS' (by omega) _ (by rw [wzz_t hS1 (by omega) (by omega)])
    refine zz_iconst C (v := 0) dX0_widest_14 (by decide) ?_
    refine zz_istore_n C dX0_widest_15 (L' := [_, _, _]) rfl ⟨Nat.le_of_ble_eq_true rfl, by decide⟩ ?_
    refine zz_iconst C (v := 1) dX0_widest_16 (by decide) ?_
    refine zz_istore_n C dX0_widest_17 (L' := [_, _, _, _]) rfl ⟨Nat.le_of_ble_eq_true rfl, by decide⟩ ?_
    exact loop 1 (by decide) (by decide) 0 (by rw [wzz_1]; rfl)
  · refine zz_iconst C (v := (-1)) dX0_widest_8 (by decide) ?_
    refine E _ _ _ _ dX0_widest_9 rfl ⟨hI, (levz_f (zz_ifeq c5) _).symm⟩
end
section
set_option maxRecDepth 100000
theorem X_closedSet (l : Launch) (D : va_G) (h : Nat → Nat) (d : Nat → ClassId) (σ : zzS) {n : Nat} {b : Nat → Nat} (hI : IXz n b σ) (a k : Int32) : zzMi l yX0_closedSet cX0_closedSet 5 .int (zR 3 120) D (tX d) (wX h d) (h 0) [.int a, .int k] σ (fun r σ' => IXz n b σ' ∧ (¬ (1 ≤ a ∧ a ≤ 20) → r = -1) ∧ (∀ m, 1 ≤ m → m ≤ 20 → a = nI m → ksz (kXz (cz b n) m) k r)) := by
  refine zzMi_of RX0 rfl (by decide) (Nat.le_of_ble_eq_true rfl) rfl (fun Z C E => ?_)
  have hcb : ∀ S, cz b n S ≤ 20 := fun S => Nat.le_trans (cz_le b n S) hI.1.1
  refine zz_aload_n C dX0_closedSet_0 rfl ?_
  refine zz_iload_n C dX0_closedSet_1 rfl ?_
  refine zz_calli C (X_isBound l D h d σ a) rfl rfl rfl q128 q130 qs8 q19 q131 (nA := 1) (by decide +kernel) rfl ⟨rfl, rfl, by decide, by decide⟩ rfl (Nat.le_of_ble_eq_true rfl) dX0_closedSet_2 (fun r σ1 hp => ?_)
  obtain ⟨rfl, rfl⟩ := hp
  refine zz_if_ne C 10 dX0_closedSet_5 (by decide) (fun c5 => ?_) (fun c5 => ?_)
  · have hlv := zz_ifne c5
    obtain ⟨m, hm1, hm2, rfl⟩ := zz_lev hlv
    have fin : ∀ σ' r, IXz n b σ' → ksz (kXz (cz b n) m) k r → IXz n b σ' ∧ (¬ (1 ≤ nI m ∧ nI m ≤ 20) → r = -1) ∧ (∀ m', 1 ≤ m' → m' ≤ 20 → nI m = nI m' → ksz (kXz (cz b n) m') k r) := fun σ' r g1 g2 => ⟨g1, fun q => absurd hlv q, fun m' a1 a2 a3 => by
      rw [nI_eq (by omega) (by omega)] at a3
      subst a3; exact g2⟩
    refine zz_aload_n C dX0_closedSet_10 rfl ?_
    refine zz_callv C (X_build l D h d _ hI) rfl rfl rfl q96 q98 qs1 q19 q99 (nA := 0) (by decide +kernel) rfl ⟨rfl, rfl, by decide, by decide⟩ rfl (Nat.le_of_ble_eq_true rfl) dX0_closedSet_11 (fun σ2 hp2 => ?_)
    obtain ⟨hI2, hc⟩ := hp2
    have hcF : ∀ S, S ≤ 256 → cFz (kXz (cz b n) m) S ≤ 256 := fun S hS => Nat.le_trans (cFz_le _ S) hS
    rcases Classical.em (k < 0) with hk0 | hk0
    · refine zz_iload_n C dX0_closedSet_14 rfl ?_
      refine zz_istore_n C dX0_closedSet_15 (L' := [_, _, _, _]) rfl ⟨Nat.le_of_ble_eq_true rfl, by decide⟩ ?_
      refine zz_iconst C (v := 1) dX0_closedSet_16 (by decide) ?_
      refine zz_istore C dX0_closedSet_17 (L' := [_, _, _, _, _]) rfl ⟨Nat.le_of_ble_eq_true rfl, by decide⟩ ?_
      refine zz_iload C dX0_closedSet_19 rfl ?_
      refine zz_sipush C (v := 256) dX0_closedSet_21 (by decide) ?_
      refine zz_icmp_ge C 60 dX0_closedSet_24 (by decide) (fun c24 => ?_) (fun c24 => ?_)
      · exact absurd c24 (by decide)
      · refine zz_iload_n C dX0_closedSet_27 rfl ?_
        refine zz_if_lt C 60 dX0_closedSet_28 (by decide) (fun c28 => ?_) (fun c28 => ?_)
        · refine zz_bipush C (v := (-3)) dX0_closedSet_60 (by decide) ?_
          refine E _ _ _ _ dX0_closedSet_62 rfl (fin _ _ hI2 (Or.inr ⟨fun T a1 a2 a3 z => ?_, rfl⟩))
          rw [z] at hk0
          exact absurd hk0 (nI_pos (Nat.lt_of_le_of_lt (hcF T (by omega)) (by decide)))
        · exact absurd hk0 c28
    · obtain ⟨kk, hkk, rfl⟩ := nI_of hk0
      have loop : ∀ S, S ≤ 256 → 1 ≤ S → cFz (kXz (cz b n) m) S ≤ kk → (∀ T, 1 ≤ T → T < S → kXz (cz b n) m T → nI kk ≠ nI (cFz (kXz (cz b n) m) T)) → Z σ2 19 [.ref (h 0), .int (nI m), .int (nI kk), .int (nI (kk - cFz (kXz (cz b n) m) S)), .int (nI S)] [] := by
        refine zz_lp 256 (fun S hS next hS1 hle hno => ?_)
        have hcS := hcF S hS
        refine zz_iload C dX0_closedSet_19 rfl ?_
        refine zz_sipush C (v := 256) dX0_closedSet_21 (by decide) ?_
        refine zz_icmp_ge C 60 dX0_closedSet_24 (by decide) (fun c24 => ?_) (fun c24 => ?_)
        · refine zz_bipush C (v := (-3)) dX0_closedSet_60 (by decide) ?_
          refine E _ _ _ _ dX0_closedSet_62 rfl (fin _ _ hI2 (Or.inr ⟨fun T a1 a2 a3 => hno T a1 (by have := zc256 hS c24; omega) a3, rfl⟩))
        · have hS' := zc256' hS c24
          refine zz_iload_n C dX0_closedSet_27 rfl ?_
          refine zz_if_lt C 60 dX0_closedSet_28 (by decide) (fun c28 => ?_) (fun c28 => ?_)
          · exact absurd c28 (nI_pos (by omega))
          · refine zz_aload_n C dX0_closedSet_31 rfl ?_
            refine zz_iload C dX0_closedSet_32 rfl ?_
            refine zz_iload_n C dX0_closedSet_34 rfl ?_
            refine zz_calli C (X_isClosed l D h d σ2 hc hcb hS' hm2) rfl rfl rfl q136 q138 qs9 q19 q139 (nA := 2) (by decide +kernel) rfl ⟨rfl, rfl, by decide, by decide⟩ rfl (Nat.le_of_ble_eq_true rfl) dX0_closedSet_35 (fun r σ3 hp => ?_)
            obtain ⟨rfl, hp⟩ := hp
            refine zz_if_ne C 44 dX0_closedSet_38 (by decide) (fun c38 => ?_) (fun c38 => ?_)
            · rcases hp with ⟨hr, hp⟩ | ⟨hr, hp⟩
              · have hstep := cFz_s (kXz (cz b n) m) hS1
                rw [ibz_t hp] at hstep
                refine zz_iload_n C dX0_closedSet_44 rfl ?_
                refine zz_if_ne C 51 dX0_closedSet_45 (by decide) (fun c45 => ?_) (fun c45 => ?_)
                · rw [zz_0, nI_eq (by omega) (by decide)] at c45
                  refine zz_iinc C dX0_closedSet_51 rfl (zz_decN (by omega)) (L' := [_, _, _, _, _]) rfl (by decide) ?_
                  refine zz_iinc C dX0_closedSet_54 rfl (zz_inc1 _) (L' := [_, _, _, _, _]) rfl (by decide) ?_
                  refine zz_goto C 19 dX0_closedSet_57 (by decide) ?_
                  rw [show kk - cFz (kXz (cz b n) m) S - 1 = kk - cFz (kXz (cz b n) m) (S + 1) by omega]
                  refine next hS' (by omega) (by omega) (fun T a1 a2 a3 => ?_)
                  rcases Nat.lt_or_ge T S with q | q
                  · exact hno T a1 q a3
                  · rw [show T = S by omega]
                    intro z
                    rw [nI_eq hkk (by omega)] at z
                    omega
                · rw [zz_0, nI_eq (by omega) (by decide)] at c45
                  refine zz_iload C dX0_closedSet_48 rfl ?_
                  refine E _ _ _ _ dX0_closedSet_50 rfl (fin _ _ hI2 (Or.inl ⟨S, hS1, hS', hp, by rw [show kk = cFz (kXz (cz b n) m) S by omega], rfl⟩))
              · exact absurd hr c38
            · rcases hp with ⟨hr, hp⟩ | ⟨hr, hp⟩
              · rw [hr] at c38; exact absurd c38 (by decide)
              · have hstep := cFz_s (kXz (cz b n) m) hS1
                rw [ibz_f hp] at hstep
                refine zz_goto C 54 dX0_closedSet_41 (by decide) ?_
                refine zz_iinc C dX0_closedSet_54 rfl (zz_inc1 _) (L' := [_, _, _, _, _]) rfl (by decide) ?_
                refine zz_goto C 19 dX0_closedSet_57 (by decide) ?_
                rw [show kk - cFz (kXz (cz b n) m) S = kk - cFz (kXz (cz b n) m) (S + 1) by omega]
                refine next hS' (by omega) (by omega) (fun T a1 a2 a3 => ?_)
                rcases Nat.lt_or_ge T S with q | q
                · exact hno T a1 q a3
                · rw [show T = S by omega] at a3; exact absurd a3 hp
      refine zz_iload_n C dX0_closedSet_14 rfl ?_
      refine zz_istore_n C dX0_closedSet_15 (L' := [_, _, _, _]) rfl ⟨Nat.le_of_ble_eq_true rfl, by decide⟩ ?_
      refine zz_iconst C (v := 1) dX0_closedSet_16 (by decide) ?_
      refine zz_istore C dX0_closedSet_17 (L' := [_, _, _, _, _]) rfl ⟨Nat.le_of_ble_eq_true rfl, by decide⟩ ?_
      have e0 : kk - cFz (kXz (cz b n) m) 1 = kk := by rw [cFz_1]; rfl
      have lp := loop 1 (by decide) (by decide) (by rw [cFz_1]; exact Nat.zero_le _) (fun T a1 a2 => absurd a2 (by omega))
      rw [e0] at lp
      exact lp
  · have hlv := zz_ifeq c5
    refine zz_iconst C (v := (-1)) dX0_closedSet_8 (by decide) ?_
    refine E _ _ _ _ dX0_closedSet_9 rfl ⟨hI, fun _ => rfl, fun m a1 a2 a3 => absurd (by rw [a3]; exact zz_lev' a1 a2) hlv⟩
theorem X_closure (l : Launch) (D : va_G) (h : Nat → Nat) (d : Nat → ClassId) (σ : zzS) {n : Nat} {b : Nat → Nat} (hI : IXz n b σ) (a : Int32) : zzMi l yX0_closure cX0_closure 4 .int (zR 3 120) D (tX d) (wX h d) (h 0) [.int a] σ (fun r σ' => IXz n b σ' ∧ (¬ (0 ≤ a ∧ a ≤ 255) → r = -1) ∧ (∀ S, S < 256 → a = nI S → clz b n S r)) := by
  refine zzMi_of RX0 rfl (by decide) (Nat.le_of_ble_eq_true rfl) rfl (fun Z C E => ?_)
  have hcb : ∀ S, cz b n S ≤ 20 := fun S => Nat.le_trans (cz_le b n S) hI.1.1
  refine zz_aload_n C dX0_closure_0 rfl ?_
  refine zz_iload_n C dX0_closure_1 rfl ?_
  refine zz_calli C (X_isSet l D h d σ a) rfl rfl rfl q84 q86 qs0 q19 q87 (nA := 1) (by decide +kernel) rfl ⟨rfl, rfl, by decide, by decide⟩ rfl (Nat.le_of_ble_eq_true rfl) dX0_closure_2 (fun r σ1 hp => ?_)
  obtain ⟨rfl, rfl⟩ := hp
  refine zz_if_ne C 10 dX0_closure_5 (by decide) (fun c5 => ?_) (fun c5 => ?_)
  · have hst := zz_ifne c5
    obtain ⟨S, hS, rfl⟩ := zz_set hst
    have hcS := hcb S
    have fin : ∀ σ' r, IXz n b σ' → clz b n S r → IXz n b σ' ∧ (¬ (0 ≤ nI S ∧ nI S ≤ 255) → r = -1) ∧ (∀ S', S' < 256 → nI S = nI S' → clz b n S' r) := fun σ' r g0 g => ⟨g0, fun q => absurd hst q, fun S' a1 a3 => by
      rw [nI_eq (by omega) (by omega)] at a3
      subst a3; exact g⟩
    refine zz_aload_n C dX0_closure_10 rfl ?_
    refine zz_callv C (X_build l D h d _ hI) rfl rfl rfl q96 q98 qs1 q19 q99 (nA := 0) (by decide +kernel) rfl ⟨rfl, rfl, by decide, by decide⟩ rfl (Nat.le_of_ble_eq_true rfl) dX0_closure_11 (fun σ2 hp2 => ?_)
    obtain ⟨hI2, hc⟩ := hp2
    refine zz_aload_n C dX0_closure_14 rfl ?_
    refine x_get_counts C dX0_closure_15 ?_
    refine zz_iload_n C dX0_closure_18 rfl ?_
    refine x_bald C dX0_closure_19 rfl S rfl hS ?_
    refine zz_eq _ (hc S hS) ?_
    refine zz_if_ne C 26 dX0_closure_20 (by decide) (fun c20 => ?_) (fun c20 => ?_)
    · rw [zz_0, nI_eq (by omega) (by decide)] at c20
      have loop : ∀ t, t ≤ 8 → ∀ Rr, Rr < 256 → (∀ u, u < 8 → (Rr.testBit u = true ↔ (S.testBit u = true ∨ (u < t ∧ cz b n (S ||| 2 ^ u) = cz b n S)))) → Z σ2 30 [.ref (h 0), .int (nI S), .int (nI Rr), .int (nI t)] [] := by
        refine zz_lp 8 (fun t ht next Rr hRr hb => ?_)
        refine zz_iload_n C dX0_closure_30 rfl ?_
        refine zz_bipush C (v := 8) dX0_closure_31 (by decide) ?_
        refine zz_icmp_ge C 67 dX0_closure_33 (by decide) (fun c33 => ?_) (fun c33 => ?_)
        · have e := zc8 ht c33
          subst e
          refine zz_iload_n C dX0_closure_67 rfl ?_
          refine E _ _ _ _ dX0_closure_68 rfl (fin _ _ hI2 (Or.inr ⟨c20, Rr, hRr, rfl, fun u hu => (hb u hu).trans ⟨fun z => ?_, fun z => Or.inr ⟨hu, z⟩⟩⟩))
          rcases z with z | z
          · rw [bit_orE z]
          · exact z.2
        · have ht' := zc8' ht c33
          have hct := hcb (S ||| 2 ^ t)
          refine zz_aload_n C dX0_closure_36 rfl ?_
          refine x_get_counts C dX0_closure_37 ?_
          refine zz_iload_n C dX0_closure_40 rfl ?_
          refine zz_iconst C (v := 1) dX0_closure_41 (by decide) ?_
          refine zz_iload_n C dX0_closure_42 rfl ?_
          refine zz_ishl C dX0_closure_43 ?_
          refine zz_ior C dX0_closure_44 ?_
          refine zz_eq _ (zi_orb ht') ?_
          refine x_bald C dX0_closure_45 rfl (S ||| 2 ^ t) rfl (or_lt hS ht') ?_
          refine zz_eq _ (hc _ (or_lt hS ht')) ?_
          refine zz_aload_n C dX0_closure_46 rfl ?_
          refine x_get_counts C dX0_closure_47 ?_
          refine zz_iload_n C dX0_closure_50 rfl ?_
          refine x_bald C dX0_closure_51 rfl S rfl hS ?_
          refine zz_eq _ (hc S hS) ?_
          refine zz_icmp_ne C 61 dX0_closure_52 (by decide) (fun c52 => ?_) (fun c52 => ?_)
          · rw [nI_eq (by omega) (by omega)] at c52
            refine zz_iinc C dX0_closure_61 rfl (zz_inc1 _) (L' := [_, _, _, _]) rfl (by decide) ?_
            refine zz_goto C 30 dX0_closure_64 (by decide) ?_
            refine next ht' Rr hRr (fun u hu => (hb u hu).trans ⟨fun z => z.imp id (fun y => ⟨by omega, y.2⟩), fun z => ?_⟩)
            rcases z with z | ⟨z1, z2⟩
            · exact Or.inl z
            · refine Or.inr ⟨?_, z2⟩
              rcases Nat.lt_or_ge u t with q | q
              · exact q
              · rw [show u = t by omega] at z2; exact absurd z2 c52
          · rw [nI_eq (by omega) (by omega)] at c52
            refine zz_iload_n C dX0_closure_55 rfl ?_
            refine zz_iconst C (v := 1) dX0_closure_56 (by decide) ?_
            refine zz_iload_n C dX0_closure_57 rfl ?_
            refine zz_ishl C dX0_closure_58 ?_
            refine zz_ior C dX0_closure_59 ?_
            refine zz_eq _ (zi_orb ht') ?_
            refine zz_istore_n C dX0_closure_60 (L' := [_, _, _, _]) rfl ⟨Nat.le_of_ble_eq_true rfl, by decide⟩ ?_
            refine zz_iinc C dX0_closure_61 rfl (zz_inc1 _) (L' := [_, _, _, _]) rfl (by decide) ?_
            refine zz_goto C 30 dX0_closure_64 (by decide) ?_
            refine next ht' (Rr ||| 2 ^ t) (or_lt hRr ht') (fun u hu => ?_)
            rw [bit_or, Bool.or_eq_true, hb u hu]
            constructor
            · intro z
              rcases z with (z | ⟨z1, z2⟩) | z
              · exact Or.inl z
              · exact Or.inr ⟨by omega, z2⟩
              · have e : t = u := of_decide_eq_true z
                subst e
                exact Or.inr ⟨by omega, c52⟩
            · intro z
              rcases z with z | ⟨z1, z2⟩
              · exact Or.inl (Or.inl z)
              · rcases Nat.lt_or_ge u t with q | q
                · exact Or.inl (Or.inr ⟨q, z2⟩)
                · exact Or.inr (decide_eq_true (by omega))
      refine zz_iload_n C dX0_closure_26 rfl ?_
      refine zz_istore_n C dX0_closure_27 (L' := [_, _, _]) rfl ⟨Nat.le_of_ble_eq_true rfl, by decide⟩ ?_
      refine zz_iconst C (v := 0) dX0_closure_28 (by decide) ?_
      refine zz_istore_n C dX0_closure_29 (L' := [_, _, _, _]) rfl ⟨Nat.le_of_ble_eq_true rfl, by decide⟩ ?_
      exact loop 0 (by decide) S hS (fun u hu => ⟨Or.inl, fun z => z.elim id (fun y => absurd y.1 (by omega))⟩)
    · rw [zz_0, nI_eq (by omega) (by decide)] at c20
      refine zz_bipush C (v := (-3)) dX0_closure_23 (by decide) ?_
      refine E _ _ _ _ dX0_closure_25 rfl (fin _ _ hI2 (Or.inl ⟨c20, rfl⟩))
  · have hst := zz_ifeq c5
    refine zz_iconst C (v := (-1)) dX0_closure_8 (by decide) ?_
    refine E _ _ _ _ dX0_closure_9 rfl ⟨hI, fun _ => rfl, fun S a1 a3 => absurd (by rw [a3]; exact zz_set' a1) hst⟩
theorem X_rules (l : Launch) (D : va_G) (h : Nat → Nat) (d : Nat → ClassId) (σ : zzS) {n : Nat} {b : Nat → Nat} (hI : IXz n b σ) (a p : Int32) : zzMi l yX0_rules cX0_rules 6 .int (zR 3 120) D (tX d) (wX h d) (h 0) [.int a, .int p] σ (fun r σ' => IXz n b σ' ∧ r = rulz a p (fun m q => nI (ruX (cz b n) m q 256))) := by
  refine zzMi_of RX0 rfl (by decide) (Nat.le_of_ble_eq_true rfl) rfl (fun Z C E => ?_)
  have hcb : ∀ S, cz b n S ≤ 20 := fun S => Nat.le_trans (cz_le b n S) hI.1.1
  refine zz_aload_n C dX0_rules_0 rfl ?_
  refine zz_iload_n C dX0_rules_1 rfl ?_
  refine zz_calli C (X_isBound l D h d σ a) rfl rfl rfl q128 q130 qs8 q19 q131 (nA := 1) (by decide +kernel) rfl ⟨rfl, rfl, by decide, by decide⟩ rfl (Nat.le_of_ble_eq_true rfl) dX0_rules_2 (fun r σ1 hp => ?_)
  obtain ⟨rfl, rfl⟩ := hp
  refine zz_if_eq C 18 dX0_rules_5 (by decide) (fun c5 => ?_) (fun c5 => ?_)
  · have hlv := zz_ifeq c5
    refine zz_iconst C (v := (-1)) dX0_rules_18 (by decide) ?_
    refine E _ _ _ _ dX0_rules_19 rfl ⟨hI, (rulz_f (fun q => hlv q.1) _).symm⟩
  · have hlv := zz_ifne c5
    refine zz_iload_n C dX0_rules_8 rfl ?_
    refine zz_if_lt C 18 dX0_rules_9 (by decide) (fun c9 => ?_) (fun c9 => ?_)
    · refine zz_iconst C (v := (-1)) dX0_rules_18 (by decide) ?_
      refine E _ _ _ _ dX0_rules_19 rfl ⟨hI, (rulz_f (fun q => Int32.not_lt.mpr q.2.1 c9) _).symm⟩
    · refine zz_iload_n C dX0_rules_12 rfl ?_
      refine zz_bipush C (v := 100) dX0_rules_13 (by decide) ?_
      refine zz_icmp_le C 20 dX0_rules_15 (by decide) (fun c15 => ?_) (fun c15 => ?_)
      · obtain ⟨m, hm1, hm2, rfl⟩ := zz_lev hlv
        obtain ⟨q, hq, rfl⟩ := zz_pct ⟨zi_nlt c9, c15⟩
        refine zz_aload_n C dX0_rules_20 rfl ?_
        refine zz_callv C (X_build l D h d _ hI) rfl rfl rfl q96 q98 qs1 q19 q99 (nA := 0) (by decide +kernel) rfl ⟨rfl, rfl, by decide, by decide⟩ rfl (Nat.le_of_ble_eq_true rfl) dX0_rules_21 (fun σ2 hp2 => ?_)
        obtain ⟨hI2, hc⟩ := hp2
        have outer : ∀ S, S ≤ 256 → 1 ≤ S → ∀ v, v = nI (ruX (cz b n) m q S) → Z σ2 29 [.ref (h 0), .int (nI m), .int (nI q), .int v, .int (nI S)] [] := by
          refine zz_lp 256 (fun S hS next hS1 v hv => ?_)
          subst hv
          refine zz_iload C dX0_rules_29 rfl ?_
          refine zz_sipush C (v := 256) dX0_rules_31 (by decide) ?_
          refine zz_icmp_ge C 108 dX0_rules_34 (by decide) (fun c34 => ?_) (fun c34 => ?_)
          · refine zz_iload_n C dX0_rules_108 rfl ?_
            refine E _ _ _ _ dX0_rules_109 rfl ⟨hI2, by rw [rulz_t hm1 hm2 hq, zc256 hS c34]⟩
          · have hS' := zc256' hS c34
            have hcS := hcb S
            refine zz_aload_n C dX0_rules_37 rfl ?_
            refine x_get_counts C dX0_rules_38 ?_
            refine zz_iload C dX0_rules_41 rfl ?_
            refine x_bald C dX0_rules_43 rfl S rfl hS' ?_
            refine zz_eq _ (hc S hS') ?_
            refine zz_iload_n C dX0_rules_44 rfl ?_
            refine zz_icmp_ge C 51 dX0_rules_45 (by decide) (fun c45 => ?_) (fun c45 => ?_)
            · rw [zi_le (by omega) (by omega)] at c45
              have inner : ∀ t, suz t S → t < S → ∀ A, A + cFz (fun z => suz z S ∧ q * cz b n z ≤ 100 * cz b n S) (t + 1) = ruX (cz b n) m q (S + 1) → Z σ2 60 [.ref (h 0), .int (nI m), .int (nI q), .int (nI A), .int (nI S), .int (nI t)] [] := by
                intro t
                induction t using Nat.strongRecOn with
                | _ t ih =>
                  intro ht1 ht2 A hA
                  have hct := hcb t
                  have hq1 : q * cz b n t ≤ 100 * 20 := Nat.mul_le_mul hq hct
                  refine zz_iload C dX0_rules_60 rfl ?_
                  refine zz_if_le C 102 dX0_rules_62 (by decide) (fun c62 => ?_) (fun c62 => ?_)
                  · rw [zz_0, zi_le (by omega) (by decide)] at c62
                    have e : t = 0 := by omega
                    subst e
                    rw [cFz_1, Nat.add_zero] at hA
                    refine zz_iinc C dX0_rules_102 rfl (zz_inc1 _) (L' := [_, _, _, _, _, _]) rfl (by decide) ?_
                    refine zz_goto C 29 dX0_rules_105 (by decide) ?_
                    refine zz_take C 5 (L' := [_, _, _, _, _]) rfl ?_
                    exact next hS' (by omega) _ (by rw [← hA])
                  · rw [zz_0, zi_le (by omega) (by decide)] at c62
                    have ht0 : 1 ≤ t := by omega
                    have hgap : cFz (fun z => suz z S ∧ q * cz b n z ≤ 100 * cz b n S) (((t - 1) &&& S) + 1) = cFz (fun z => suz z S ∧ q * cz b n z ≤ 100 * cz b n S) t := by
                      have hl9 := part_lt (S := S) ht0
                      refine cFz_gap (by omega) (fun i i1 i2 z => ?_)
                      have := part_next t S i ht1 z.1 i2
                      omega
                    rw [cFz_s _ ht0, ← hgap] at hA
                    have go : ∀ A', A' + cFz (fun z => suz z S ∧ q * cz b n z ≤ 100 * cz b n S) (((t - 1) &&& S) + 1) = ruX (cz b n) m q (S + 1) → Z σ2 90 [.ref (h 0), .int (nI m), .int (nI q), .int (nI A'), .int (nI S), .int (nI t)] [] := by
                      intro A' hA'
                      refine zz_iload C dX0_rules_90 rfl ?_
                      refine zz_iconst C (v := 1) dX0_rules_92 (by decide) ?_
                      refine zz_isub C dX0_rules_93 ?_
                      refine zz_eq _ (zi_pred ht0) ?_
                      refine zz_iload C dX0_rules_94 rfl ?_
                      refine zz_iand C dX0_rules_96 ?_
                      refine zz_eq _ (zi_and _ _) ?_
                      refine zz_istore C dX0_rules_97 (L' := [_, _, _, _, _, _]) rfl ⟨Nat.le_of_ble_eq_true rfl, by decide⟩ ?_
                      refine zz_goto C 60 dX0_rules_99 (by decide) ?_
                      exact ih _ (part_lt ht0) (part_sub t S) (Nat.lt_trans (part_lt ht0) ht2) A' hA'
                    refine zz_bipush C (v := 100) dX0_rules_65 (by decide) ?_
                    refine zz_aload_n C dX0_rules_67 rfl ?_
                    refine x_get_counts C dX0_rules_68 ?_
                    refine zz_iload C dX0_rules_71 rfl ?_
                    refine x_bald C dX0_rules_73 rfl S rfl hS' ?_
                    refine zz_eq _ (hc S hS') ?_
                    refine zz_imul C dX0_rules_74 ?_
                    refine zz_eq (nI (100 * cz b n S)) (by rw [zz_100, pk_mul]) ?_
                    refine zz_iload_n C dX0_rules_75 rfl ?_
                    refine zz_aload_n C dX0_rules_76 rfl ?_
                    refine x_get_counts C dX0_rules_77 ?_
                    refine zz_iload C dX0_rules_80 rfl ?_
                    refine x_bald C dX0_rules_82 rfl t rfl (by omega) ?_
                    refine zz_eq _ (hc t (by omega)) ?_
                    refine zz_imul C dX0_rules_83 ?_
                    refine zz_eq _ (pk_mul q (cz b n t)) ?_
                    refine zz_icmp_lt C 90 dX0_rules_84 (by decide) (fun c84 => ?_) (fun c84 => ?_)
                    · rw [nI_ltI (by omega) (by omega)] at c84
                      refine go A ?_
                      rw [ibz_f (fun z => absurd z.2 (by omega))] at hA
                      omega
                    · rw [nI_ltI (by omega) (by omega)] at c84
                      refine zz_iinc C dX0_rules_87 rfl (zz_inc1 _) (L' := [_, _, _, _, _, _]) rfl (by decide) ?_
                      refine go (A + 1) ?_
                      rw [ibz_t ⟨ht1, by omega⟩] at hA
                      omega
              refine zz_iload C dX0_rules_51 rfl ?_
              refine zz_iconst C (v := 1) dX0_rules_53 (by decide) ?_
              refine zz_isub C dX0_rules_54 ?_
              refine zz_eq _ (zi_pred hS1) ?_
              refine zz_iload C dX0_rules_55 rfl ?_
              refine zz_iand C dX0_rules_57 ?_
              refine zz_eq _ (zi_and _ _) ?_
              refine zz_istore C dX0_rules_58 (L' := [_, _, _, _, _, _]) rfl ⟨Nat.le_of_ble_eq_true rfl, by decide⟩ ?_
              refine inner _ (part_sub S S) (part_lt hS1) _ ?_
              rw [ruX_t _ _ _ hS1 c45]
              congr 1
              have hl9 := part_lt (S := S) hS1
              refine cFz_gap (by omega) (fun i i1 i2 z => ?_)
              have := part_next S S i (suz_rf S) z.1 i2
              omega
            · rw [zi_le (by omega) (by omega)] at c45
              refine zz_goto C 102 dX0_rules_48 (by decide) ?_
              refine zz_iinc C dX0_rules_102 rfl (zz_inc1 _) (L' := [_, _, _, _, _]) rfl (by decide) ?_
              refine zz_goto C 29 dX0_rules_105 (by decide) ?_
              exact next hS' (by omega) _ (by rw [ruX_f _ _ _ c45])
        refine zz_iconst C (v := 0) dX0_rules_24 (by decide) ?_
        refine zz_istore_n C dX0_rules_25 (L' := [_, _, _, _]) rfl ⟨Nat.le_of_ble_eq_true rfl, by decide⟩ ?_
        refine zz_iconst C (v := 1) dX0_rules_26 (by decide) ?_
        refine zz_istore C dX0_rules_27 (L' := [_, _, _, _, _]) rfl ⟨Nat.le_of_ble_eq_true rfl, by decide⟩ ?_
        exact outer 1 (by decide) (by decide) 0 (by rw [ruX_1]; rfl)
      · refine zz_iconst C (v := (-1)) dX0_rules_18 (by decide) ?_
        refine E _ _ _ _ dX0_rules_19 rfl ⟨hI, (rulz_f (fun q => c15 q.2.2) _).symm⟩
theorem X_companion (l : Launch) (D : va_G) (h : Nat → Nat) (d : Nat → ClassId) (σ : zzS) {n : Nat} {b : Nat → Nat} (hI : IXz n b σ) (a : Int32) : zzMi l yX0_companion cX0_companion 5 .int (zR 3 120) D (tX d) (wX h d) (h 0) [.int a] σ (fun r σ' => IXz n b σ' ∧ r = comz a (cmpz (cz b n))) := by
  refine zzMi_of RX0 rfl (by decide) (Nat.le_of_ble_eq_true rfl) rfl (fun Z C E => ?_)
  have hcb : ∀ S, cz b n S ≤ 20 := fun S => Nat.le_trans (cz_le b n S) hI.1.1
  refine zz_iload_n C dX0_companion_0 rfl ?_
  refine zz_iconst C (v := 1) dX0_companion_1 (by decide) ?_
  refine zz_icmp_lt C 12 dX0_companion_2 (by decide) (fun c2 => ?_) (fun c2 => ?_)
  · refine zz_iconst C (v := (-1)) dX0_companion_12 (by decide) ?_
    refine E _ _ _ _ dX0_companion_13 rfl ⟨hI, (comz_f (fun q => Int32.not_lt.mpr q.1 c2) _).symm⟩
  · refine zz_iload_n C dX0_companion_5 rfl ?_
    refine zz_sipush C (v := 255) dX0_companion_6 (by decide) ?_
    refine zz_icmp_le C 14 dX0_companion_9 (by decide) (fun c9 => ?_) (fun c9 => ?_)
    · obtain ⟨S, hS1, hS, rfl⟩ := zz_com ⟨zi_nlt c2, c9⟩
      have hcS := hcb S
      refine zz_aload_n C dX0_companion_14 rfl ?_
      refine zz_callv C (X_build l D h d _ hI) rfl rfl rfl q96 q98 qs1 q19 q99 (nA := 0) (by decide +kernel) rfl ⟨rfl, rfl, by decide, by decide⟩ rfl (Nat.le_of_ble_eq_true rfl) dX0_companion_15 (fun σ2 hp2 => ?_)
      obtain ⟨hI2, hc⟩ := hp2
      have no : (cz b n S = 0 ∨ S = 255) → Z σ2 34 [.ref (h 0), .int (nI S)] [] := by
        intro hno
        refine zz_bipush C (v := (-3)) dX0_companion_34 (by decide) ?_
        refine E _ _ _ _ dX0_companion_36 rfl ⟨hI2, by rw [comz_t hS1 hS]; unfold cmpz; rw [if_pos hno]⟩
      refine zz_aload_n C dX0_companion_18 rfl ?_
      refine x_get_counts C dX0_companion_19 ?_
      refine zz_iload_n C dX0_companion_22 rfl ?_
      refine x_bald C dX0_companion_23 rfl S rfl hS ?_
      refine zz_eq _ (hc S hS) ?_
      refine zz_if_eq C 34 dX0_companion_24 (by decide) (fun c24 => ?_) (fun c24 => ?_)
      · rw [zz_0, nI_eq (by omega) (by decide)] at c24
        exact no (Or.inl c24)
      · rw [zz_0, nI_eq (by omega) (by decide)] at c24
        refine zz_iload_n C dX0_companion_27 rfl ?_
        refine zz_sipush C (v := 255) dX0_companion_28 (by decide) ?_
        refine zz_icmp_ne C 37 dX0_companion_31 (by decide) (fun c31 => ?_) (fun c31 => ?_)
        · rw [zz_255, nI_eq (by omega) (by decide)] at c31
          have loop : ∀ t, t ≤ 8 → ∀ v w, v = bsXz (cmz (cz b n) S t) → w = moXz (cz b n) S (cmz (cz b n) S t) → Z σ2 45 [.ref (h 0), .int (nI S), .int v, .int w, .int (nI t)] [] := by
            refine zz_lp 8 (fun t ht next v w hv hw => ?_)
            refine zz_iload C dX0_companion_45 rfl ?_
            refine zz_bipush C (v := 8) dX0_companion_47 (by decide) ?_
            refine zz_icmp_ge C 100 dX0_companion_49 (by decide) (fun c49 => ?_) (fun c49 => ?_)
            · refine zz_iload_n C dX0_companion_100 rfl ?_
              refine E _ _ _ _ dX0_companion_101 rfl ⟨hI2, ?_⟩
              rw [comz_t hS1 hS]; unfold cmpz
              rw [if_neg (fun q => q.elim c24 c31), hv, zc8 ht c49]
              cases hm : cmz (cz b n) S 8 with
              | none => rfl
              | some u => rfl
            · have ht' := zc8' ht c49
              have h1 := hcb (S ||| 2 ^ t)
              refine zz_iload_n C dX0_companion_52 rfl ?_
              refine zz_iload C dX0_companion_53 rfl ?_
              refine zz_ishr C dX0_companion_55 ?_
              refine zz_iconst C (v := 1) dX0_companion_56 (by decide) ?_
              refine zz_iand C dX0_companion_57 ?_
              refine zz_eq (nI (if S.testBit t = true then 1 else 0)) (zi_bit hS ht') ?_
              refine zz_if_ne C 94 dX0_companion_58 (by decide) (fun c58 => ?_) (fun c58 => ?_)
              · have hbt := zi_bne c58
                refine zz_iinc C dX0_companion_94 rfl (zz_inc1 _) (L' := [_, _, _, _, _]) rfl (by decide) ?_
                refine zz_goto C 45 dX0_companion_97 (by decide) ?_
                exact next ht' _ _ (by rw [cmz_bit hbt]; exact hv) (by rw [cmz_bit hbt]; exact hw)
              · have hbt := zi_be c58
                have put : cmz (cz b n) S (t + 1) = some t → Z σ2 79 [.ref (h 0), .int (nI S), .int v, .int w, .int (nI t)] [] := by
                  intro hm
                  refine zz_aload_n C dX0_companion_79 rfl ?_
                  refine x_get_counts C dX0_companion_80 ?_
                  refine zz_iload_n C dX0_companion_83 rfl ?_
                  refine zz_iconst C (v := 1) dX0_companion_84 (by decide) ?_
                  refine zz_iload C dX0_companion_85 rfl ?_
                  refine zz_ishl C dX0_companion_87 ?_
                  refine zz_ior C dX0_companion_88 ?_
                  refine zz_eq _ (zi_orb ht') ?_
                  refine x_bald C dX0_companion_89 rfl (S ||| 2 ^ t) rfl (or_lt hS ht') ?_
                  refine zz_eq _ (hc _ (or_lt hS ht')) ?_
                  refine zz_istore_n C dX0_companion_90 (L' := [_, _, _, _, _]) rfl ⟨Nat.le_of_ble_eq_true rfl, by decide⟩ ?_
                  refine zz_iload C dX0_companion_91 rfl ?_
                  refine zz_istore_n C dX0_companion_93 (L' := [_, _, _, _, _]) rfl ⟨Nat.le_of_ble_eq_true rfl, by decide⟩ ?_
                  refine zz_iinc C dX0_companion_94 rfl (zz_inc1 _) (L' := [_, _, _, _, _]) rfl (by decide) ?_
                  refine zz_goto C 45 dX0_companion_97 (by decide) ?_
                  exact next ht' _ _ (by rw [hm]; rfl) (by rw [hm]; rfl)
                refine zz_aload_n C dX0_companion_61 rfl ?_
                refine x_get_counts C dX0_companion_62 ?_
                refine zz_iload_n C dX0_companion_65 rfl ?_
                refine zz_iconst C (v := 1) dX0_companion_66 (by decide) ?_
                refine zz_iload C dX0_companion_67 rfl ?_
                refine zz_ishl C dX0_companion_69 ?_
                refine zz_ior C dX0_companion_70 ?_
                refine zz_eq _ (zi_orb ht') ?_
                refine x_bald C dX0_companion_71 rfl (S ||| 2 ^ t) rfl (or_lt hS ht') ?_
                refine zz_eq _ (hc _ (or_lt hS ht')) ?_
                refine zz_iload_n C dX0_companion_72 rfl ?_
                cases hm : cmz (cz b n) S t with
                | none =>
                  rw [hm] at hw
                  have hw : w = -1 := hw
                  refine zz_icmp_gt C 79 dX0_companion_73 (by decide) (fun c73 => ?_) (fun c73 => ?_)
                  · exact put (cmz_none1 hbt hm)
                  · rw [hw] at c73
                    exact absurd (zi_m1lt (by omega)) c73
                | some u =>
                  rw [hm] at hw hv
                  have hw : w = nI (cz b n (S ||| 2 ^ u)) := hw
                  have h2 := hcb (S ||| 2 ^ u)
                  refine zz_icmp_gt C 79 dX0_companion_73 (by decide) (fun c73 => ?_) (fun c73 => ?_)
                  · rw [hw, nI_ltI (by omega) (by omega)] at c73
                    exact put (by rw [cmz_some hbt hm, if_pos c73])
                  · rw [hw, nI_ltI (by omega) (by omega)] at c73
                    refine zz_goto C 94 dX0_companion_76 (by decide) ?_
                    refine zz_iinc C dX0_companion_94 rfl (zz_inc1 _) (L' := [_, _, _, _, _]) rfl (by decide) ?_
                    refine zz_goto C 45 dX0_companion_97 (by decide) ?_
                    exact next ht' _ _ (by rw [cmz_some hbt hm, if_neg c73]; exact hv) (by rw [cmz_some hbt hm, if_neg c73]; exact hw)
          refine zz_bipush C (v := (-3)) dX0_companion_37 (by decide) ?_
          refine zz_istore_n C dX0_companion_39 (L' := [_, _, _]) rfl ⟨Nat.le_of_ble_eq_true rfl, by decide⟩ ?_
          refine zz_iconst C (v := (-1)) dX0_companion_40 (by decide) ?_
          refine zz_istore_n C dX0_companion_41 (L' := [_, _, _, _]) rfl ⟨Nat.le_of_ble_eq_true rfl, by decide⟩ ?_
          refine zz_iconst C (v := 0) dX0_companion_42 (by decide) ?_
          refine zz_istore C dX0_companion_43 (L' := [_, _, _, _, _]) rfl ⟨Nat.le_of_ble_eq_true rfl, by decide⟩ ?_
          exact loop 0 (by decide) _ _ rfl rfl
        · rw [zz_255, nI_eq (by omega) (by decide)] at c31
          exact no (Or.inr c31)
    · refine zz_iconst C (v := (-1)) dX0_companion_12 (by decide) ?_
      refine E _ _ _ _ dX0_companion_13 rfl ⟨hI, (comz_f (fun q => c9 q.2) _).symm⟩
end
section
set_option maxRecDepth 100000
theorem M_isSet (l : Launch) (D : va_G) (h : Nat → Nat) (d : Nat → ClassId) (σ : zzS) (a : Int32) : zzMi l yX1_isSet cX1_isSet 2 .boolean (zR 0 0) D (tM d) (wM h d) (h 0) [.int a] σ (fun r σ' => σ' = σ ∧ r = if 0 ≤ a ∧ a ≤ 255 then 1 else 0) := by
  refine zzMi_of RX1 rfl (by decide) (Nat.le_of_ble_eq_true rfl) rfl (fun Z C E => ?_)
  refine zz_iload_n C dX1_isSet_0 rfl ?_
  refine zz_if_lt C 15 dX1_isSet_1 (by decide) (fun c1 => ?_) (fun c1 => ?_)
  · refine zz_iconst C (v := 0) dX1_isSet_15 (by decide) ?_
    refine E _ _ _ _ dX1_isSet_16 rfl ⟨rfl, (if_neg (fun q => Int32.not_lt.mpr q.1 c1)).symm⟩
  · refine zz_iload_n C dX1_isSet_4 rfl ?_
    refine zz_sipush C (v := 255) dX1_isSet_5 (by decide) ?_
    refine zz_icmp_gt C 15 dX1_isSet_8 (by decide) (fun c8 => ?_) (fun c8 => ?_)
    · refine zz_iconst C (v := 0) dX1_isSet_15 (by decide) ?_
      refine E _ _ _ _ dX1_isSet_16 rfl ⟨rfl, (if_neg (fun q => Int32.not_lt.mpr q.2 c8)).symm⟩
    · refine zz_iconst C (v := 1) dX1_isSet_11 (by decide) ?_
      refine zz_goto C 16 dX1_isSet_12 (by decide) ?_
      refine E _ _ _ _ dX1_isSet_16 rfl ⟨rfl, (if_pos ⟨Int32.not_lt.mp c1, Int32.not_lt.mp c8⟩).symm⟩
theorem M_isLevel (l : Launch) (D : va_G) (h : Nat → Nat) (d : Nat → ClassId) (σ : zzS) (a : Int32) : zzMi l yX1_isLevel cX1_isLevel 2 .boolean (zR 0 0) D (tM d) (wM h d) (h 0) [.int a] σ (fun r σ' => σ' = σ ∧ r = if 1 ≤ a ∧ a ≤ 20 then 1 else 0) := by
  refine zzMi_of RX1 rfl (by decide) (Nat.le_of_ble_eq_true rfl) rfl (fun Z C E => ?_)
  refine zz_iload_n C dX1_isLevel_0 rfl ?_
  refine zz_iconst C (v := 1) dX1_isLevel_1 (by decide) ?_
  refine zz_icmp_lt C 15 dX1_isLevel_2 (by decide) (fun c1 => ?_) (fun c1 => ?_)
  · refine zz_iconst C (v := 0) dX1_isLevel_15 (by decide) ?_
    refine E _ _ _ _ dX1_isLevel_16 rfl ⟨rfl, (if_neg (fun q => Int32.not_lt.mpr q.1 c1)).symm⟩
  · refine zz_iload_n C dX1_isLevel_5 rfl ?_
    refine zz_bipush C (v := 20) dX1_isLevel_6 (by decide) ?_
    refine zz_icmp_gt C 15 dX1_isLevel_8 (by decide) (fun c8 => ?_) (fun c8 => ?_)
    · refine zz_iconst C (v := 0) dX1_isLevel_15 (by decide) ?_
      refine E _ _ _ _ dX1_isLevel_16 rfl ⟨rfl, (if_neg (fun q => Int32.not_lt.mpr q.2 c8)).symm⟩
    · refine zz_iconst C (v := 1) dX1_isLevel_11 (by decide) ?_
      refine zz_goto C 16 dX1_isLevel_12 (by decide) ?_
      refine E _ _ _ _ dX1_isLevel_16 rfl ⟨rfl, (if_pos ⟨Int32.not_lt.mp c1, Int32.not_lt.mp c8⟩).symm⟩
theorem M_sizeOf (l : Launch) (D : va_G) (h : Nat → Nat) (d : Nat → ClassId) (σ : zzS) {S : Nat} (hS : S < 256) : zzMi l yX1_sizeOf cX1_sizeOf 4 .int (zR 0 0) D (tM d) (wM h d) (h 0) [.int (nI S)] σ (fun r σ' => σ' = σ ∧ r = nI (szz S)) := by
  refine zzMi_of RX1 rfl (by decide) (Nat.le_of_ble_eq_true rfl) rfl (fun Z C E => ?_)
  have loop : ∀ t, t ≤ 8 → ∀ v, v = nI (sNz (fun t => ibz (S.testBit t = true)) t) → Z σ 4 [.ref (h 0), .int (nI S), .int v, .int (nI t)] [] := by
    refine zz_lp 8 (fun t ht next v hv => ?_)
    subst hv
    refine zz_iload_n C dX1_sizeOf_4 rfl ?_
    refine zz_bipush C (v := 8) dX1_sizeOf_5 (by decide) ?_
    refine zz_icmp_ge C 24 dX1_sizeOf_7 (by decide) (fun c7 => ?_) (fun c7 => ?_)
    · refine zz_iload_n C dX1_sizeOf_24 rfl ?_
      refine E _ _ _ _ dX1_sizeOf_25 rfl ⟨rfl, by rw [zc8 ht c7]; rfl⟩
    · have ht' := zc8' ht c7
      refine zz_iload_n C dX1_sizeOf_10 rfl ?_
      refine zz_iload_n C dX1_sizeOf_11 rfl ?_
      refine zz_iload_n C dX1_sizeOf_12 rfl ?_
      refine zz_ishr C dX1_sizeOf_13 ?_
      refine zz_iconst C (v := 1) dX1_sizeOf_14 (by decide) ?_
      refine zz_iand C dX1_sizeOf_15 ?_
      refine zz_eq (nI (if S.testBit t = true then 1 else 0)) (zi_bit hS ht') ?_
      refine zz_iadd C dX1_sizeOf_16 ?_
      refine zz_istore_n C dX1_sizeOf_17 (L' := [_, _, _, _]) rfl ⟨Nat.le_of_ble_eq_true rfl, by decide⟩ ?_
      refine zz_iinc C dX1_sizeOf_18 rfl (zz_inc1 _) (L' := [_, _, _, _]) rfl (by decide) ?_
      refine zz_goto C 4 dX1_sizeOf_21 (by decide) ?_
      exact next ht' _ (by rw [nI_add, zi_bib]; rfl)
  refine zz_iconst C (v := 0) dX1_sizeOf_0 (by decide) ?_
  refine zz_istore_n C dX1_sizeOf_1 (L' := [_, _, _]) rfl ⟨Nat.le_of_ble_eq_true rfl, by decide⟩ ?_
  refine zz_iconst C (v := 0) dX1_sizeOf_2 (by decide) ?_
  refine zz_istore_n C dX1_sizeOf_3 (L' := [_, _, _, _]) rfl ⟨Nat.le_of_ble_eq_true rfl, by decide⟩ ?_
  exact loop 0 (by decide) 0 rfl
theorem M_countAll (l : Launch) (D : va_G) (h : Nat → Nat) (d : Nat → ClassId) (σ : zzS) {n : Nat} {b : Nat → Nat} (hI : IMz n b σ) : zzMv l yX1_countAll cX1_countAll 3 (zR 0 0) D (tM d) (wM h d) (h 0) [] σ (fun σ' => IMz n b σ' ∧ cMz (cz b n) σ') := by
  refine zzMv_of RX1 rfl (by decide) (Nat.le_of_ble_eq_true rfl) rfl (fun Z C E => ?_)
  have outer : ∀ S, S ≤ 256 → ∀ σ, IMz n b σ → (∀ T, T < S → σ 2 T = nI (cz b n T)) → Z σ 2 [.ref (h 0), .int (nI S)] [] := by
    refine zz_lp 256 (fun S hS next σ hI hc => ?_)
    refine zz_iload_n C dX1_countAll_2 rfl ?_
    refine zz_sipush C (v := 256) dX1_countAll_3 (by decide) ?_
    refine zz_icmp_ge C 61 dX1_countAll_6 (by decide) (fun c6 => ?_) (fun c6 => ?_)
    · refine E _ _ _ dX1_countAll_61 ⟨hI, fun T hT => hc T (by have := zc256 hS c6; omega)⟩
    · have hS' := zc256' hS c6
      refine zz_aload_n C dX1_countAll_9 rfl ?_
      refine m_get_counts C dX1_countAll_10 ?_
      refine zz_iload_n C dX1_countAll_13 rfl ?_
      refine zz_iconst C (v := 0) dX1_countAll_14 (by decide) ?_
      refine m_iast C dX1_countAll_15 rfl S rfl hS' rfl (fun σ1 e1 => ?_)
      have inner : ∀ k, k ≤ n → ∀ σ, IMz n b σ → (∀ T, T < S → σ 2 T = nI (cz b n T)) → σ 2 S = nI (cz b k S) → Z σ 18 [.ref (h 0), .int (nI S), .int (nI k)] [] := by
        refine zz_lp n (fun k hk nxt σ hI hc hv => ?_)
        have hn := hI.1
        refine zz_iload_n C dX1_countAll_18 rfl ?_
        refine zz_aload_n C dX1_countAll_19 rfl ?_
        refine m_get_n C dX1_countAll_20 ?_
        refine zz_icmp_ge C 55 dX1_countAll_23 (by decide) (fun c23 => ?_) (fun c23 => ?_)
        · rw [hI.2.1, zi_le (by omega) (by omega)] at c23
          refine zz_iinc C dX1_countAll_55 rfl (zz_inc1 _) (L' := [_, _, _]) rfl (by decide) ?_
          refine zz_goto C 2 dX1_countAll_58 (by decide) ?_
          refine zz_take C 2 (L' := [_, _]) rfl ?_
          refine next hS' σ hI (fun T hT => ?_)
          rcases Nat.lt_or_ge T S with q | q
          · exact hc T q
          · rw [show T = S by omega, hv, show k = n by omega]
        · rw [hI.2.1, zi_le (by omega) (by omega)] at c23
          have hk' : k < n := by omega
          have hbk := hI.2.2 k hk'
          refine zz_iload_n C dX1_countAll_26 rfl ?_
          refine zz_aload_n C dX1_countAll_27 rfl ?_
          refine m_get_baskets C dX1_countAll_28 ?_
          refine zz_iload_n C dX1_countAll_31 rfl ?_
          refine m_iald C dX1_countAll_32 rfl k rfl (by omega) ?_
          refine zz_eq (nI (b k)) hbk.2 ?_
          refine zz_iconst C (v := (-1)) dX1_countAll_33 (by decide) ?_
          refine zz_ixor C dX1_countAll_34 ?_
          refine zz_iand C dX1_countAll_35 ?_
          refine zz_if_ne C 49 dX1_countAll_36 (by decide) (fun c36 => ?_) (fun c36 => ?_)
          · rw [zi_sub hS'] at c36
            refine zz_iinc C dX1_countAll_49 rfl (zz_inc1 _) (L' := [_, _, _]) rfl (by decide) ?_
            refine zz_goto C 18 dX1_countAll_52 (by decide) ?_
            refine nxt hk' σ hI hc ?_
            rw [hv]; show _ = nI (cz b k S + ibz (suz S (b k)))
            rw [ibz_f c36]; rfl
          · rw [zi_sub hS'] at c36
            refine zz_aload_n C dX1_countAll_39 rfl ?_
            refine m_get_counts C dX1_countAll_40 ?_
            refine zz_iload_n C dX1_countAll_43 rfl ?_
            refine zz_dup2 C dX1_countAll_44 rfl rfl ?_
            refine m_iald C dX1_countAll_45 rfl S rfl hS' ?_
            refine zz_iconst C (v := 1) dX1_countAll_46 (by decide) ?_
            refine zz_iadd C dX1_countAll_47 ?_
            refine zz_eq (nI (cz b (k + 1) S)) (by rw [hv]; show _ = nI (cz b k S + ibz (suz S (b k))); rw [ibz_t c36]; exact nI_1 _) ?_
            refine m_iast C dX1_countAll_48 rfl S rfl hS' rfl (fun σ1 e1 => ?_)
            refine zz_iinc C dX1_countAll_49 rfl (zz_inc1 _) (L' := [_, _, _]) rfl (by decide) ?_
            refine zz_goto C 18 dX1_countAll_52 (by decide) ?_
            subst e1
            exact nxt hk' _ hI (fun T hT => by rw [zzu_sn _ _ _ _ (by omega)]; exact hc T hT) (zzu_ss _ _ _ _)
      refine zz_iconst C (v := 0) dX1_countAll_16 (by decide) ?_
      refine zz_istore_n C dX1_countAll_17 (L' := [_, _, _]) rfl ⟨Nat.le_of_ble_eq_true rfl, by decide⟩ ?_
      subst e1
      exact inner 0 (Nat.zero_le n) _ hI (fun T hT => by rw [zzu_sn _ _ _ _ (by omega)]; exact hc T hT) (zzu_ss _ _ _ _)
  refine zz_iconst C (v := 0) dX1_countAll_0 (by decide) ?_
  refine zz_istore_n C dX1_countAll_1 (L' := [_, _]) rfl ⟨Nat.le_of_ble_eq_true rfl, by decide⟩ ?_
  exact outer 0 (Nat.zero_le _) σ hI (fun T hT => absurd hT (by omega))
theorem M_noGreater (l : Launch) (D : va_G) (h : Nat → Nat) (d : Nat → ClassId) (σ : zzS) {c : Nat → Nat} (hc : cMz c σ) (hcb : ∀ S, c S ≤ 20) {S v : Nat} (hS : S < 256) (hv : v ≤ 20) : zzMi l yX1_noGreater cX1_noGreater 4 .boolean (zR 0 0) D (tM d) (wM h d) (h 0) [.int (nI S), .int (nI v)] σ (fun r σ' => σ' = σ ∧ ((r = 1 ∧ nGz c S v) ∨ (r = 0 ∧ ¬ nGz c S v))) := by
  refine zzMi_of RX1 rfl (by decide) (Nat.le_of_ble_eq_true rfl) rfl (fun Z C E => ?_)
  have loop : ∀ T, T ≤ 256 → 1 ≤ T → (∀ U, 1 ≤ U → U < T → U ≠ S → suz S U → ¬ v ≤ c U) → Z σ 2 [.ref (h 0), .int (nI S), .int (nI v), .int (nI T)] [] := by
    refine zz_lp 256 (fun T hT next hT1 hno => ?_)
    refine zz_iload_n C dX1_noGreater_2 rfl ?_
    refine zz_sipush C (v := 256) dX1_noGreater_3 (by decide) ?_
    refine zz_icmp_ge C 40 dX1_noGreater_6 (by decide) (fun c6 => ?_) (fun c6 => ?_)
    · refine zz_iconst C (v := 1) dX1_noGreater_40 (by decide) ?_
      refine E _ _ _ _ dX1_noGreater_41 rfl ⟨rfl, Or.inl ⟨rfl, fun U a1 a2 a3 a4 => hno U a1 (by have := zc256 hT c6; omega) a3 a4⟩⟩
    · have hT' := zc256' hT c6
      have go : (T ≠ S → suz S T → ¬ v ≤ c T) → Z σ 34 [.ref (h 0), .int (nI S), .int (nI v), .int (nI T)] [] := by
        intro hh
        refine zz_iinc C dX1_noGreater_34 rfl (zz_inc1 _) (L' := [_, _, _, _]) rfl (by decide) ?_
        refine zz_goto C 2 dX1_noGreater_37 (by decide) ?_
        refine next hT' (by omega) (fun U a1 a2 a3 a4 => ?_)
        rcases Nat.lt_or_ge U T with q | q
        · exact hno U a1 q a3 a4
        · have e : U = T := by omega
          subst e; exact hh a3 a4
      refine zz_iload_n C dX1_noGreater_9 rfl ?_
      refine zz_iload_n C dX1_noGreater_10 rfl ?_
      refine zz_icmp_eq C 34 dX1_noGreater_11 (by decide) (fun c11 => ?_) (fun c11 => ?_)
      · rw [nI_eq (by omega) (by omega)] at c11
        exact go (fun q => absurd c11 q)
      · rw [nI_eq (by omega) (by omega)] at c11
        refine zz_iload_n C dX1_noGreater_14 rfl ?_
        refine zz_iload_n C dX1_noGreater_15 rfl ?_
        refine zz_iconst C (v := (-1)) dX1_noGreater_16 (by decide) ?_
        refine zz_ixor C dX1_noGreater_17 ?_
        refine zz_iand C dX1_noGreater_18 ?_
        refine zz_if_ne C 34 dX1_noGreater_19 (by decide) (fun c19 => ?_) (fun c19 => ?_)
        · rw [zi_sub hS] at c19
          exact go (fun _ q => absurd q c19)
        · rw [zi_sub hS] at c19
          refine zz_aload_n C dX1_noGreater_22 rfl ?_
          refine m_get_counts C dX1_noGreater_23 ?_
          refine zz_iload_n C dX1_noGreater_26 rfl ?_
          refine m_iald C dX1_noGreater_27 rfl T rfl hT' ?_
          refine zz_iload_n C dX1_noGreater_28 rfl ?_
          refine zz_icmp_lt C 34 dX1_noGreater_29 (by decide) (fun c29 => ?_) (fun c29 => ?_)
          · rw [hc T hT', nI_ltI (Nat.lt_of_le_of_lt (hcb T) (by decide)) (by omega)] at c29
            exact go (fun _ _ => by omega)
          · rw [hc T hT', nI_ltI (Nat.lt_of_le_of_lt (hcb T) (by decide)) (by omega)] at c29
            refine zz_iconst C (v := 0) dX1_noGreater_32 (by decide) ?_
            refine E _ _ _ _ dX1_noGreater_33 rfl ⟨rfl, Or.inr ⟨rfl, fun q => q T hT1 hT' c11 c19 (by omega)⟩⟩
  refine zz_iconst C (v := 1) dX1_noGreater_0 (by decide) ?_
  refine zz_istore_n C dX1_noGreater_1 (L' := [_, _, _, _]) rfl ⟨Nat.le_of_ble_eq_true rfl, by decide⟩ ?_
  exact loop 1 (by decide) (by decide) (fun U a1 a2 => absurd a2 (by omega))
theorem M_isClosed (l : Launch) (D : va_G) (h : Nat → Nat) (d : Nat → ClassId) (σ : zzS) {c : Nat → Nat} (hc : cMz c σ) (hcb : ∀ S, c S ≤ 20) {S m : Nat} (hS : S < 256) (hm : m ≤ 20) : zzMi l yX1_isClosed cX1_isClosed 3 .boolean (zR 1 40) D (tM d) (wM h d) (h 0) [.int (nI S), .int (nI m)] σ (fun r σ' => σ' = σ ∧ ((r = 1 ∧ kMz c m S) ∨ (r = 0 ∧ ¬ kMz c m S))) := by
  refine zzMi_of RX1 rfl (by decide) (Nat.le_of_ble_eq_true rfl) rfl (fun Z C E => ?_)
  have hcS := hcb S
  refine zz_aload_n C dX1_isClosed_0 rfl ?_
  refine m_get_counts C dX1_isClosed_1 ?_
  refine zz_iload_n C dX1_isClosed_4 rfl ?_
  refine m_iald C dX1_isClosed_5 rfl S rfl hS ?_
  refine zz_eq _ (hc S hS) ?_
  refine zz_iload_n C dX1_isClosed_6 rfl ?_
  refine zz_icmp_lt C 28 dX1_isClosed_7 (by decide) (fun c7 => ?_) (fun c7 => ?_)
  · rw [nI_ltI (by omega) (by omega)] at c7
    refine zz_iconst C (v := 0) dX1_isClosed_28 (by decide) ?_
    refine E _ _ _ _ dX1_isClosed_29 rfl ⟨rfl, Or.inr ⟨rfl, fun q => absurd q.1 (by omega)⟩⟩
  · rw [nI_ltI (by omega) (by omega)] at c7
    refine zz_aload_n C dX1_isClosed_10 rfl ?_
    refine zz_iload_n C dX1_isClosed_11 rfl ?_
    refine zz_aload_n C dX1_isClosed_12 rfl ?_
    refine m_get_counts C dX1_isClosed_13 ?_
    refine zz_iload_n C dX1_isClosed_16 rfl ?_
    refine m_iald C dX1_isClosed_17 rfl S rfl hS ?_
    refine zz_eq _ (hc S hS) ?_
    refine zz_calli C (M_noGreater l D h d σ hc hcb hS (v := c S) (hcb S)) rfl rfl rfl q225 q227 qs16 q20 q228 (nA := 2) (by decide +kernel) rfl ⟨rfl, rfl, by decide, by decide⟩ rfl (Nat.le_of_ble_eq_true rfl) dX1_isClosed_18 (fun r σ1 hp => ?_)
    obtain ⟨rfl, hp⟩ := hp
    refine zz_if_eq C 28 dX1_isClosed_21 (by decide) (fun c21 => ?_) (fun c21 => ?_)
    · rcases hp with ⟨hr, hp⟩ | ⟨hr, hp⟩
      · rw [hr] at c21; exact absurd c21 (by decide)
      · refine zz_iconst C (v := 0) dX1_isClosed_28 (by decide) ?_
        refine E _ _ _ _ dX1_isClosed_29 rfl ⟨rfl, Or.inr ⟨rfl, fun q => hp q.2⟩⟩
    · rcases hp with ⟨hr, hp⟩ | ⟨hr, hp⟩
      · refine zz_iconst C (v := 1) dX1_isClosed_24 (by decide) ?_
        refine zz_goto C 29 dX1_isClosed_25 (by decide) ?_
        refine E _ _ _ _ dX1_isClosed_29 rfl ⟨rfl, Or.inl ⟨rfl, by omega, hp⟩⟩
      · exact absurd hr c21
end
section
set_option maxRecDepth 100000
theorem M_add (l : Launch) (D : va_G) (h : Nat → Nat) (d : Nat → ClassId) (σ : zzS) {n : Nat} {b : Nat → Nat} (hI : IMz n b σ) (a : Int32) : zzMi l yX1_add cX1_add 2 .int (zR 1 40) D (tM d) (wM h d) (h 0) [.int a] σ (fun r σ' => IMz (adN n a) (adB n b a) σ' ∧ r = adR n a) := by
  refine zzMi_of RX1 rfl (by decide) (Nat.le_of_ble_eq_true rfl) rfl (fun Z C E => ?_)
  have hn := hI.1
  unfold adN adB adR at E
  refine zz_aload_n C dX1_add_0 rfl ?_
  refine m_get_n C dX1_add_1 ?_
  refine zz_eq _ hI.2.1 ?_
  refine zz_bipush C (v := 20) dX1_add_4 (by decide) ?_
  refine zz_icmp_ne C 12 dX1_add_6 (by decide) (fun c6 => ?_) (fun c6 => ?_)
  · rw [zz_20, nI_eq (by omega) (by decide)] at c6
    rw [if_neg (show ¬ 20 ≤ n by omega), if_neg (show ¬ 20 ≤ n by omega), if_neg (show ¬ 20 ≤ n by omega)] at E
    refine zz_aload_n C dX1_add_12 rfl ?_
    refine zz_iload_n C dX1_add_13 rfl ?_
    refine zz_calli C (M_isSet l D h d σ a) rfl rfl rfl q193 q195 qs12 q20 q196 (nA := 1) (by decide +kernel) rfl ⟨rfl, rfl, by decide, by decide⟩ rfl (Nat.le_of_ble_eq_true rfl) dX1_add_14 (fun r σ1 hp => ?_)
    obtain ⟨rfl, rfl⟩ := hp
    refine zz_if_ne C 22 dX1_add_17 (by decide) (fun c17 => ?_) (fun c17 => ?_)
    · have hs := zz_ifne c17
      rw [if_pos hs, if_pos hs, if_pos hs] at E
      obtain ⟨S, hS, rfl⟩ := zz_set hs
      rw [nI_clamp (by omega)] at E
      refine zz_aload_n C dX1_add_22 rfl ?_
      refine m_get_baskets C dX1_add_23 ?_
      refine zz_aload_n C dX1_add_26 rfl ?_
      refine m_get_n C dX1_add_27 ?_
      refine zz_eq _ hI.2.1 ?_
      refine zz_iload_n C dX1_add_30 rfl ?_
      refine m_iast C dX1_add_31 rfl n rfl (by omega) rfl (fun σ2 e2 => ?_)
      refine zz_aload_n C dX1_add_32 rfl ?_
      refine zz_dup C dX1_add_33 rfl ?_
      refine m_get_n C dX1_add_34 ?_
      refine zz_eq (nI n) (by rw [e2]; exact hI.2.1) ?_
      refine zz_iconst C (v := 1) dX1_add_37 (by decide) ?_
      refine zz_iadd C dX1_add_38 ?_
      refine zz_eq _ (nI_1 n) ?_
      refine m_put_n C dX1_add_39 (fun σ3 e3 => ?_)
      refine zz_aload_n C dX1_add_42 rfl ?_
      refine m_get_n C dX1_add_43 ?_
      refine zz_eq (nI (n + 1)) (by rw [e3]; exact zzu_ss _ _ _ _) ?_
      refine E _ _ _ _ dX1_add_46 rfl ⟨⟨by omega, by rw [e3]; exact zzu_ss _ _ _ _, fun k hk => ?_⟩, rfl⟩
      subst e3
      subst e2
      show _ ∧ (zzu σ1 1 n (nI S)) 1 k = _
      rcases Nat.decEq k n with e | e
      · rw [updN_n _ _ e, zzu_sn _ _ _ _ e]
        exact hI.2.2 k (by omega)
      · subst e
        rw [updN_s, zzu_ss]
        exact ⟨hS, rfl⟩
    · have hs := zz_ifeq c17
      rw [if_neg hs, if_neg hs, if_neg hs] at E
      refine zz_iconst C (v := (-1)) dX1_add_20 (by decide) ?_
      refine E _ _ _ _ dX1_add_21 rfl ⟨hI, rfl⟩
  · rw [zz_20, nI_eq (by omega) (by decide)] at c6
    rw [if_pos (show 20 ≤ n by omega), if_pos (show 20 ≤ n by omega), if_pos (show 20 ≤ n by omega)] at E
    refine zz_bipush C (v := (-2)) dX1_add_9 (by decide) ?_
    refine E _ _ _ _ dX1_add_11 rfl ⟨hI, rfl⟩
theorem M_drop (l : Launch) (D : va_G) (h : Nat → Nat) (d : Nat → ClassId) (σ : zzS) {n : Nat} {b : Nat → Nat} (hI : IMz n b σ) : zzMi l yX1_drop cX1_drop 2 .int (zR 0 0) D (tM d) (wM h d) (h 0) [] σ (fun r σ' => IMz (drN n) (drB n b) σ' ∧ r = drR n) := by
  refine zzMi_of RX1 rfl (by decide) (Nat.le_of_ble_eq_true rfl) rfl (fun Z C E => ?_)
  have hn := hI.1
  unfold drN drB drR at E
  refine zz_aload_n C dX1_drop_0 rfl ?_
  refine m_get_n C dX1_drop_1 ?_
  refine zz_eq _ hI.2.1 ?_
  refine zz_if_ne C 10 dX1_drop_4 (by decide) (fun c4 => ?_) (fun c4 => ?_)
  · rw [zz_0, nI_eq (by omega) (by decide)] at c4
    rw [if_neg c4, if_neg c4] at E
    have loop : ∀ k, k ≤ n - 1 → ∀ σ, σ 0 0 = nI n → (∀ j, j < k → σ 1 j = nI (b (j + 1))) → (∀ j, k ≤ j → j < n → σ 1 j = nI (b j)) → Z σ 12 [.ref (h 0), .int (nI k)] [] := by
      refine zz_lp (n - 1) (fun k hk next σ h0 h1 h2 => ?_)
      refine zz_iload_n C dX1_drop_12 rfl ?_
      refine zz_aload_n C dX1_drop_13 rfl ?_
      refine m_get_n C dX1_drop_14 ?_
      refine zz_eq _ h0 ?_
      refine zz_iconst C (v := 1) dX1_drop_17 (by decide) ?_
      refine zz_isub C dX1_drop_18 ?_
      refine zz_eq _ (zi_pred (by omega)) ?_
      refine zz_icmp_ge C 42 dX1_drop_19 (by decide) (fun c19 => ?_) (fun c19 => ?_)
      · rw [zi_le (by omega) (by omega)] at c19
        refine zz_aload_n C dX1_drop_42 rfl ?_
        refine zz_dup C dX1_drop_43 rfl ?_
        refine m_get_n C dX1_drop_44 ?_
        refine zz_eq _ h0 ?_
        refine zz_iconst C (v := 1) dX1_drop_47 (by decide) ?_
        refine zz_isub C dX1_drop_48 ?_
        refine zz_eq _ (zi_pred (by omega)) ?_
        refine m_put_n C dX1_drop_49 (fun σ1 e1 => ?_)
        refine zz_aload_n C dX1_drop_52 rfl ?_
        refine m_get_n C dX1_drop_53 ?_
        refine zz_eq (nI (n - 1)) (by rw [e1]; exact zzu_ss _ _ _ _) ?_
        refine E _ _ _ _ dX1_drop_56 rfl ⟨⟨by omega, by rw [e1]; exact zzu_ss _ _ _ _, fun j hj => ⟨(hI.2.2 (j + 1) (by omega)).1, by subst e1; exact h1 j (by omega)⟩⟩, rfl⟩
      · rw [zi_le (by omega) (by omega)] at c19
        refine zz_aload_n C dX1_drop_22 rfl ?_
        refine m_get_baskets C dX1_drop_23 ?_
        refine zz_iload_n C dX1_drop_26 rfl ?_
        refine zz_aload_n C dX1_drop_27 rfl ?_
        refine m_get_baskets C dX1_drop_28 ?_
        refine zz_iload_n C dX1_drop_31 rfl ?_
        refine zz_iconst C (v := 1) dX1_drop_32 (by decide) ?_
        refine zz_iadd C dX1_drop_33 ?_
        refine zz_eq _ (nI_1 k) ?_
        refine m_iald C dX1_drop_34 rfl (k + 1) rfl (by omega) ?_
        refine zz_eq _ (h2 (k + 1) (by omega) (by omega)) ?_
        refine m_iast C dX1_drop_35 rfl k rfl (by omega) rfl (fun σ1 e1 => ?_)
        refine zz_iinc C dX1_drop_36 rfl (zz_inc1 _) (L' := [_, _]) rfl (by decide) ?_
        refine zz_goto C 12 dX1_drop_39 (by decide) ?_
        subst e1
        refine next (by omega) _ h0 (fun j hj => ?_) (fun j a1 a2 => ?_)
        · rcases Nat.decEq j k with e | e
          · rw [zzu_sn _ _ _ _ e]; exact h1 j (by omega)
          · subst e; exact zzu_ss _ _ _ _
        · rw [zzu_sn _ _ _ _ (by omega)]; exact h2 j (by omega) a2
    refine zz_iconst C (v := 0) dX1_drop_10 (by decide) ?_
    refine zz_istore_n C dX1_drop_11 (L' := [_, _]) rfl ⟨Nat.le_of_ble_eq_true rfl, by decide⟩ ?_
    exact loop 0 (Nat.zero_le _) σ hI.2.1 (fun j hj => absurd hj (by omega)) (fun j _ hj => (hI.2.2 j hj).2)
  · rw [zz_0, nI_eq (by omega) (by decide)] at c4
    rw [if_pos c4, if_pos c4] at E
    refine zz_bipush C (v := (-3)) dX1_drop_7 (by decide) ?_
    refine E _ _ _ _ dX1_drop_9 rfl ⟨⟨by omega, by rw [hI.2.1, c4], fun k hk => absurd hk (by omega)⟩, rfl⟩
theorem M_count (l : Launch) (D : va_G) (h : Nat → Nat) (d : Nat → ClassId) (σ : zzS) {n : Nat} {b : Nat → Nat} (hI : IMz n b σ) (a : Int32) : zzMi l yX1_count cX1_count 2 .int (zR 1 40) D (tM d) (wM h d) (h 0) [.int a] σ (fun r σ' => IMz n b σ' ∧ r = setz a (fun S => nI (cz b n S))) := by
  refine zzMi_of RX1 rfl (by decide) (Nat.le_of_ble_eq_true rfl) rfl (fun Z C E => ?_)
  refine zz_aload_n C dX1_count_0 rfl ?_
  refine zz_iload_n C dX1_count_1 rfl ?_
  refine zz_calli C (M_isSet l D h d σ a) rfl rfl rfl q193 q195 qs12 q20 q196 (nA := 1) (by decide +kernel) rfl ⟨rfl, rfl, by decide, by decide⟩ rfl (Nat.le_of_ble_eq_true rfl) dX1_count_2 (fun r σ1 hp => ?_)
  obtain ⟨rfl, rfl⟩ := hp
  refine zz_if_ne C 10 dX1_count_5 (by decide) (fun c5 => ?_) (fun c5 => ?_)
  · obtain ⟨S, hS, rfl⟩ := zz_set (zz_ifne c5)
    refine zz_aload_n C dX1_count_10 rfl ?_
    refine zz_callv C (M_countAll l D h d _ hI) rfl rfl rfl q205 q207 qs13 q20 q208 (nA := 0) (by decide +kernel) rfl ⟨rfl, rfl, by decide, by decide⟩ rfl (Nat.le_of_ble_eq_true rfl) dX1_count_11 (fun σ2 hp2 => ?_)
    refine zz_aload_n C dX1_count_14 rfl ?_
    refine m_get_counts C dX1_count_15 ?_
    refine zz_iload_n C dX1_count_18 rfl ?_
    refine m_iald C dX1_count_19 rfl S rfl hS ?_
    refine E _ _ _ _ dX1_count_20 rfl ⟨hp2.1, by rw [setz_t hS]; exact hp2.2 S hS⟩
  · refine zz_iconst C (v := (-1)) dX1_count_8 (by decide) ?_
    refine E _ _ _ _ dX1_count_9 rfl ⟨hI, (setz_f (zz_ifeq c5) _).symm⟩
theorem M_frequent (l : Launch) (D : va_G) (h : Nat → Nat) (d : Nat → ClassId) (σ : zzS) {n : Nat} {b : Nat → Nat} (hI : IMz n b σ) (a : Int32) : zzMi l yX1_frequent cX1_frequent 4 .int (zR 1 40) D (tM d) (wM h d) (h 0) [.int a] σ (fun r σ' => IMz n b σ' ∧ r = levz a (fun m => nI (cFz (fun S => m ≤ cz b n S) 256))) := by
  refine zzMi_of RX1 rfl (by decide) (Nat.le_of_ble_eq_true rfl) rfl (fun Z C E => ?_)
  have hcb : ∀ S, cz b n S ≤ 20 := fun S => Nat.le_trans (cz_le b n S) hI.1
  refine zz_aload_n C dX1_frequent_0 rfl ?_
  refine zz_iload_n C dX1_frequent_1 rfl ?_
  refine zz_calli C (M_isLevel l D h d σ a) rfl rfl rfl q213 q215 qs14 q20 q216 (nA := 1) (by decide +kernel) rfl ⟨rfl, rfl, by decide, by decide⟩ rfl (Nat.le_of_ble_eq_true rfl) dX1_frequent_2 (fun r σ1 hp => ?_)
  obtain ⟨rfl, rfl⟩ := hp
  refine zz_if_ne C 10 dX1_frequent_5 (by decide) (fun c5 => ?_) (fun c5 => ?_)
  · obtain ⟨m, hm1, hm2, rfl⟩ := zz_lev (zz_ifne c5)
    refine zz_aload_n C dX1_frequent_10 rfl ?_
    refine zz_callv C (M_countAll l D h d _ hI) rfl rfl rfl q205 q207 qs13 q20 q208 (nA := 0) (by decide +kernel) rfl ⟨rfl, rfl, by decide, by decide⟩ rfl (Nat.le_of_ble_eq_true rfl) dX1_frequent_11 (fun σ2 hp2 => ?_)
    obtain ⟨hI2, hc⟩ := hp2
    have loop : ∀ S, S ≤ 256 → 1 ≤ S → ∀ v, v = nI (cFz (fun S => m ≤ cz b n S) S) → Z σ2 18 [.ref (h 0), .int (nI m), .int v, .int (nI S)] [] := by
      refine zz_lp 256 (fun S hS next hS1 v hv => ?_)
      subst hv
      refine zz_iload_n C dX1_frequent_18 rfl ?_
      refine zz_sipush C (v := 256) dX1_frequent_19 (by decide) ?_
      refine zz_icmp_ge C 44 dX1_frequent_22 (by decide) (fun c22 => ?_) (fun c22 => ?_)
      · refine zz_iload_n C dX1_frequent_44 rfl ?_
        refine E _ _ _ _ dX1_frequent_45 rfl ⟨hI2, by rw [levz_t hm1 hm2, zc256 hS c22]⟩
      · have hS' := zc256' hS c22
        have hcS := hcb S
        refine zz_aload_n C dX1_frequent_25 rfl ?_
        refine m_get_counts C dX1_frequent_26 ?_
        refine zz_iload_n C dX1_frequent_29 rfl ?_
        refine m_iald C dX1_frequent_30 rfl S rfl hS' ?_
        refine zz_eq _ (hc S hS') ?_
        refine zz_iload_n C dX1_frequent_31 rfl ?_
        refine zz_icmp_lt C 38 dX1_frequent_32 (by decide) (fun c32 => ?_) (fun c32 => ?_)
        · rw [nI_ltI (by omega) (by omega)] at c32
          refine zz_iinc C dX1_frequent_38 rfl (zz_inc1 _) (L' := [_, _, _, _]) rfl (by decide) ?_
          refine zz_goto C 18 dX1_frequent_41 (by decide) ?_
          exact next hS' (by omega) _ (by rw [cFz_s _ hS1, ibz_f (by omega)]; rfl)
        · rw [nI_ltI (by omega) (by omega)] at c32
          refine zz_iinc C dX1_frequent_35 rfl (zz_inc1 _) (L' := [_, _, _, _]) rfl (by decide) ?_
          refine zz_iinc C dX1_frequent_38 rfl (zz_inc1 _) (L' := [_, _, _, _]) rfl (by decide) ?_
          refine zz_goto C 18 dX1_frequent_41 (by decide) ?_
          exact next hS' (by omega) _ (by rw [cFz_s _ hS1, ibz_t (by omega)])
    refine zz_iconst C (v := 0) dX1_frequent_14 (by decide) ?_
    refine zz_istore_n C dX1_frequent_15 (L' := [_, _, _]) rfl ⟨Nat.le_of_ble_eq_true rfl, by decide⟩ ?_
    refine zz_iconst C (v := 1) dX1_frequent_16 (by decide) ?_
    refine zz_istore_n C dX1_frequent_17 (L' := [_, _, _, _]) rfl ⟨Nat.le_of_ble_eq_true rfl, by decide⟩ ?_
    exact loop 1 (by decide) (by decide) 0 (by rw [cFz_1]; rfl)
  · refine zz_iconst C (v := (-1)) dX1_frequent_8 (by decide) ?_
    refine E _ _ _ _ dX1_frequent_9 rfl ⟨hI, (levz_f (zz_ifeq c5) _).symm⟩
theorem M_closed (l : Launch) (D : va_G) (h : Nat → Nat) (d : Nat → ClassId) (σ : zzS) {n : Nat} {b : Nat → Nat} (hI : IMz n b σ) (a : Int32) : zzMi l yX1_closed cX1_closed 4 .int (zR 2 80) D (tM d) (wM h d) (h 0) [.int a] σ (fun r σ' => IMz n b σ' ∧ r = levz a (fun m => nI (cFz (kMz (cz b n) m) 256))) := by
  refine zzMi_of RX1 rfl (by decide) (Nat.le_of_ble_eq_true rfl) rfl (fun Z C E => ?_)
  have hcb : ∀ S, cz b n S ≤ 20 := fun S => Nat.le_trans (cz_le b n S) hI.1
  refine zz_aload_n C dX1_closed_0 rfl ?_
  refine zz_iload_n C dX1_closed_1 rfl ?_
  refine zz_calli C (M_isLevel l D h d σ a) rfl rfl rfl q213 q215 qs14 q20 q216 (nA := 1) (by decide +kernel) rfl ⟨rfl, rfl, by decide, by decide⟩ rfl (Nat.le_of_ble_eq_true rfl) dX1_closed_2 (fun r σ1 hp => ?_)
  obtain ⟨rfl, rfl⟩ := hp
  refine zz_if_ne C 10 dX1_closed_5 (by decide) (fun c5 => ?_) (fun c5 => ?_)
  · obtain ⟨m, hm1, hm2, rfl⟩ := zz_lev (zz_ifne c5)
    refine zz_aload_n C dX1_closed_10 rfl ?_
    refine zz_callv C (M_countAll l D h d _ hI) rfl rfl rfl q205 q207 qs13 q20 q208 (nA := 0) (by decide +kernel) rfl ⟨rfl, rfl, by decide, by decide⟩ rfl (Nat.le_of_ble_eq_true rfl) dX1_closed_11 (fun σ2 hp2 => ?_)
    obtain ⟨hI2, hc⟩ := hp2
    have loop : ∀ S, S ≤ 256 → 1 ≤ S → ∀ v, v = nI (cFz (kMz (cz b n) m) S) → Z σ2 18 [.ref (h 0), .int (nI m), .int v, .int (nI S)] [] := by
      refine zz_lp 256 (fun S hS next hS1 v hv => ?_)
      subst hv
      refine zz_iload_n C dX1_closed_18 rfl ?_
      refine zz_sipush C (v := 256) dX1_closed_19 (by decide) ?_
      refine zz_icmp_ge C 43 dX1_closed_22 (by decide) (fun c22 => ?_) (fun c22 => ?_)
      · refine zz_iload_n C dX1_closed_43 rfl ?_
        refine E _ _ _ _ dX1_closed_44 rfl ⟨hI2, by rw [levz_t hm1 hm2, zc256 hS c22]⟩
      · have hS' := zc256' hS c22
        refine zz_aload_n C dX1_closed_25 rfl ?_
        refine zz_iload_n C dX1_closed_26 rfl ?_
        refine zz_iload_n C dX1_closed_27 rfl ?_
        refine zz_calli C (M_isClosed l D h d σ2 hc hcb hS' hm2) rfl rfl rfl q221 q223 qs15 q20 q224 (nA := 2) (by decide +kernel) rfl ⟨rfl, rfl, by decide, by decide⟩ rfl (Nat.le_of_ble_eq_true rfl) dX1_closed_28 (fun r σ3 hp => ?_)
        obtain ⟨rfl, hp⟩ := hp
        refine zz_if_eq C 37 dX1_closed_31 (by decide) (fun c31 => ?_) (fun c31 => ?_)
        · rcases hp with ⟨hr, hp⟩ | ⟨hr, hp⟩
          · rw [hr] at c31; exact absurd c31 (by decide)
          · refine zz_iinc C dX1_closed_37 rfl (zz_inc1 _) (L' := [_, _, _, _]) rfl (by decide) ?_
            refine zz_goto C 18 dX1_closed_40 (by decide) ?_
            exact next hS' (by omega) _ (by rw [cFz_s _ hS1, ibz_f hp]; rfl)
        · rcases hp with ⟨hr, hp⟩ | ⟨hr, hp⟩
          · refine zz_iinc C dX1_closed_34 rfl (zz_inc1 _) (L' := [_, _, _, _]) rfl (by decide) ?_
            refine zz_iinc C dX1_closed_37 rfl (zz_inc1 _) (L' := [_, _, _, _]) rfl (by decide) ?_
            refine zz_goto C 18 dX1_closed_40 (by decide) ?_
            exact next hS' (by omega) _ (by rw [cFz_s _ hS1, ibz_t hp])
          · exact absurd hr c31
    refine zz_iconst C (v := 0) dX1_closed_14 (by decide) ?_
    refine zz_istore_n C dX1_closed_15 (L' := [_, _, _]) rfl ⟨Nat.le_of_ble_eq_true rfl, by decide⟩ ?_
    refine zz_iconst C (v := 1) dX1_closed_16 (by decide) ?_
    refine zz_istore_n C dX1_closed_17 (L' := [_, _, _, _]) rfl ⟨Nat.le_of_ble_eq_true rfl, by decide⟩ ?_
    exact loop 1 (by decide) (by decide) 0 (by rw [cFz_1]; rfl)
  · refine zz_iconst C (v := (-1)) dX1_closed_8 (by decide) ?_
    refine E _ _ _ _ dX1_closed_9 rfl ⟨hI, (levz_f (zz_ifeq c5) _).symm⟩
theorem M_largest (l : Launch) (D : va_G) (h : Nat → Nat) (d : Nat → ClassId) (σ : zzS) {n : Nat} {b : Nat → Nat} (hI : IMz n b σ) (a : Int32) : zzMi l yX1_largest cX1_largest 4 .int (zR 1 40) D (tM d) (wM h d) (h 0) [.int a] σ (fun r σ' => IMz n b σ' ∧ r = levz a (fun m => nI (cFz (gMz (cz b n) m) 256))) := by
  refine zzMi_of RX1 rfl (by decide) (Nat.le_of_ble_eq_true rfl) rfl (fun Z C E => ?_)
  have hcb : ∀ S, cz b n S ≤ 20 := fun S => Nat.le_trans (cz_le b n S) hI.1
  refine zz_aload_n C dX1_largest_0 rfl ?_
  refine zz_iload_n C dX1_largest_1 rfl ?_
  refine zz_calli C (M_isLevel l D h d σ a) rfl rfl rfl q213 q215 qs14 q20 q216 (nA := 1) (by decide +kernel) rfl ⟨rfl, rfl, by decide, by decide⟩ rfl (Nat.le_of_ble_eq_true rfl) dX1_largest_2 (fun r σ1 hp => ?_)
  obtain ⟨rfl, rfl⟩ := hp
  refine zz_if_ne C 10 dX1_largest_5 (by decide) (fun c5 => ?_) (fun c5 => ?_)
  · obtain ⟨m, hm1, hm2, rfl⟩ := zz_lev (zz_ifne c5)
    refine zz_aload_n C dX1_largest_10 rfl ?_
    refine zz_callv C (M_countAll l D h d _ hI) rfl rfl rfl q205 q207 qs13 q20 q208 (nA := 0) (by decide +kernel) rfl ⟨rfl, rfl, by decide, by decide⟩ rfl (Nat.le_of_ble_eq_true rfl) dX1_largest_11 (fun σ2 hp2 => ?_)
    obtain ⟨hI2, hc⟩ := hp2
    have loop : ∀ S, S ≤ 256 → 1 ≤ S → ∀ v, v = nI (cFz (gMz (cz b n) m) S) → Z σ2 18 [.ref (h 0), .int (nI m), .int v, .int (nI S)] [] := by
      refine zz_lp 256 (fun S hS next hS1 v hv => ?_)
      subst hv
      refine zz_iload_n C dX1_largest_18 rfl ?_
      refine zz_sipush C (v := 256) dX1_largest_19 (by decide) ?_
      refine zz_icmp_ge C 53 dX1_largest_22 (by decide) (fun c22 => ?_) (fun c22 => ?_)
      · refine zz_iload_n C dX1_largest_53 rfl ?_
        refine E _ _ _ _ dX1_largest_54 rfl ⟨hI2, by rw [levz_t hm1 hm2, zc256 hS c22]⟩
      · have hS' := zc256' hS c22
        have hcS := hcb S
        refine zz_aload_n C dX1_largest_25 rfl ?_
        refine m_get_counts C dX1_largest_26 ?_
        refine zz_iload_n C dX1_largest_29 rfl ?_
        refine m_iald C dX1_largest_30 rfl S rfl hS' ?_
        refine zz_eq _ (hc S hS') ?_
        refine zz_iload_n C dX1_largest_31 rfl ?_
        refine zz_icmp_lt C 47 dX1_largest_32 (by decide) (fun c32 => ?_) (fun c32 => ?_)
        · rw [nI_ltI (by omega) (by omega)] at c32
          refine zz_iinc C dX1_largest_47 rfl (zz_inc1 _) (L' := [_, _, _, _]) rfl (by decide) ?_
          refine zz_goto C 18 dX1_largest_50 (by decide) ?_
          exact next hS' (by omega) _ (by rw [cFz_s _ hS1, ibz_f (fun q => absurd q.1 (by omega))]; rfl)
        · rw [nI_ltI (by omega) (by omega)] at c32
          refine zz_aload_n C dX1_largest_35 rfl ?_
          refine zz_iload_n C dX1_largest_36 rfl ?_
          refine zz_iload_n C dX1_largest_37 rfl ?_
          refine zz_calli C (M_noGreater l D h d σ2 hc hcb hS' hm2) rfl rfl rfl q225 q227 qs16 q20 q228 (nA := 2) (by decide +kernel) rfl ⟨rfl, rfl, by decide, by decide⟩ rfl (Nat.le_of_ble_eq_true rfl) dX1_largest_38 (fun r σ3 hp => ?_)
          obtain ⟨rfl, hp⟩ := hp
          refine zz_if_eq C 47 dX1_largest_41 (by decide) (fun c41 => ?_) (fun c41 => ?_)
          · rcases hp with ⟨hr, hp⟩ | ⟨hr, hp⟩
            · rw [hr] at c41; exact absurd c41 (by decide)
            · refine zz_iinc C dX1_largest_47 rfl (zz_inc1 _) (L' := [_, _, _, _]) rfl (by decide) ?_
              refine zz_goto C 18 dX1_largest_50 (by decide) ?_
              exact next hS' (by omega) _ (by rw [cFz_s _ hS1, ibz_f (fun q => hp q.2)]; rfl)
          · rcases hp with ⟨hr, hp⟩ | ⟨hr, hp⟩
            · refine zz_iinc C dX1_largest_44 rfl (zz_inc1 _) (L' := [_, _, _, _]) rfl (by decide) ?_
              refine zz_iinc C dX1_largest_47 rfl (zz_inc1 _) (L' := [_, _, _, _]) rfl (by decide) ?_
              refine zz_goto C 18 dX1_largest_50 (by decide) ?_
              exact next hS' (by omega) _ (by rw [cFz_s _ hS1, ibz_t ⟨by omega, hp⟩])
            · exact absurd hr c41
    refine zz_iconst C (v := 0) dX1_largest_14 (by decide) ?_
    refine zz_istore_n C dX1_largest_15 (L' := [_, _, _]) rfl ⟨Nat.le_of_ble_eq_true rfl, by decide⟩ ?_
    refine zz_iconst C (v := 1) dX1_largest_16 (by decide) ?_
    refine zz_istore_n C dX1_largest_17 (L' := [_, _, _, _]) rfl ⟨Nat.le_of_ble_eq_true rfl, by decide⟩ ?_
    exact loop 1 (by decide) (by decide) 0 (by rw [cFz_1]; rfl)
  · refine zz_iconst C (v := (-1)) dX1_largest_8 (by decide) ?_
    refine E _ _ _ _ dX1_largest_9 rfl ⟨hI, (levz_f (zz_ifeq c5) _).symm⟩
theorem M_closedSet (l : Launch) (D : va_G) (h : Nat → Nat) (d : Nat → ClassId) (σ : zzS) {n : Nat} {b : Nat → Nat} (hI : IMz n b σ) (a k : Int32) : zzMi l yX1_closedSet cX1_closedSet 5 .int (zR 2 80) D (tM d) (wM h d) (h 0) [.int a, .int k] σ (fun r σ' => IMz n b σ' ∧ (¬ (1 ≤ a ∧ a ≤ 20) → r = -1) ∧ (∀ m, 1 ≤ m → m ≤ 20 → a = nI m → ksz (kMz (cz b n) m) k r)) := by
  refine zzMi_of RX1 rfl (by decide) (Nat.le_of_ble_eq_true rfl) rfl (fun Z C E => ?_)
  have hcb : ∀ S, cz b n S ≤ 20 := fun S => Nat.le_trans (cz_le b n S) hI.1
  refine zz_aload_n C dX1_closedSet_0 rfl ?_
  refine zz_iload_n C dX1_closedSet_1 rfl ?_
  refine zz_calli C (M_isLevel l D h d σ a) rfl rfl rfl q213 q215 qs14 q20 q216 (nA := 1) (by decide +kernel) rfl ⟨rfl, rfl, by decide, by decide⟩ rfl (Nat.le_of_ble_eq_true rfl) dX1_closedSet_2 (fun r σ1 hp => ?_)
  obtain ⟨rfl, rfl⟩ := hp
  refine zz_if_ne C 10 dX1_closedSet_5 (by decide) (fun c5 => ?_) (fun c5 => ?_)
  · have hlv := zz_ifne c5
    obtain ⟨m, hm1, hm2, rfl⟩ := zz_lev hlv
    have fin : ∀ σ' r, IMz n b σ' → ksz (kMz (cz b n) m) k r → IMz n b σ' ∧ (¬ (1 ≤ nI m ∧ nI m ≤ 20) → r = -1) ∧ (∀ m', 1 ≤ m' → m' ≤ 20 → nI m = nI m' → ksz (kMz (cz b n) m') k r) := fun σ' r g1 g2 => ⟨g1, fun q => absurd hlv q, fun m' a1 a2 a3 => by
      rw [nI_eq (by omega) (by omega)] at a3
      subst a3; exact g2⟩
    refine zz_aload_n C dX1_closedSet_10 rfl ?_
    refine zz_callv C (M_countAll l D h d _ hI) rfl rfl rfl q205 q207 qs13 q20 q208 (nA := 0) (by decide +kernel) rfl ⟨rfl, rfl, by decide, by decide⟩ rfl (Nat.le_of_ble_eq_true rfl) dX1_closedSet_11 (fun σ2 hp2 => ?_)
    obtain ⟨hI2, hc⟩ := hp2
    have loop : ∀ S, S ≤ 256 → 1 ≤ S → (∀ T, 1 ≤ T → T < S → kMz (cz b n) m T → k ≠ nI (cFz (kMz (cz b n) m) T)) → ∀ v, v = nI (cFz (kMz (cz b n) m) S) → Z σ2 19 [.ref (h 0), .int (nI m), .int k, .int v, .int (nI S)] [] := by
      refine zz_lp 256 (fun S hS next hS1 hno v hv => ?_)
      subst hv
      refine zz_iload C dX1_closedSet_19 rfl ?_
      refine zz_sipush C (v := 256) dX1_closedSet_21 (by decide) ?_
      refine zz_icmp_ge C 54 dX1_closedSet_24 (by decide) (fun c24 => ?_) (fun c24 => ?_)
      · refine zz_bipush C (v := (-3)) dX1_closedSet_54 (by decide) ?_
        refine E _ _ _ _ dX1_closedSet_56 rfl (fin _ _ hI2 (Or.inr ⟨fun T a1 a2 a3 => hno T a1 (by have := zc256 hS c24; omega) a3, rfl⟩))
      · have hS' := zc256' hS c24
        refine zz_aload_n C dX1_closedSet_27 rfl ?_
        refine zz_iload C dX1_closedSet_28 rfl ?_
        refine zz_iload_n C dX1_closedSet_30 rfl ?_
        refine zz_calli C (M_isClosed l D h d σ2 hc hcb hS' hm2) rfl rfl rfl q221 q223 qs15 q20 q224 (nA := 2) (by decide +kernel) rfl ⟨rfl, rfl, by decide, by decide⟩ rfl (Nat.le_of_ble_eq_true rfl) dX1_closedSet_31 (fun r σ3 hp => ?_)
        obtain ⟨rfl, hp⟩ := hp
        refine zz_if_eq C 48 dX1_closedSet_34 (by decide) (fun c34 => ?_) (fun c34 => ?_)
        · rcases hp with ⟨hr, hp⟩ | ⟨hr, hp⟩
          · rw [hr] at c34; exact absurd c34 (by decide)
          · refine zz_iinc C dX1_closedSet_48 rfl (zz_inc1 _) (L' := [_, _, _, _, _]) rfl (by decide) ?_
            refine zz_goto C 19 dX1_closedSet_51 (by decide) ?_
            refine next hS' (by omega) (fun T a1 a2 a3 => ?_) _ (by rw [cFz_s _ hS1, ibz_f hp]; rfl)
            rcases Nat.lt_or_ge T S with q | q
            · exact hno T a1 q a3
            · rw [show T = S by omega] at a3; exact absurd a3 hp
        · rcases hp with ⟨hr, hp⟩ | ⟨hr, hp⟩
          · refine zz_iload_n C dX1_closedSet_37 rfl ?_
            refine zz_iload_n C dX1_closedSet_38 rfl ?_
            refine zz_icmp_ne C 45 dX1_closedSet_39 (by decide) (fun c39 => ?_) (fun c39 => ?_)
            · refine zz_iinc C dX1_closedSet_45 rfl (zz_inc1 _) (L' := [_, _, _, _, _]) rfl (by decide) ?_
              refine zz_iinc C dX1_closedSet_48 rfl (zz_inc1 _) (L' := [_, _, _, _, _]) rfl (by decide) ?_
              refine zz_goto C 19 dX1_closedSet_51 (by decide) ?_
              refine next hS' (by omega) (fun T a1 a2 a3 => ?_) _ (by rw [cFz_s _ hS1, ibz_t hp])
              rcases Nat.lt_or_ge T S with q | q
              · exact hno T a1 q a3
              · rw [show T = S by omega]; exact fun z => c39 z.symm
            · refine zz_iload C dX1_closedSet_42 rfl ?_
              refine E _ _ _ _ dX1_closedSet_44 rfl (fin _ _ hI2 (Or.inl ⟨S, hS1, hS', hp, c39.symm, rfl⟩))
          · exact absurd hr c34
    refine zz_iconst C (v := 0) dX1_closedSet_14 (by decide) ?_
    refine zz_istore_n C dX1_closedSet_15 (L' := [_, _, _, _]) rfl ⟨Nat.le_of_ble_eq_true rfl, by decide⟩ ?_
    refine zz_iconst C (v := 1) dX1_closedSet_16 (by decide) ?_
    refine zz_istore C dX1_closedSet_17 (L' := [_, _, _, _, _]) rfl ⟨Nat.le_of_ble_eq_true rfl, by decide⟩ ?_
    exact loop 1 (by decide) (by decide) (fun T a1 a2 => absurd a2 (by omega)) 0 (by rw [cFz_1]; rfl)
  · have hlv := zz_ifeq c5
    refine zz_iconst C (v := (-1)) dX1_closedSet_8 (by decide) ?_
    refine E _ _ _ _ dX1_closedSet_9 rfl ⟨hI, fun _ => rfl, fun m a1 a2 a3 => absurd (by rw [a3]; exact zz_lev' a1 a2) hlv⟩
end
section
set_option maxRecDepth 100000
theorem M_closure (l : Launch) (D : va_G) (h : Nat → Nat) (d : Nat → ClassId) (σ : zzS) {n : Nat} {b : Nat → Nat} (hI : IMz n b σ) (a : Int32) : zzMi l yX1_closure cX1_closure 5 .int (zR 1 40) D (tM d) (wM h d) (h 0) [.int a] σ (fun r σ' => IMz n b σ' ∧ (¬ (0 ≤ a ∧ a ≤ 255) → r = -1) ∧ (∀ S, S < 256 → a = nI S → clz b n S r)) := by
  refine zzMi_of RX1 rfl (by decide) (Nat.le_of_ble_eq_true rfl) rfl (fun Z C E => ?_)
  have hn := hI.1
  refine zz_aload_n C dX1_closure_0 rfl ?_
  refine zz_iload_n C dX1_closure_1 rfl ?_
  refine zz_calli C (M_isSet l D h d σ a) rfl rfl rfl q193 q195 qs12 q20 q196 (nA := 1) (by decide +kernel) rfl ⟨rfl, rfl, by decide, by decide⟩ rfl (Nat.le_of_ble_eq_true rfl) dX1_closure_2 (fun r σ1 hp => ?_)
  obtain ⟨rfl, rfl⟩ := hp
  refine zz_if_ne C 10 dX1_closure_5 (by decide) (fun c5 => ?_) (fun c5 => ?_)
  · have hst := zz_ifne c5
    obtain ⟨S, hS, rfl⟩ := zz_set hst
    have fin : ∀ r, clz b n S r → IMz n b σ1 ∧ (¬ (0 ≤ nI S ∧ nI S ≤ 255) → r = -1) ∧ (∀ S', S' < 256 → nI S = nI S' → clz b n S' r) := fun r g => ⟨hI, fun q => absurd hst q, fun S' a1 a3 => by
      rw [nI_eq (by omega) (by omega)] at a3
      subst a3; exact g⟩
    have loop : ∀ k, k ≤ n → ∀ Cm v, Cm < 256 → (∀ t, t < 8 → (Cm.testBit t = true ↔ ∀ j, j < k → suz S (b j) → (b j).testBit t = true)) → ((v = 0 ∧ ∀ j, j < k → ¬ suz S (b j)) ∨ (v = 1 ∧ ∃ j, j < k ∧ suz S (b j))) → Z σ1 19 [.ref (h 0), .int (nI S), .int (nI Cm), .int v, .int (nI k)] [] := by
      refine zz_lp n (fun k hk next Cm v hC hbits hv => ?_)
      refine zz_iload C dX1_closure_19 rfl ?_
      refine zz_aload_n C dX1_closure_21 rfl ?_
      refine m_get_n C dX1_closure_22 ?_
      refine zz_eq _ hI.2.1 ?_
      refine zz_icmp_ge C 60 dX1_closure_25 (by decide) (fun c25 => ?_) (fun c25 => ?_)
      · rw [zi_le (by omega) (by omega)] at c25
        have hkn : k = n := by omega
        subst hkn
        refine zz_iload_n C dX1_closure_60 rfl ?_
        refine zz_if_eq C 68 dX1_closure_61 (by decide) (fun c61 => ?_) (fun c61 => ?_)
        · rcases hv with ⟨hv, hv2⟩ | ⟨hv, -⟩
          · refine zz_bipush C (v := (-3)) dX1_closure_68 (by decide) ?_
            refine E _ _ _ _ dX1_closure_70 rfl (fin _ (Or.inl ⟨cz_zero hv2, rfl⟩))
          · rw [hv] at c61; exact absurd c61 (by decide)
        · rcases hv with ⟨hv, -⟩ | ⟨hv, hv2⟩
          · exact absurd hv c61
          · refine zz_iload_n C dX1_closure_64 rfl ?_
            refine zz_goto C 70 dX1_closure_65 (by decide) ?_
            refine E _ _ _ _ dX1_closure_70 rfl (fin _ (Or.inr ⟨cz_pos hv2, Cm, hC, rfl, fun t ht => (hbits t ht).trans cl_iff.symm⟩))
      · rw [zi_le (by omega) (by omega)] at c25
        have hk' : k < n := by omega
        have hbk := hI.2.2 k hk'
        refine zz_iload_n C dX1_closure_28 rfl ?_
        refine zz_aload_n C dX1_closure_29 rfl ?_
        refine m_get_baskets C dX1_closure_30 ?_
        refine zz_iload C dX1_closure_33 rfl ?_
        refine m_iald C dX1_closure_35 rfl k rfl (by omega) ?_
        refine zz_eq (nI (b k)) hbk.2 ?_
        refine zz_iconst C (v := (-1)) dX1_closure_36 (by decide) ?_
        refine zz_ixor C dX1_closure_37 ?_
        refine zz_iand C dX1_closure_38 ?_
        refine zz_if_ne C 54 dX1_closure_39 (by decide) (fun c39 => ?_) (fun c39 => ?_)
        · rw [zi_sub hS] at c39
          refine zz_iinc C dX1_closure_54 rfl (zz_inc1 _) (L' := [_, _, _, _, _]) rfl (by decide) ?_
          refine zz_goto C 19 dX1_closure_57 (by decide) ?_
          refine next hk' Cm v hC (fun t ht => (hbits t ht).trans ⟨fun q j hj hs => ?_, fun q j hj hs => q j (by omega) hs⟩) ?_
          · rcases Nat.lt_or_ge j k with e | e
            · exact q j e hs
            · rw [show j = k by omega] at hs; exact absurd hs c39
          · rcases hv with ⟨hv, hv2⟩ | ⟨hv, j, hj, hs⟩
            · refine Or.inl ⟨hv, fun j hj hs => ?_⟩
              rcases Nat.lt_or_ge j k with e | e
              · exact hv2 j e hs
              · rw [show j = k by omega] at hs; exact c39 hs
            · exact Or.inr ⟨hv, j, by omega, hs⟩
        · rw [zi_sub hS] at c39
          refine zz_iload_n C dX1_closure_42 rfl ?_
          refine zz_aload_n C dX1_closure_43 rfl ?_
          refine m_get_baskets C dX1_closure_44 ?_
          refine zz_iload C dX1_closure_47 rfl ?_
          refine m_iald C dX1_closure_49 rfl k rfl (by omega) ?_
          refine zz_eq (nI (b k)) hbk.2 ?_
          refine zz_iand C dX1_closure_50 ?_
          refine zz_eq _ (zi_and Cm (b k)) ?_
          refine zz_istore_n C dX1_closure_51 (L' := [_, _, _, _, _]) rfl ⟨Nat.le_of_ble_eq_true rfl, by decide⟩ ?_
          refine zz_iconst C (v := 1) dX1_closure_52 (by decide) ?_
          refine zz_istore_n C dX1_closure_53 (L' := [_, _, _, _, _]) rfl ⟨Nat.le_of_ble_eq_true rfl, by decide⟩ ?_
          refine zz_iinc C dX1_closure_54 rfl (zz_inc1 _) (L' := [_, _, _, _, _]) rfl (by decide) ?_
          refine zz_goto C 19 dX1_closure_57 (by decide) ?_
          refine next hk' (Cm &&& b k) 1 (Nat.lt_of_le_of_lt Nat.and_le_left hC) (fun t ht => ?_) (Or.inr ⟨rfl, k, by omega, c39⟩)
          rw [Nat.testBit_and, Bool.and_eq_true, hbits t ht]
          constructor
          · intro q j hj hs
            rcases Nat.lt_or_ge j k with e | e
            · exact q.1 j e hs
            · rw [show j = k by omega]; exact q.2
          · exact fun q => ⟨fun j hj hs => q j (by omega) hs, q k (by omega) c39⟩
    refine zz_sipush C (v := 255) dX1_closure_10 (by decide) ?_
    refine zz_istore_n C dX1_closure_13 (L' := [_, _, _]) rfl ⟨Nat.le_of_ble_eq_true rfl, by decide⟩ ?_
    refine zz_iconst C (v := 0) dX1_closure_14 (by decide) ?_
    refine zz_istore_n C dX1_closure_15 (L' := [_, _, _, _]) rfl ⟨Nat.le_of_ble_eq_true rfl, by decide⟩ ?_
    refine zz_iconst C (v := 0) dX1_closure_16 (by decide) ?_
    refine zz_istore C dX1_closure_17 (L' := [_, _, _, _, _]) rfl ⟨Nat.le_of_ble_eq_true rfl, by decide⟩ ?_
    refine loop 0 (Nat.zero_le n) 255 0 (by decide) (fun t ht => ⟨fun _ j hj => absurd hj (by omega), fun _ => ?_⟩) (Or.inl ⟨rfl, fun j hj => absurd hj (by omega)⟩)
    rw [show (255 : Nat) = 2 ^ 8 - 1 from rfl, Nat.testBit_two_pow_sub_one, decide_eq_true ht]
  · have hst := zz_ifeq c5
    refine zz_iconst C (v := (-1)) dX1_closure_8 (by decide) ?_
    refine E _ _ _ _ dX1_closure_9 rfl ⟨hI, fun _ => rfl, fun S a1 a3 => absurd (by rw [a3]; exact zz_set' a1) hst⟩
theorem M_widest (l : Launch) (D : va_G) (h : Nat → Nat) (d : Nat → ClassId) (σ : zzS) {n : Nat} {b : Nat → Nat} (hI : IMz n b σ) (a : Int32) : zzMi l yX1_widest cX1_widest 4 .int (zR 1 40) D (tM d) (wM h d) (h 0) [.int a] σ (fun r σ' => IMz n b σ' ∧ r = levz a (fun m => nI (wzz (cz b n) m 256))) := by
  refine zzMi_of RX1 rfl (by decide) (Nat.le_of_ble_eq_true rfl) rfl (fun Z C E => ?_)
  have hcb : ∀ S, cz b n S ≤ 20 := fun S => Nat.le_trans (cz_le b n S) hI.1
  refine zz_aload_n C dX1_widest_0 rfl ?_
  refine zz_iload_n C dX1_widest_1 rfl ?_
  refine zz_calli C (M_isLevel l D h d σ a) rfl rfl rfl q213 q215 qs14 q20 q216 (nA := 1) (by decide +kernel) rfl ⟨rfl, rfl, by decide, by decide⟩ rfl (Nat.le_of_ble_eq_true rfl) dX1_widest_2 (fun r σ1 hp => ?_)
  obtain ⟨rfl, rfl⟩ := hp
  refine zz_if_ne C 10 dX1_widest_5 (by decide) (fun c5 => ?_) (fun c5 => ?_)
  · obtain ⟨m, hm1, hm2, rfl⟩ := zz_lev (zz_ifne c5)
    refine zz_aload_n C dX1_widest_10 rfl ?_
    refine zz_callv C (M_countAll l D h d _ hI) rfl rfl rfl q205 q207 qs13 q20 q208 (nA := 0) (by decide +kernel) rfl ⟨rfl, rfl, by decide, by decide⟩ rfl (Nat.le_of_ble_eq_true rfl) dX1_widest_11 (fun σ2 hp2 => ?_)
    obtain ⟨hI2, hc⟩ := hp2
    have loop : ∀ S, S ≤ 256 → 1 ≤ S → ∀ v, v = nI (wzz (cz b n) m S) → Z σ2 18 [.ref (h 0), .int (nI m), .int v, .int (nI S)] [] := by
      refine zz_lp 256 (fun S hS next hS1 v hv => ?_)
      subst hv
      refine zz_iload_n C dX1_widest_18 rfl ?_
      refine zz_sipush C (v := 256) dX1_widest_19 (by decide) ?_
      refine zz_icmp_ge C 56 dX1_widest_22 (by decide) (fun c22 => ?_) (fun c22 => ?_)
      · refine zz_iload_n C dX1_widest_56 rfl ?_
        refine E _ _ _ _ dX1_widest_57 rfl ⟨hI2, by rw [levz_t hm1 hm2, zc256 hS c22]⟩
      · have hS' := zc256' hS c22
        have hcS := hcb S
        have hw := wzz_le (cz b n) m S
        have hs := szz_le S
        refine zz_aload_n C dX1_widest_25 rfl ?_
        refine m_get_counts C dX1_widest_26 ?_
        refine zz_iload_n C dX1_widest_29 rfl ?_
        refine m_iald C dX1_widest_30 rfl S rfl hS' ?_
        refine zz_eq _ (hc S hS') ?_
        refine zz_iload_n C dX1_widest_31 rfl ?_
        refine zz_icmp_lt C 50 dX1_widest_32 (by decide) (fun c32 => ?_) (fun c32 => ?_)
        · rw [nI_ltI (by omega) (by omega)] at c32
          refine zz_iinc C dX1_widest_50 rfl (zz_inc1 _) (L' := [_, _, _, _]) rfl (by decide) ?_
          refine zz_goto C 18 dX1_widest_53 (by decide) ?_
          exact next hS' (by omega) _ (by rw [wzz_f (fun q => absurd q.1 (by omega))])
        · rw [nI_ltI (by omega) (by omega)] at c32
          refine zz_aload_n C dX1_widest_35 rfl ?_
          refine zz_iload_n C dX1_widest_36 rfl ?_
          refine zz_calli C (M_sizeOf l D h d σ2 hS') rfl rfl rfl q245 q247 qs17 q20 q248 (nA := 1) (by decide +kernel) rfl ⟨rfl, rfl, by decide, by decide⟩ rfl (Nat.le_of_ble_eq_true rfl) dX1_widest_37 (fun r σ3 hp => ?_)
          obtain ⟨rfl, rfl⟩ := hp
          refine zz_iload_n C dX1_widest_40 rfl ?_
          refine zz_icmp_le C 50 dX1_widest_41 (by decide) (fun c41 => ?_) (fun c41 => ?_)
          · rw [zi_le (by omega) (by omega)] at c41
            refine zz_iinc C dX1_widest_50 rfl (zz_inc1 _) (L' := [_, _, _, _]) rfl (by decide) ?_
            refine zz_goto C 18 dX1_widest_53 (by decide) ?_
            exact next hS' (by omega) _ (by rw [wzz_f (fun q => absurd q.2 (by omega))])
          · rw [zi_le (by omega) (by omega)] at c41
            refine zz_aload_n C dX1_widest_44 rfl ?_
            refine zz_iload_n C dX1_widest_45 rfl ?_
            refine zz_calli C (M_sizeOf l D h d _ hS') rfl rfl rfl q245 q247 qs17 q20 q248 (nA := 1) (by decide +kernel) rfl ⟨rfl, rfl, by decide, by decide⟩ rfl (Nat.le_of_ble_eq_true rfl) dX1_widest_46 (fun r σ4 hp => ?_)
            obtain ⟨rfl, rfl⟩ := hp
            refine zz_istore_n C dX1_widest_49 (L' := [_, _, _, _]) rfl ⟨Nat.le_of_ble_eq_true rfl, by decide⟩ ?_
            refine zz_iinc C dX1_widest_50 rfl (zz_inc1 _) (L' := [_, _, _, _]) rfl (by decide) ?_
            refine zz_goto C 18 dX1_widest_53 (by decide) ?_
            exact next hS' (by omega) _ (by rw [wzz_t hS1 (by omega) (by omega)])
    refine zz_iconst C (v := 0) dX1_widest_14 (by decide) ?_
    refine zz_istore_n C dX1_widest_15 (L' := [_, _, _]) rfl ⟨Nat.le_of_ble_eq_true rfl, by decide⟩ ?_
    refine zz_iconst C (v := 1) dX1_widest_16 (by decide) ?_
    refine zz_istore_n C dX1_widest_17 (L' := [_, _, _, _]) rfl ⟨Nat.le_of_ble_eq_true rfl, by decide⟩ ?_
    exact loop 1 (by decide) (by decide) 0 (by rw [wzz_1]; rfl)
  · refine zz_iconst C (v := (-1)) dX1_widest_8 (by decide) ?_
    refine E _ _ _ _ dX1_widest_9 rfl ⟨hI, (levz_f (zz_ifeq c5) _).symm⟩
theorem M_rules (l : Launch) (D : va_G) (h : Nat → Nat) (d : Nat → ClassId) (σ : zzS) {n : Nat} {b : Nat → Nat} (hI : IMz n b σ) (a p : Int32) : zzMi l yX1_rules cX1_rules 7 .int (zR 1 40) D (tM d) (wM h d) (h 0) [.int a, .int p] σ (fun r σ' => IMz n b σ' ∧ r = rulz a p (fun m q => nI (ruM (cz b n) m q 256))) := by
  refine zzMi_of RX1 rfl (by decide) (Nat.le_of_ble_eq_true rfl) rfl (fun Z C E => ?_)
  have hcb : ∀ S, cz b n S ≤ 20 := fun S => Nat.le_trans (cz_le b n S) hI.1
  refine zz_aload_n C dX1_rules_0 rfl ?_
  refine zz_iload_n C dX1_rules_1 rfl ?_
  refine zz_calli C (M_isLevel l D h d σ a) rfl rfl rfl q213 q215 qs14 q20 q216 (nA := 1) (by decide +kernel) rfl ⟨rfl, rfl, by decide, by decide⟩ rfl (Nat.le_of_ble_eq_true rfl) dX1_rules_2 (fun r σ1 hp => ?_)
  obtain ⟨rfl, rfl⟩ := hp
  refine zz_if_eq C 18 dX1_rules_5 (by decide) (fun c5 => ?_) (fun c5 => ?_)
  · have hlv := zz_ifeq c5
    refine zz_iconst C (v := (-1)) dX1_rules_18 (by decide) ?_
    refine E _ _ _ _ dX1_rules_19 rfl ⟨hI, (rulz_f (fun q => hlv q.1) _).symm⟩
  · have hlv := zz_ifne c5
    refine zz_iload_n C dX1_rules_8 rfl ?_
    refine zz_if_lt C 18 dX1_rules_9 (by decide) (fun c9 => ?_) (fun c9 => ?_)
    · refine zz_iconst C (v := (-1)) dX1_rules_18 (by decide) ?_
      refine E _ _ _ _ dX1_rules_19 rfl ⟨hI, (rulz_f (fun q => Int32.not_lt.mpr q.2.1 c9) _).symm⟩
    · refine zz_iload_n C dX1_rules_12 rfl ?_
      refine zz_bipush C (v := 100) dX1_rules_13 (by decide) ?_
      refine zz_icmp_le C 20 dX1_rules_15 (by decide) (fun c15 => ?_) (fun c15 => ?_)
      · obtain ⟨m, hm1, hm2, rfl⟩ := zz_lev hlv
        obtain ⟨q, hq, rfl⟩ := zz_pct ⟨zi_nlt c9, c15⟩
        refine zz_aload_n C dX1_rules_20 rfl ?_
        refine zz_callv C (M_countAll l D h d _ hI) rfl rfl rfl q205 q207 qs13 q20 q208 (nA := 0) (by decide +kernel) rfl ⟨rfl, rfl, by decide, by decide⟩ rfl (Nat.le_of_ble_eq_true rfl) dX1_rules_21 (fun σ2 hp2 => ?_)
        obtain ⟨hI2, hc⟩ := hp2
        have outer : ∀ F, F ≤ 256 → 1 ≤ F → ∀ v, v = nI (ruM (cz b n) m q F) → Z σ2 29 [.ref (h 0), .int (nI m), .int (nI q), .int v, .int (nI F)] [] := by
          refine zz_lp 256 (fun F hF next hF1 v hv => ?_)
          subst hv
          refine zz_iload C dX1_rules_29 rfl ?_
          refine zz_sipush C (v := 256) dX1_rules_31 (by decide) ?_
          refine zz_icmp_ge C 106 dX1_rules_34 (by decide) (fun c34 => ?_) (fun c34 => ?_)
          · refine zz_iload_n C dX1_rules_106 rfl ?_
            refine E _ _ _ _ dX1_rules_107 rfl ⟨hI2, by rw [rulz_t hm1 hm2 hq, zc256 hF c34]⟩
          · have hF' := zc256' hF c34
            have hcF := hcb F
            have inner : ∀ G, G ≤ 256 → 1 ≤ G → ∀ v, v = nI (ruM (cz b n) m q F + rMz (cz b n) m q F G) → Z σ2 40 [.ref (h 0), .int (nI m), .int (nI q), .int v, .int (nI F), .int (nI G)] [] := by
              refine zz_lp 256 (fun G hG nxt hG1 v hv => ?_)
              subst hv
              refine zz_iload C dX1_rules_40 rfl ?_
              refine zz_sipush C (v := 256) dX1_rules_42 (by decide) ?_
              refine zz_icmp_ge C 100 dX1_rules_45 (by decide) (fun c45 => ?_) (fun c45 => ?_)
              · refine zz_iinc C dX1_rules_100 rfl (zz_inc1 _) (L' := [_, _, _, _, _, _]) rfl (by decide) ?_
                refine zz_goto C 29 dX1_rules_103 (by decide) ?_
                refine zz_take C 5 (L' := [_, _, _, _, _]) rfl ?_
                exact next hF' (by omega) _ (by rw [ruM_s _ _ _ hF1, zc256 hG c45])
              · have hG' := zc256' hG c45
                have hFG := or_lt2 hF' hG'
                have hcFG := hcb (F ||| G)
                have hq1 : q * cz b n F ≤ 100 * 20 := Nat.mul_le_mul hq hcF
                have go : ¬ (F &&& G = 0 ∧ m ≤ cz b n (F ||| G) ∧ q * cz b n F ≤ 100 * cz b n (F ||| G)) → ∀ x, Z σ2 94 [.ref (h 0), .int (nI m), .int (nI q), .int (nI (ruM (cz b n) m q F + rMz (cz b n) m q F G)), .int (nI F), .int (nI G), .int x] [] := by
                  intro hh x
                  refine zz_iinc C dX1_rules_94 rfl (zz_inc1 _) (L' := [_, _, _, _, _, _, _]) rfl (by decide) ?_
                  refine zz_goto C 40 dX1_rules_97 (by decide) ?_
                  refine zz_take C 6 (L' := [_, _, _, _, _, _]) rfl ?_
                  exact nxt hG' (by omega) _ (by rw [rMz_s _ _ _ _ hG1, ibz_f hh]; rfl)
                refine zz_aload_n C dX1_rules_48 rfl ?_
                refine m_get_counts C dX1_rules_49 ?_
                refine zz_iload C dX1_rules_52 rfl ?_
                refine zz_iload C dX1_rules_54 rfl ?_
                refine zz_ior C dX1_rules_56 ?_
                refine zz_eq _ (zi_or F G) ?_
                refine m_iald C dX1_rules_57 rfl (F ||| G) rfl hFG ?_
                refine zz_eq _ (hc (F ||| G) hFG) ?_
                refine zz_istore C dX1_rules_58 (L' := [_, _, _, _, _, _, _]) rfl ⟨Nat.le_of_ble_eq_true rfl, by decide⟩ ?_
                refine zz_iload C dX1_rules_60 rfl ?_
                refine zz_iload C dX1_rules_62 rfl ?_
                refine zz_iand C dX1_rules_64 ?_
                refine zz_eq _ (zi_and F G) ?_
                refine zz_if_ne C 94 dX1_rules_65 (by decide) (fun c65 => ?_) (fun c65 => ?_)
                · rw [zz_0, nI_eq (Nat.lt_of_le_of_lt Nat.and_le_left (by omega)) (by decide)] at c65
                  exact go (fun z => c65 z.1) _
                · rw [zz_0, nI_eq (Nat.lt_of_le_of_lt Nat.and_le_left (by omega)) (by decide)] at c65
                  refine zz_iload C dX1_rules_68 rfl ?_
                  refine zz_iload_n C dX1_rules_70 rfl ?_
                  refine zz_icmp_lt C 94 dX1_rules_71 (by decide) (fun c71 => ?_) (fun c71 => ?_)
                  · rw [nI_ltI (by omega) (by omega)] at c71
                    exact go (fun z => absurd z.2.1 (by omega)) _
                  · rw [nI_ltI (by omega) (by omega)] at c71
                    refine zz_bipush C (v := 100) dX1_rules_74 (by decide) ?_
                    refine zz_iload C dX1_rules_76 rfl ?_
                    refine zz_imul C dX1_rules_78 ?_
                    refine zz_eq (nI (100 * cz b n (F ||| G))) (by rw [zz_100, pk_mul]) ?_
                    refine zz_iload_n C dX1_rules_79 rfl ?_
                    refine zz_aload_n C dX1_rules_80 rfl ?_
                    refine m_get_counts C dX1_rules_81 ?_
                    refine zz_iload C dX1_rules_84 rfl ?_
                    refine m_iald C dX1_rules_86 rfl F rfl hF' ?_
                    refine zz_eq _ (hc F hF') ?_
                    refine zz_imul C dX1_rules_87 ?_
                    refine zz_eq _ (pk_mul q (cz b n F)) ?_
                    refine zz_icmp_lt C 94 dX1_rules_88 (by decide) (fun c88 => ?_) (fun c88 => ?_)
                    · rw [nI_ltI (by omega) (by omega)] at c88
                      exact go (fun z => absurd z.2.2 (by omega)) _
                    · rw [nI_ltI (by omega) (by omega)] at c88
                      refine zz_iinc C dX1_rules_91 rfl (zz_inc1 _) (L' := [_, _, _, _, _, _, _]) rfl (by decide) ?_
                      refine zz_iinc C dX1_rules_94 rfl (zz_inc1 _) (L' := [_, _, _, _, _, _, _]) rfl (by decide) ?_
                      refine zz_goto C 40 dX1_rules_97 (by decide) ?_
                      refine zz_take C 6 (L' := [_, _, _, _, _, _]) rfl ?_
                      exact nxt hG' (by omega) _ (by rw [rMz_s _ _ _ _ hG1, ibz_t ⟨c65, by omega, by omega⟩]; rfl)
            refine zz_iconst C (v := 1) dX1_rules_37 (by decide) ?_
            refine zz_istore C dX1_rules_38 (L' := [_, _, _, _, _, _]) rfl ⟨Nat.le_of_ble_eq_true rfl, by decide⟩ ?_
            exact inner 1 (by decide) (by decide) _ (by unfold rMz; rw [cFz_1]; rfl)
        refine zz_iconst C (v := 0) dX1_rules_24 (by decide) ?_
        refine zz_istore_n C dX1_rules_25 (L' := [_, _, _, _]) rfl ⟨Nat.le_of_ble_eq_true rfl, by decide⟩ ?_
        refine zz_iconst C (v := 1) dX1_rules_26 (by decide) ?_
        refine zz_istore C dX1_rules_27 (L' := [_, _, _, _, _]) rfl ⟨Nat.le_of_ble_eq_true rfl, by decide⟩ ?_
        exact outer 1 (by decide) (by decide) 0 (by rw [ruM_1]; rfl)
      · refine zz_iconst C (v := (-1)) dX1_rules_18 (by decide) ?_
        refine E _ _ _ _ dX1_rules_19 rfl ⟨hI, (rulz_f (fun q => c15 q.2.2) _).symm⟩
theorem M_companion (l : Launch) (D : va_G) (h : Nat → Nat) (d : Nat → ClassId) (σ : zzS) {n : Nat} {b : Nat → Nat} (hI : IMz n b σ) (a : Int32) : zzMi l yX1_companion cX1_companion 5 .int (zR 1 40) D (tM d) (wM h d) (h 0) [.int a] σ (fun r σ' => IMz n b σ' ∧ r = comz a (cmpz (cz b n))) := by
  refine zzMi_of RX1 rfl (by decide) (Nat.le_of_ble_eq_true rfl) rfl (fun Z C E => ?_)
  have hcb : ∀ S, cz b n S ≤ 20 := fun S => Nat.le_trans (cz_le b n S) hI.1
  refine zz_iload_n C dX1_companion_0 rfl ?_
  refine zz_iconst C (v := 1) dX1_companion_1 (by decide) ?_
  refine zz_icmp_lt C 12 dX1_companion_2 (by decide) (fun c2 => ?_) (fun c2 => ?_)
  · refine zz_iconst C (v := (-1)) dX1_companion_12 (by decide) ?_
    refine E _ _ _ _ dX1_companion_13 rfl ⟨hI, (comz_f (fun q => Int32.not_lt.mpr q.1 c2) _).symm⟩
  · refine zz_iload_n C dX1_companion_5 rfl ?_
    refine zz_sipush C (v := 255) dX1_companion_6 (by decide) ?_
    refine zz_icmp_le C 14 dX1_companion_9 (by decide) (fun c9 => ?_) (fun c9 => ?_)
    · obtain ⟨S, hS1, hS, rfl⟩ := zz_com ⟨zi_nlt c2, c9⟩
      have hcS := hcb S
      refine zz_aload_n C dX1_companion_14 rfl ?_
      refine zz_callv C (M_countAll l D h d _ hI) rfl rfl rfl q205 q207 qs13 q20 q208 (nA := 0) (by decide +kernel) rfl ⟨rfl, rfl, by decide, by decide⟩ rfl (Nat.le_of_ble_eq_true rfl) dX1_companion_15 (fun σ2 hp2 => ?_)
      obtain ⟨hI2, hc⟩ := hp2
      have no : (cz b n S = 0 ∨ S = 255) → Z σ2 34 [.ref (h 0), .int (nI S)] [] := by
        intro hno
        refine zz_bipush C (v := (-3)) dX1_companion_34 (by decide) ?_
        refine E _ _ _ _ dX1_companion_36 rfl ⟨hI2, by rw [comz_t hS1 hS]; unfold cmpz; rw [if_pos hno]⟩
      refine zz_aload_n C dX1_companion_18 rfl ?_
      refine m_get_counts C dX1_companion_19 ?_
      refine zz_iload_n C dX1_companion_22 rfl ?_
      refine m_iald C dX1_companion_23 rfl S rfl hS ?_
      refine zz_eq _ (hc S hS) ?_
      refine zz_if_eq C 34 dX1_companion_24 (by decide) (fun c24 => ?_) (fun c24 => ?_)
      · rw [zz_0, nI_eq (by omega) (by decide)] at c24
        exact no (Or.inl c24)
      · rw [zz_0, nI_eq (by omega) (by decide)] at c24
        refine zz_iload_n C dX1_companion_27 rfl ?_
        refine zz_sipush C (v := 255) dX1_companion_28 (by decide) ?_
        refine zz_icmp_ne C 37 dX1_companion_31 (by decide) (fun c31 => ?_) (fun c31 => ?_)
        · rw [zz_255, nI_eq (by omega) (by decide)] at c31
          have loop : ∀ t, t ≤ 8 → ∀ v, v = bstz (cmz (cz b n) S t) → Z σ2 41 [.ref (h 0), .int (nI S), .int v, .int (nI t)] [] := by
            refine zz_lp 8 (fun t ht next v hv => ?_)
            refine zz_iload_n C dX1_companion_41 rfl ?_
            refine zz_bipush C (v := 8) dX1_companion_42 (by decide) ?_
            refine zz_icmp_ge C 105 dX1_companion_44 (by decide) (fun c44 => ?_) (fun c44 => ?_)
            · refine zz_iload_n C dX1_companion_105 rfl ?_
              refine E _ _ _ _ dX1_companion_106 rfl ⟨hI2, ?_⟩
              rw [comz_t hS1 hS]; unfold cmpz
              rw [if_neg (fun q => q.elim c24 c31), hv, zc8 ht c44]
              cases hm : cmz (cz b n) S 8 with
              | none => exact absurd (full_255 hS (cmz_none _ _ _ hm)) c31
              | some u => rfl
            · have ht' := zc8' ht c44
              refine zz_iload_n C dX1_companion_47 rfl ?_
              refine zz_iload_n C dX1_companion_48 rfl ?_
              refine zz_ishr C dX1_companion_49 ?_
              refine zz_iconst C (v := 1) dX1_companion_50 (by decide) ?_
              refine zz_iand C dX1_companion_51 ?_
              refine zz_eq (nI (if S.testBit t = true then 1 else 0)) (zi_bit hS ht') ?_
              refine zz_if_ne C 59 dX1_companion_52 (by decide) (fun c52 => ?_) (fun c52 => ?_)
              · have hbt := zi_bne c52
                refine zz_iconst C (v := 0) dX1_companion_59 (by decide) ?_
                refine zz_istore C dX1_companion_60 (L' := [_, _, _, _, _]) rfl ⟨Nat.le_of_ble_eq_true rfl, by decide⟩ ?_
                refine zz_iload C dX1_companion_62 rfl ?_
                refine zz_if_eq C 99 dX1_companion_64 (by decide) (fun c64 => ?_) (fun c64 => ?_)
                · refine zz_iinc C dX1_companion_99 rfl (zz_inc1 _) (L' := [_, _, _, _, _]) rfl (by decide) ?_
                  refine zz_goto C 41 dX1_companion_102 (by decide) ?_
                  refine zz_take C 4 (L' := [_, _, _, _]) rfl ?_
                  exact next ht' _ (by rw [cmz_bit hbt]; exact hv)
                · exact absurd rfl c64
              · have hbt := zi_be c52
                refine zz_iconst C (v := 1) dX1_companion_55 (by decide) ?_
                refine zz_goto C 60 dX1_companion_56 (by decide) ?_
                refine zz_istore C dX1_companion_60 (L' := [_, _, _, _, _]) rfl ⟨Nat.le_of_ble_eq_true rfl, by decide⟩ ?_
                refine zz_iload C dX1_companion_62 rfl ?_
                refine zz_if_eq C 99 dX1_companion_64 (by decide) (fun c64 => ?_) (fun c64 => ?_)
                · exact absurd c64 (by decide)
                · refine zz_iload_n C dX1_companion_67 rfl ?_
                  cases hm : cmz (cz b n) S t with
                  | none =>
                    rw [hm] at hv
                    have hv : v = -1 := hv
                    subst hv
                    refine zz_if_lt C 97 dX1_companion_68 (by decide) (fun c68 => ?_) (fun c68 => ?_)
                    · refine zz_iload_n C dX1_companion_97 rfl ?_
                      refine zz_istore_n C dX1_companion_98 (L' := [_, _, _, _, _]) rfl ⟨Nat.le_of_ble_eq_true rfl, by decide⟩ ?_
                      refine zz_iinc C dX1_companion_99 rfl (zz_inc1 _) (L' := [_, _, _, _, _]) rfl (by decide) ?_
                      refine zz_goto C 41 dX1_companion_102 (by decide) ?_
                      refine zz_take C 4 (L' := [_, _, _, _]) rfl ?_
                      exact next ht' _ (by rw [cmz_none1 hbt hm]; rfl)
                    · exact absurd (by decide) c68
                  | some u =>
                    rw [hm] at hv
                    have hv : v = nI u := hv
                    subst hv
                    have hu := cmz_lt _ _ _ _ hm
                    have h1 := hcb (S ||| 2 ^ t)
                    have h2 := hcb (S ||| 2 ^ u)
                    refine zz_if_lt C 97 dX1_companion_68 (by decide) (fun c68 => ?_) (fun c68 => ?_)
                    · exact absurd c68 (nI_pos (by omega))
                    · refine zz_aload_n C dX1_companion_71 rfl ?_
                      refine m_get_counts C dX1_companion_72 ?_
                      refine zz_iload_n C dX1_companion_75 rfl ?_
                      refine zz_iconst C (v := 1) dX1_companion_76 (by decide) ?_
                      refine zz_iload_n C dX1_companion_77 rfl ?_
                      refine zz_ishl C dX1_companion_78 ?_
                      refine zz_ior C dX1_companion_79 ?_
                      refine zz_eq _ (zi_orb ht') ?_
                      refine m_iald C dX1_companion_80 rfl (S ||| 2 ^ t) rfl (or_lt hS ht') ?_
                      refine zz_eq _ (hc _ (or_lt hS ht')) ?_
                      refine zz_aload_n C dX1_companion_81 rfl ?_
                      refine m_get_counts C dX1_companion_82 ?_
                      refine zz_iload_n C dX1_companion_85 rfl ?_
                      refine zz_iconst C (v := 1) dX1_companion_86 (by decide) ?_
                      refine zz_iload_n C dX1_companion_87 rfl ?_
                      refine zz_bipush C (v := 7) dX1_companion_88 (by decide) ?_
                      refine zz_iand C dX1_companion_90 ?_
                      refine zz_eq _ (zi_7 u (by omega)) ?_
                      refine zz_ishl C dX1_companion_91 ?_
                      refine zz_ior C dX1_companion_92 ?_
                      refine zz_eq _ (zi_orb (show u < 8 by omega)) ?_
                      refine m_iald C dX1_companion_93 rfl (S ||| 2 ^ u) rfl (or_lt hS (by omega)) ?_
                      refine zz_eq _ (hc _ (or_lt hS (by omega))) ?_
                      refine zz_icmp_le C 99 dX1_companion_94 (by decide) (fun c94 => ?_) (fun c94 => ?_)
                      · rw [zi_le (by omega) (by omega)] at c94
                        refine zz_iinc C dX1_companion_99 rfl (zz_inc1 _) (L' := [_, _, _, _, _]) rfl (by decide) ?_
                        refine zz_goto C 41 dX1_companion_102 (by decide) ?_
                        refine zz_take C 4 (L' := [_, _, _, _]) rfl ?_
                        exact next ht' _ (by rw [cmz_some hbt hm, if_neg (by omega)]; rfl)
                      · rw [zi_le (by omega) (by omega)] at c94
                        refine zz_iload_n C dX1_companion_97 rfl ?_
                        refine zz_istore_n C dX1_companion_98 (L' := [_, _, _, _, _]) rfl ⟨Nat.le_of_ble_eq_true rfl, by decide⟩ ?_
                        refine zz_iinc C dX1_companion_99 rfl (zz_inc1 _) (L' := [_, _, _, _, _]) rfl (by decide) ?_
                        refine zz_goto C 41 dX1_companion_102 (by decide) ?_
                        refine zz_take C 4 (L' := [_, _, _, _]) rfl ?_
                        exact next ht' _ (by rw [cmz_some hbt hm, if_pos (by omega)]; rfl)
          refine zz_iconst C (v := (-1)) dX1_companion_37 (by decide) ?_
          refine zz_istore_n C dX1_companion_38 (L' := [_, _, _]) rfl ⟨Nat.le_of_ble_eq_true rfl, by decide⟩ ?_
          refine zz_iconst C (v := 0) dX1_companion_39 (by decide) ?_
          refine zz_istore_n C dX1_companion_40 (L' := [_, _, _, _]) rfl ⟨Nat.le_of_ble_eq_true rfl, by decide⟩ ?_
          exact loop 0 (by decide) _ rfl
        · rw [zz_255, nI_eq (by omega) (by decide)] at c31
          exact no (Or.inr c31)
    · refine zz_iconst C (v := (-1)) dX1_companion_12 (by decide) ?_
      refine E _ _ _ _ dX1_companion_13 rfl ⟨hI, (comz_f (fun q => c9 q.2) _).symm⟩
end
section
set_option maxRecDepth 100000
set_option maxHeartbeats 4000000 in
/-- FrequentSets(): the fields' arrays are made, all zero -/
theorem X_init (l : Launch) (D : va_G) (h0 sz : Nat) : Met l yX0_init (ws_ yX0_init cX0_init 1 none) ({ frames := 1, cells := 13, slots := 2419, locals := 12 }) (va_Pc [.ref h0] (fun U => U.heap.size = sz ∧ va_P D zzcl [(h0, .inr (0, [.int 0, .null, .int 0, .int 0, .null, .null, .null, .null, .null, .null, .null, .null, .null, .null, .null, .null]))] U.heap ∧ va_K D zzcl [] U ∧ va_D (fun _ => True) [(h0, .inr (0, [.int 0, .null, .int 0, .int 0, .null, .null, .null, .null, .null, .null, .null, .null, .null, .null, .null, .null]))])) (va_Qv (fun _ : (Nat → Nat) × (Nat → ClassId) => True) (fun u t => u.1 0 = h0 ∧ va_P D zzcl (wX u.1 u.2 (fun _ _ => 0)) t.heap ∧ va_K D zzcl (tX u.2) t ∧ va_D (va_A [(h0, .inr (0, [.int 0, .null, .int 0, .int 0, .null, .null, .null, .null, .null, .null, .null, .null, .null, .null, .null, .null]))] sz) (wX u.1 u.2 (fun _ _ => 0))) (va_A [(h0, .inr (0, [.int 0, .null, .int 0, .int 0, .null, .null, .null, .null, .null, .null, .null, .null, .null, .null, .null, .null]))] sz)) 13 2419 (va_A [(h0, .inr (0, [.int 0, .null, .int 0, .int 0, .null, .null, .null, .null, .null, .null, .null, .null, .null, .null, .null, .null]))] sz) := by
  refine Met.ofW (cc := cX0_init) (maxL := 1) (ret := none) (by decide) rfl ?_
  intro p e s m args below meth c s₁ B hml hv
  obtain ⟨rfl, hsz, hP, hK, hD0⟩ := hv
  have hx := B.exec
  have hb := B.bytes
  have hr := B.returns
  have hts := atoms_spec (ws := ws_ yX0_init cX0_init 1 none) B.pre
  have hts : ∀ w ∈ lw_all, w.before _ s = true := fun w h => hts w (List.mem_cons_of_mem _ h)
  have hown : s.vm.findClass RX0 = some m.cls := findClass_of_methodNamed B.named
  have hlocks := B.notSynchronized
  have hin : meth.name = "<init>" := (name_of_methodNamed B.named B.method).1
  subst hsz
  have hD := hD0.self (sz := s.heap.size)
  generalize hAe : va_A [(h0, .inr (0, [.int 0, .null, .int 0, .int 0, .null, .null, .null, .null, .null, .null, .null, .null, .null, .null, .null, .null]))] s.heap.size = A at hD ⊢
  have hA : ∀ q : Nat, s.heap.size ≤ q → A q := fun q h => by rw [← hAe]; exact Or.inr h
  have hS : va_S A s.heap s.heap [] := va_S.rf
  have hl := lv_entry ([.ref h0]) (n := 1) (Nat.le_of_ble_eq_true rfl)
  rw [lg_entry_eq]
  generalize (lg_sl ([.ref h0]) ++ List.replicate (1 - (lg_sl ([.ref h0])).length) Slot.unset).toArray = ls at hl ⊢
  have hl : lv_has ls 1 [(0, .ref h0)] := hl
  refine lv_aload_n hx hb dX0_init_0 rfl (lv_at hl 0 rfl) ?_
  refine W.objInit hx hb hown (hts _ q26) (hts _ q27) (hts _ q28) rfl (by rw [hml]; exact hl.1) rfl dX0_init_1 (Nat.le_of_ble_eq_true rfl) (Nat.le_of_ble_eq_true rfl) ?_
  refine W.eq (g2 := F0 m 4 ls []) rfl ?_
  refine lv_aload_n hx hb dX0_init_4 rfl (lv_at hl 0 rfl) ?_
  refine lv_bipush (v := 20) hx hb dX0_init_5 (by decide) ?_
  refine va_newa (atype := .short) (ty := .short) (a0 := (20, .inl (fun _ => 0))) hx hb (hts _ q78) rfl hK hP hD hS hA (N' := 20) (fun _ => rfl) (by decide) (by decide) (by decide) (by decide) (by decide) dX0_init_7 (fun a1 k1 H hK hP hD hS => ?_)
  have hP : va_P D zzcl [(h0, .inr (0, [.int 0, .null, .int 0, .int 0, .null, .null, .null, .null, .null, .null, .null, .null, .null, .null, .null, .null])), (a1, .inl (k1, 20, .inl (fun _ => 0)))] H := hP
  have hD : va_D A [(h0, .inr (0, [.int 0, .null, .int 0, .int 0, .null, .null, .null, .null, .null, .null, .null, .null, .null, .null, .null, .null])), (a1, .inl (k1, 20, .inl (fun _ => 0)))] := hD
  have hK : va_K D zzcl [(k1, .short)] s := hK
  refine W.widen (k := 1) (n := 20) (by decide) (by decide) ?_
  refine va_putF (D := D) (ci := 0) (v := .ref a1) (ty := .array .short) (C := RX0) (T := TX0) (N := 16) hx hb hts in_X0 tyX0 tyX0_ok nmX0 hown hK hP hD hS 0 rfl rfl 1 (by decide) (hts _ q30) (fun _ h9 => h9) rfl hin rfl (by decide +kernel) rfl rfl (Nat.le_of_ble_eq_true rfl) dX0_init_9 (fun H locs hP hD hS => ?_)
  have hP : va_P D zzcl [(h0, .inr (0, [.int 0, .ref a1, .int 0, .int 0, .null, .null, .null, .null, .null, .null, .null, .null, .null, .null, .null, .null])), (a1, .inl (k1, 20, .inl (fun _ => 0)))] H := hP
  have hD : va_D A [(h0, .inr (0, [.int 0, .ref a1, .int 0, .int 0, .null, .null, .null, .null, .null, .null, .null, .null, .null, .null, .null, .null])), (a1, .inl (k1, 20, .inl (fun _ => 0)))] := hD
  refine lv_aload_n hx hb dX0_init_12 rfl (lv_at hl 0 rfl) ?_
  refine lv_sipush (v := 161) hx hb dX0_init_13 (by decide) ?_
  refine va_newa (atype := .byte) (ty := .byte) (a0 := (161, .inl (fun _ => 0))) hx hb (hts _ q79) rfl hK hP hD hS hA (N' := 161) (fun _ => rfl) (by decide) (by decide) (by decide) (by decide) (by decide) dX0_init_16 (fun a4 k4 H hK hP hD hS => ?_)
  have hP : va_P D zzcl [(h0, .inr (0, [.int 0, .ref a1, .int 0, .int 0, .null, .null, .null, .null, .null, .null, .null, .null, .null, .null, .null, .null])), (a1, .inl (k1, 20, .inl (fun _ => 0))), (a4, .inl (k4, 161, .inl (fun _ => 0)))] H := hP
  have hD : va_D A [(h0, .inr (0, [.int 0, .ref a1, .int 0, .int 0, .null, .null, .null, .null, .null, .null, .null, .null, .null, .null, .null, .null])), (a1, .inl (k1, 20, .inl (fun _ => 0))), (a4, .inl (k4, 161, .inl (fun _ => 0)))] := hD
  have hK : va_K D zzcl [(k1, .short), (k4, .byte)] s := hK
  refine W.widen (k := 2) (n := 181) (by decide) (by decide) ?_
  refine va_putF (D := D) (ci := 0) (v := .ref a4) (ty := .array .byte) (C := RX0) (T := TX0) (N := 16) hx hb hts in_X0 tyX0 tyX0_ok nmX0 hown hK hP hD hS 0 rfl rfl 4 (by decide) (hts _ q33) (fun _ h9 => h9) rfl hin rfl (by decide +kernel) rfl rfl (Nat.le_of_ble_eq_true rfl) dX0_init_18 (fun H locs hP hD hS => ?_)
  have hP : va_P D zzcl [(h0, .inr (0, [.int 0, .ref a1, .int 0, .int 0, .ref a4, .null, .null, .null, .null, .null, .null, .null, .null, .null, .null, .null])), (a1, .inl (k1, 20, .inl (fun _ => 0))), (a4, .inl (k4, 161, .inl (fun _ => 0)))] H := hP
  have hD : va_D A [(h0, .inr (0, [.int 0, .ref a1, .int 0, .int 0, .ref a4, .null, .null, .null, .null, .null, .null, .null, .null, .null, .null, .null])), (a1, .inl (k1, 20, .inl (fun _ => 0))), (a4, .inl (k4, 161, .inl (fun _ => 0)))] := hD
  refine lv_aload_n hx hb dX0_init_21 rfl (lv_at hl 0 rfl) ?_
  refine lv_sipush (v := 161) hx hb dX0_init_22 (by decide) ?_
  refine va_newa (atype := .byte) (ty := .byte) (a0 := (161, .inl (fun _ => 0))) hx hb (hts _ q79) rfl hK hP hD hS hA (N' := 161) (fun _ => rfl) (by decide) (by decide) (by decide) (by decide) (by decide) dX0_init_25 (fun a5 k5 H hK hP hD hS => ?_)
  have hP : va_P D zzcl [(h0, .inr (0, [.int 0, .ref a1, .int 0, .int 0, .ref a4, .null, .null, .null, .null, .null, .null, .null, .null, .null, .null, .null])), (a1, .inl (k1, 20, .inl (fun _ => 0))), (a4, .inl (k4, 161, .inl (fun _ => 0))), (a5, .inl (k5, 161, .inl (fun _ => 0)))] H := hP
  have hD : va_D A [(h0, .inr (0, [.int 0, .ref a1, .int 0, .int 0, .ref a4, .null, .null, .null, .null, .null, .null, .null, .null, .null, .null, .null])), (a1, .inl (k1, 20, .inl (fun _ => 0))), (a4, .inl (k4, 161, .inl (fun _ => 0))), (a5, .inl (k5, 161, .inl (fun _ => 0)))] := hD
  have hK : va_K D zzcl [(k1, .short), (k4, .byte), (k5, .byte)] s := hK
  refine W.widen (k := 3) (n := 342) (by decide) (by decide) ?_
  refine va_putF (D := D) (ci := 0) (v := .ref a5) (ty := .array .byte) (C := RX0) (T := TX0) (N := 16) hx hb hts in_X0 tyX0 tyX0_ok nmX0 hown hK hP hD hS 0 rfl rfl 5 (by decide) (hts _ q34) (fun _ h9 => h9) rfl hin rfl (by decide +kernel) rfl rfl (Nat.le_of_ble_eq_true rfl) dX0_init_27 (fun H locs hP hD hS => ?_)
  have hP : va_P D zzcl [(h0, .inr (0, [.int 0, .ref a1, .int 0, .int 0, .ref a4, .ref a5, .null, .null, .null, .null, .null, .null, .null, .null, .null, .null])), (a1, .inl (k1, 20, .inl (fun _ => 0))), (a4, .inl (k4, 161, .inl (fun _ => 0))), (a5, .inl (k5, 161, .inl (fun _ => 0)))] H := hP
  have hD : va_D A [(h0, .inr (0, [.int 0, .ref a1, .int 0, .int 0, .ref a4, .ref a5, .null, .null, .null, .null, .null, .null, .null, .null, .null, .null])), (a1, .inl (k1, 20, .inl (fun _ => 0))), (a4, .inl (k4, 161, .inl (fun _ => 0))), (a5, .inl (k5, 161, .inl (fun _ => 0)))] := hD
  refine lv_aload_n hx hb dX0_init_30 rfl (lv_at hl 0 rfl) ?_
  refine lv_sipush (v := 161) hx hb dX0_init_31 (by decide) ?_
  refine va_newa (atype := .short) (ty := .short) (a0 := (161, .inl (fun _ => 0))) hx hb (hts _ q78) rfl hK hP hD hS hA (N' := 161) (fun _ => rfl) (by decide) (by decide) (by decide) (by decide) (by decide) dX0_init_34 (fun a6 k6 H hK hP hD hS => ?_)
  have hP : va_P D zzcl [(h0, .inr (0, [.int 0, .ref a1, .int 0, .int 0, .ref a4, .ref a5, .null, .null, .null, .null, .null, .null, .null, .null, .null, .null])), (a1, .inl (k1, 20, .inl (fun _ => 0))), (a4, .inl (k4, 161, .inl (fun _ => 0))), (a5, .inl (k5, 161, .inl (fun _ => 0))), (a6, .inl (k6, 161, .inl (fun _ => 0)))] H := hP
  have hD : va_D A [(h0, .inr (0, [.int 0, .ref a1, .int 0, .int 0, .ref a4, .ref a5, .null, .null, .null, .null, .null, .null, .null, .null, .null, .null])), (a1, .inl (k1, 20, .inl (fun _ => 0))), (a4, .inl (k4, 161, .inl (fun _ => 0))), (a5, .inl (k5, 161, .inl (fun _ => 0))), (a6, .inl (k6, 161, .inl (fun _ => 0)))] := hD
  have hK : va_K D zzcl [(k1, .short), (k4, .byte), (k5, .byte), (k6, .short)] s := hK
  refine W.widen (k := 4) (n := 503) (by decide) (by decide) ?_
  refine va_putF (D := D) (ci := 0) (v := .ref a6) (ty := .array .short) (C := RX0) (T := TX0) (N := 16) hx hb hts in_X0 tyX0 tyX0_ok nmX0 hown hK hP hD hS 0 rfl rfl 6 (by decide) (hts _ q35) (fun _ h9 => h9) rfl hin rfl (by decide +kernel) rfl rfl (Nat.le_of_ble_eq_true rfl) dX0_init_36 (fun H locs hP hD hS => ?_)
  have hP : va_P D zzcl [(h0, .inr (0, [.int 0, .ref a1, .int 0, .int 0, .ref a4, .ref a5, .ref a6, .null, .null, .null, .null, .null, .null, .null, .null, .null])), (a1, .inl (k1, 20, .inl (fun _ => 0))), (a4, .inl (k4, 161, .inl (fun _ => 0))), (a5, .inl (k5, 161, .inl (fun _ => 0))), (a6, .inl (k6, 161, .inl (fun _ => 0)))] H := hP
  have hD : va_D A [(h0, .inr (0, [.int 0, .ref a1, .int 0, .int 0, .ref a4, .ref a5, .ref a6, .null, .null, .null, .null, .null, .null, .null, .null, .null])), (a1, .inl (k1, 20, .inl (fun _ => 0))), (a4, .inl (k4, 161, .inl (fun _ => 0))), (a5, .inl (k5, 161, .inl (fun _ => 0))), (a6, .inl (k6, 161, .inl (fun _ => 0)))] := hD
  refine lv_aload_n hx hb dX0_init_39 rfl (lv_at hl 0 rfl) ?_
  refine lv_sipush (v := 161) hx hb dX0_init_40 (by decide) ?_
  refine va_newa (atype := .short) (ty := .short) (a0 := (161, .inl (fun _ => 0))) hx hb (hts _ q78) rfl hK hP hD hS hA (N' := 161) (fun _ => rfl) (by decide) (by decide) (by decide) (by decide) (by decide) dX0_init_43 (fun a7 k7 H hK hP hD hS => ?_)
  have hP : va_P D zzcl [(h0, .inr (0, [.int 0, .ref a1, .int 0, .int 0, .ref a4, .ref a5, .ref a6, .null, .null, .null, .null, .null, .null, .null, .null, .null])), (a1, .inl (k1, 20, .inl (fun _ => 0))), (a4, .inl (k4, 161, .inl (fun _ => 0))), (a5, .inl (k5, 161, .inl (fun _ => 0))), (a6, .inl (k6, 161, .inl (fun _ => 0))), (a7, .inl (k7, 161, .inl (fun _ => 0)))] H := hP
  have hD : va_D A [(h0, .inr (0, [.int 0, .ref a1, .int 0, .int 0, .ref a4, .ref a5, .ref a6, .null, .null, .null, .null, .null, .null, .null, .null, .null])), (a1, .inl (k1, 20, .inl (fun _ => 0))), (a4, .inl (k4, 161, .inl (fun _ => 0))), (a5, .inl (k5, 161, .inl (fun _ => 0))), (a6, .inl (k6, 161, .inl (fun _ => 0))), (a7, .inl (k7, 161, .inl (fun _ => 0)))] := hD
  have hK : va_K D zzcl [(k1, .short), (k4, .byte), (k5, .byte), (k6, .short), (k7, .short)] s := hK
  refine W.widen (k := 5) (n := 664) (by decide) (by decide) ?_
  refine va_putF (D := D) (ci := 0) (v := .ref a7) (ty := .array .short) (C := RX0) (T := TX0) (N := 16) hx hb hts in_X0 tyX0 tyX0_ok nmX0 hown hK hP hD hS 0 rfl rfl 7 (by decide) (hts _ q36) (fun _ h9 => h9) rfl hin rfl (by decide +kernel) rfl rfl (Nat.le_of_ble_eq_true rfl) dX0_init_45 (fun H locs hP hD hS => ?_)
  have hP : va_P D zzcl [(h0, .inr (0, [.int 0, .ref a1, .int 0, .int 0, .ref a4, .ref a5, .ref a6, .ref a7, .null, .null, .null, .null, .null, .null, .null, .null])), (a1, .inl (k1, 20, .inl (fun _ => 0))), (a4, .inl (k4, 161, .inl (fun _ => 0))), (a5, .inl (k5, 161, .inl (fun _ => 0))), (a6, .inl (k6, 161, .inl (fun _ => 0))), (a7, .inl (k7, 161, .inl (fun _ => 0)))] H := hP
  have hD : va_D A [(h0, .inr (0, [.int 0, .ref a1, .int 0, .int 0, .ref a4, .ref a5, .ref a6, .ref a7, .null, .null, .null, .null, .null, .null, .null, .null])), (a1, .inl (k1, 20, .inl (fun _ => 0))), (a4, .inl (k4, 161, .inl (fun _ => 0))), (a5, .inl (k5, 161, .inl (fun _ => 0))), (a6, .inl (k6, 161, .inl (fun _ => 0))), (a7, .inl (k7, 161, .inl (fun _ => 0)))] := hD
  refine lv_aload_n hx hb dX0_init_48 rfl (lv_at hl 0 rfl) ?_
  refine lv_bipush (v := 8) hx hb dX0_init_49 (by decide) ?_
  refine va_newa (atype := .short) (ty := .short) (a0 := (8, .inl (fun _ => 0))) hx hb (hts _ q78) rfl hK hP hD hS hA (N' := 8) (fun _ => rfl) (by decide) (by decide) (by decide) (by decide) (by decide) dX0_init_51 (fun a8 k8 H hK hP hD hS => ?_)
  have hP : va_P D zzcl [(h0, .inr (0, [.int 0, .ref a1, .int 0, .int 0, .ref a4, .ref a5, .ref a6, .ref a7, .null, .null, .null, .null, .null, .null, .null, .null])), (a1, .inl (k1, 20, .inl (fun _ => 0))), (a4, .inl (k4, 161, .inl (fun _ => 0))), (a5, .inl (k5, 161, .inl (fun _ => 0))), (a6, .inl (k6, 161, .inl (fun _ => 0))), (a7, .inl (k7, 161, .inl (fun _ => 0))), (a8, .inl (k8, 8, .inl (fun _ => 0)))] H := hP
  have hD : va_D A [(h0, .inr (0, [.int 0, .ref a1, .int 0, .int 0, .ref a4, .ref a5, .ref a6, .ref a7, .null, .null, .null, .null, .null, .null, .null, .null])), (a1, .inl (k1, 20, .inl (fun _ => 0))), (a4, .inl (k4, 161, .inl (fun _ => 0))), (a5, .inl (k5, 161, .inl (fun _ => 0))), (a6, .inl (k6, 161, .inl (fun _ => 0))), (a7, .inl (k7, 161, .inl (fun _ => 0))), (a8, .inl (k8, 8, .inl (fun _ => 0)))] := hD
  have hK : va_K D zzcl [(k1, .short), (k4, .byte), (k5, .byte), (k6, .short), (k7, .short), (k8, .short)] s := hK
  refine W.widen (k := 6) (n := 672) (by decide) (by decide) ?_
  refine va_putF (D := D) (ci := 0) (v := .ref a8) (ty := .array .short) (C := RX0) (T := TX0) (N := 16) hx hb hts in_X0 tyX0 tyX0_ok nmX0 hown hK hP hD hS 0 rfl rfl 8 (by decide) (hts _ q37) (fun _ h9 => h9) rfl hin rfl (by decide +kernel) rfl rfl (Nat.le_of_ble_eq_true rfl) dX0_init_53 (fun H locs hP hD hS => ?_)
  have hP : va_P D zzcl [(h0, .inr (0, [.int 0, .ref a1, .int 0, .int 0, .ref a4, .ref a5, .ref a6, .ref a7, .ref a8, .null, .null, .null, .null, .null, .null, .null])), (a1, .inl (k1, 20, .inl (fun _ => 0))), (a4, .inl (k4, 161, .inl (fun _ => 0))), (a5, .inl (k5, 161, .inl (fun _ => 0))), (a6, .inl (k6, 161, .inl (fun _ => 0))), (a7, .inl (k7, 161, .inl (fun _ => 0))), (a8, .inl (k8, 8, .inl (fun _ => 0)))] H := hP
  have hD : va_D A [(h0, .inr (0, [.int 0, .ref a1, .int 0, .int 0, .ref a4, .ref a5, .ref a6, .ref a7, .ref a8, .null, .null, .null, .null, .null, .null, .null])), (a1, .inl (k1, 20, .inl (fun _ => 0))), (a4, .inl (k4, 161, .inl (fun _ => 0))), (a5, .inl (k5, 161, .inl (fun _ => 0))), (a6, .inl (k6, 161, .inl (fun _ => 0))), (a7, .inl (k7, 161, .inl (fun _ => 0))), (a8, .inl (k8, 8, .inl (fun _ => 0)))] := hD
  refine lv_aload_n hx hb dX0_init_56 rfl (lv_at hl 0 rfl) ?_
  refine lv_bipush (v := 8) hx hb dX0_init_57 (by decide) ?_
  refine va_newa (atype := .byte) (ty := .byte) (a0 := (8, .inl (fun _ => 0))) hx hb (hts _ q79) rfl hK hP hD hS hA (N' := 8) (fun _ => rfl) (by decide) (by decide) (by decide) (by decide) (by decide) dX0_init_59 (fun a9 k9 H hK hP hD hS => ?_)
  have hP : va_P D zzcl [(h0, .inr (0, [.int 0, .ref a1, .int 0, .int 0, .ref a4, .ref a5, .ref a6, .ref a7, .ref a8, .null, .null, .null, .null, .null, .null, .null])), (a1, .inl (k1, 20, .inl (fun _ => 0))), (a4, .inl (k4, 161, .inl (fun _ => 0))), (a5, .inl (k5, 161, .inl (fun _ => 0))), (a6, .inl (k6, 161, .inl (fun _ => 0))), (a7, .inl (k7, 161, .inl (fun _ => 0))), (a8, .inl (k8, 8, .inl (fun _ => 0))), (a9, .inl (k9, 8, .inl (fun _ => 0)))] H := hP
  have hD : va_D A [(h0, .inr (0, [.int 0, .ref a1, .int 0, .int 0, .ref a4, .ref a5, .ref a6, .ref a7, .ref a8, .null, .null, .null, .null, .null, .null, .null])), (a1, .inl (k1, 20, .inl (fun _ => 0))), (a4, .inl (k4, 161, .inl (fun _ => 0))), (a5, .inl (k5, 161, .inl (fun _ => 0))), (a6, .inl (k6, 161, .inl (fun _ => 0))), (a7, .inl (k7, 161, .inl (fun _ => 0))), (a8, .inl (k8, 8, .inl (fun _ => 0))), (a9, .inl (k9, 8, .inl (fun _ => 0)))] := hD
  have hK : va_K D zzcl [(k1, .short), (k4, .byte), (k5, .byte), (k6, .short), (k7, .short), (k8, .short), (k9, .byte)] s := hK
  refine W.widen (k := 7) (n := 680) (by decide) (by decide) ?_
  refine va_putF (D := D) (ci := 0) (v := .ref a9) (ty := .array .byte) (C := RX0) (T := TX0) (N := 16) hx hb hts in_X0 tyX0 tyX0_ok nmX0 hown hK hP hD hS 0 rfl rfl 9 (by decide) (hts _ q38) (fun _ h9 => h9) rfl hin rfl (by decide +kernel) rfl rfl (Nat.le_of_ble_eq_true rfl) dX0_init_61 (fun H locs hP hD hS => ?_)
  have hP : va_P D zzcl [(h0, .inr (0, [.int 0, .ref a1, .int 0, .int 0, .ref a4, .ref a5, .ref a6, .ref a7, .ref a8, .ref a9, .null, .null, .null, .null, .null, .null])), (a1, .inl (k1, 20, .inl (fun _ => 0))), (a4, .inl (k4, 161, .inl (fun _ => 0))), (a5, .inl (k5, 161, .inl (fun _ => 0))), (a6, .inl (k6, 161, .inl (fun _ => 0))), (a7, .inl (k7, 161, .inl (fun _ => 0))), (a8, .inl (k8, 8, .inl (fun _ => 0))), (a9, .inl (k9, 8, .inl (fun _ => 0)))] H := hP
  have hD : va_D A [(h0, .inr (0, [.int 0, .ref a1, .int 0, .int 0, .ref a4, .ref a5, .ref a6, .ref a7, .ref a8, .ref a9, .null, .null, .null, .null, .null, .null])), (a1, .inl (k1, 20, .inl (fun _ => 0))), (a4, .inl (k4, 161, .inl (fun _ => 0))), (a5, .inl (k5, 161, .inl (fun _ => 0))), (a6, .inl (k6, 161, .inl (fun _ => 0))), (a7, .inl (k7, 161, .inl (fun _ => 0))), (a8, .inl (k8, 8, .inl (fun _ => 0))), (a9, .inl (k9, 8, .inl (fun _ => 0)))] := hD
  refine lv_aload_n hx hb dX0_init_64 rfl (lv_at hl 0 rfl) ?_
  refine lv_bipush (v := 8) hx hb dX0_init_65 (by decide) ?_
  refine va_newa (atype := .byte) (ty := .byte) (a0 := (8, .inl (fun _ => 0))) hx hb (hts _ q79) rfl hK hP hD hS hA (N' := 8) (fun _ => rfl) (by decide) (by decide) (by decide) (by decide) (by decide) dX0_init_67 (fun a10 k10 H hK hP hD hS => ?_)
  have hP : va_P D zzcl [(h0, .inr (0, [.int 0, .ref a1, .int 0, .int 0, .ref a4, .ref a5, .ref a6, .ref a7, .ref a8, .ref a9, .null, .null, .null, .null, .null, .null])), (a1, .inl (k1, 20, .inl (fun _ => 0))), (a4, .inl (k4, 161, .inl (fun _ => 0))), (a5, .inl (k5, 161, .inl (fun _ => 0))), (a6, .inl (k6, 161, .inl (fun _ => 0))), (a7, .inl (k7, 161, .inl (fun _ => 0))), (a8, .inl (k8, 8, .inl (fun _ => 0))), (a9, .inl (k9, 8, .inl (fun _ => 0))), (a10, .inl (k10, 8, .inl (fun _ => 0)))] H := hP
  have hD : va_D A [(h0, .inr (0, [.int 0, .ref a1, .int 0, .int 0, .ref a4, .ref a5, .ref a6, .ref a7, .ref a8, .ref a9, .null, .null, .null, .null, .null, .null])), (a1, .inl (k1, 20, .inl (fun _ => 0))), (a4, .inl (k4, 161, .inl (fun _ => 0))), (a5, .inl (k5, 161, .inl (fun _ => 0))), (a6, .inl (k6, 161, .inl (fun _ => 0))), (a7, .inl (k7, 161, .inl (fun _ => 0))), (a8, .inl (k8, 8, .inl (fun _ => 0))), (a9, .inl (k9, 8, .inl (fun _ => 0))), (a10, .inl (k10, 8, .inl (fun _ => 0)))] := hD
  have hK : va_K D zzcl [(k1, .short), (k4, .byte), (k5, .byte), (k6, .short), (k7, .short), (k8, .short), (k9, .byte), (k10, .byte)] s := hK
  refine W.widen (k := 8) (n := 688) (by decide) (by decide) ?_
  refine va_putF (D := D) (ci := 0) (v := .ref a10) (ty := .array .byte) (C := RX0) (T := TX0) (N := 16) hx hb hts in_X0 tyX0 tyX0_ok nmX0 hown hK hP hD hS 0 rfl rfl 10 (by decide) (hts _ q39) (fun _ h9 => h9) rfl hin rfl (by decide +kernel) rfl rfl (Nat.le_of_ble_eq_true rfl) dX0_init_69 (fun H locs hP hD hS => ?_)
  have hP : va_P D zzcl [(h0, .inr (0, [.int 0, .ref a1, .int 0, .int 0, .ref a4, .ref a5, .ref a6, .ref a7, .ref a8, .ref a9, .ref a10, .null, .null, .null, .null, .null])), (a1, .inl (k1, 20, .inl (fun _ => 0))), (a4, .inl (k4, 161, .inl (fun _ => 0))), (a5, .inl (k5, 161, .inl (fun _ => 0))), (a6, .inl (k6, 161, .inl (fun _ => 0))), (a7, .inl (k7, 161, .inl (fun _ => 0))), (a8, .inl (k8, 8, .inl (fun _ => 0))), (a9, .inl (k9, 8, .inl (fun _ => 0))), (a10, .inl (k10, 8, .inl (fun _ => 0)))] H := hP
  have hD : va_D A [(h0, .inr (0, [.int 0, .ref a1, .int 0, .int 0, .ref a4, .ref a5, .ref a6, .ref a7, .ref a8, .ref a9, .ref a10, .null, .null, .null, .null, .null])), (a1, .inl (k1, 20, .inl (fun _ => 0))), (a4, .inl (k4, 161, .inl (fun _ => 0))), (a5, .inl (k5, 161, .inl (fun _ => 0))), (a6, .inl (k6, 161, .inl (fun _ => 0))), (a7, .inl (k7, 161, .inl (fun _ => 0))), (a8, .inl (k8, 8, .inl (fun _ => 0))), (a9, .inl (k9, 8, .inl (fun _ => 0))), (a10, .inl (k10, 8, .inl (fun _ => 0)))] := hD
  refine lv_aload_n hx hb dX0_init_72 rfl (lv_at hl 0 rfl) ?_
  refine lv_bipush (v := 8) hx hb dX0_init_73 (by decide) ?_
  refine va_newa (atype := .byte) (ty := .byte) (a0 := (8, .inl (fun _ => 0))) hx hb (hts _ q79) rfl hK hP hD hS hA (N' := 8) (fun _ => rfl) (by decide) (by decide) (by decide) (by decide) (by decide) dX0_init_75 (fun a11 k11 H hK hP hD hS => ?_)
  have hP : va_P D zzcl [(h0, .inr (0, [.int 0, .ref a1, .int 0, .int 0, .ref a4, .ref a5, .ref a6, .ref a7, .ref a8, .ref a9, .ref a10, .null, .null, .null, .null, .null])), (a1, .inl (k1, 20, .inl (fun _ => 0))), (a4, .inl (k4, 161, .inl (fun _ => 0))), (a5, .inl (k5, 161, .inl (fun _ => 0))), (a6, .inl (k6, 161, .inl (fun _ => 0))), (a7, .inl (k7, 161, .inl (fun _ => 0))), (a8, .inl (k8, 8, .inl (fun _ => 0))), (a9, .inl (k9, 8, .inl (fun _ => 0))), (a10, .inl (k10, 8, .inl (fun _ => 0))), (a11, .inl (k11, 8, .inl (fun _ => 0)))] H := hP
  have hD : va_D A [(h0, .inr (0, [.int 0, .ref a1, .int 0, .int 0, .ref a4, .ref a5, .ref a6, .ref a7, .ref a8, .ref a9, .ref a10, .null, .null, .null, .null, .null])), (a1, .inl (k1, 20, .inl (fun _ => 0))), (a4, .inl (k4, 161, .inl (fun _ => 0))), (a5, .inl (k5, 161, .inl (fun _ => 0))), (a6, .inl (k6, 161, .inl (fun _ => 0))), (a7, .inl (k7, 161, .inl (fun _ => 0))), (a8, .inl (k8, 8, .inl (fun _ => 0))), (a9, .inl (k9, 8, .inl (fun _ => 0))), (a10, .inl (k10, 8, .inl (fun _ => 0))), (a11, .inl (k11, 8, .inl (fun _ => 0)))] := hD
  have hK : va_K D zzcl [(k1, .short), (k4, .byte), (k5, .byte), (k6, .short), (k7, .short), (k8, .short), (k9, .byte), (k10, .byte), (k11, .byte)] s := hK
  refine W.widen (k := 9) (n := 696) (by decide) (by decide) ?_
  refine va_putF (D := D) (ci := 0) (v := .ref a11) (ty := .array .byte) (C := RX0) (T := TX0) (N := 16) hx hb hts in_X0 tyX0 tyX0_ok nmX0 hown hK hP hD hS 0 rfl rfl 11 (by decide) (hts _ q40) (fun _ h9 => h9) rfl hin rfl (by decide +kernel) rfl rfl (Nat.le_of_ble_eq_true rfl) dX0_init_77 (fun H locs hP hD hS => ?_)
  have hP : va_P D zzcl [(h0, .inr (0, [.int 0, .ref a1, .int 0, .int 0, .ref a4, .ref a5, .ref a6, .ref a7, .ref a8, .ref a9, .ref a10, .ref a11, .null, .null, .null, .null])), (a1, .inl (k1, 20, .inl (fun _ => 0))), (a4, .inl (k4, 161, .inl (fun _ => 0))), (a5, .inl (k5, 161, .inl (fun _ => 0))), (a6, .inl (k6, 161, .inl (fun _ => 0))), (a7, .inl (k7, 161, .inl (fun _ => 0))), (a8, .inl (k8, 8, .inl (fun _ => 0))), (a9, .inl (k9, 8, .inl (fun _ => 0))), (a10, .inl (k10, 8, .inl (fun _ => 0))), (a11, .inl (k11, 8, .inl (fun _ => 0)))] H := hP
  have hD : va_D A [(h0, .inr (0, [.int 0, .ref a1, .int 0, .int 0, .ref a4, .ref a5, .ref a6, .ref a7, .ref a8, .ref a9, .ref a10, .ref a11, .null, .null, .null, .null])), (a1, .inl (k1, 20, .inl (fun _ => 0))), (a4, .inl (k4, 161, .inl (fun _ => 0))), (a5, .inl (k5, 161, .inl (fun _ => 0))), (a6, .inl (k6, 161, .inl (fun _ => 0))), (a7, .inl (k7, 161, .inl (fun _ => 0))), (a8, .inl (k8, 8, .inl (fun _ => 0))), (a9, .inl (k9, 8, .inl (fun _ => 0))), (a10, .inl (k10, 8, .inl (fun _ => 0))), (a11, .inl (k11, 8, .inl (fun _ => 0)))] := hD
  refine lv_aload_n hx hb dX0_init_80 rfl (lv_at hl 0 rfl) ?_
  refine lv_sipush (v := 256) hx hb dX0_init_81 (by decide) ?_
  refine va_newa (atype := .byte) (ty := .byte) (a0 := (256, .inl (fun _ => 0))) hx hb (hts _ q79) rfl hK hP hD hS hA (N' := 256) (fun _ => rfl) (by decide) (by decide) (by decide) (by decide) (by decide) dX0_init_84 (fun a12 k12 H hK hP hD hS => ?_)
  have hP : va_P D zzcl [(h0, .inr (0, [.int 0, .ref a1, .int 0, .int 0, .ref a4, .ref a5, .ref a6, .ref a7, .ref a8, .ref a9, .ref a10, .ref a11, .null, .null, .null, .null])), (a1, .inl (k1, 20, .inl (fun _ => 0))), (a4, .inl (k4, 161, .inl (fun _ => 0))), (a5, .inl (k5, 161, .inl (fun _ => 0))), (a6, .inl (k6, 161, .inl (fun _ => 0))), (a7, .inl (k7, 161, .inl (fun _ => 0))), (a8, .inl (k8, 8, .inl (fun _ => 0))), (a9, .inl (k9, 8, .inl (fun _ => 0))), (a10, .inl (k10, 8, .inl (fun _ => 0))), (a11, .inl (k11, 8, .inl (fun _ => 0))), (a12, .inl (k12, 256, .inl (fun _ => 0)))] H := hP
  have hD : va_D A [(h0, .inr (0, [.int 0, .ref a1, .int 0, .int 0, .ref a4, .ref a5, .ref a6, .ref a7, .ref a8, .ref a9, .ref a10, .ref a11, .null, .null, .null, .null])), (a1, .inl (k1, 20, .inl (fun _ => 0))), (a4, .inl (k4, 161, .inl (fun _ => 0))), (a5, .inl (k5, 161, .inl (fun _ => 0))), (a6, .inl (k6, 161, .inl (fun _ => 0))), (a7, .inl (k7, 161, .inl (fun _ => 0))), (a8, .inl (k8, 8, .inl (fun _ => 0))), (a9, .inl (k9, 8, .inl (fun _ => 0))), (a10, .inl (k10, 8, .inl (fun _ => 0))), (a11, .inl (k11, 8, .inl (fun _ => 0))), (a12, .inl (k12, 256, .inl (fun _ => 0)))] := hD
  have hK : va_K D zzcl [(k1, .short), (k4, .byte), (k5, .byte), (k6, .short), (k7, .short), (k8, .short), (k9, .byte), (k10, .byte), (k11, .byte), (k12, .byte)] s := hK
  refine W.widen (k := 10) (n := 952) (by decide) (by decide) ?_
  refine va_putF (D := D) (ci := 0) (v := .ref a12) (ty := .array .byte) (C := RX0) (T := TX0) (N := 16) hx hb hts in_X0 tyX0 tyX0_ok nmX0 hown hK hP hD hS 0 rfl rfl 12 (by decide) (hts _ q41) (fun _ h9 => h9) rfl hin rfl (by decide +kernel) rfl rfl (Nat.le_of_ble_eq_true rfl) dX0_init_86 (fun H locs hP hD hS => ?_)
  have hP : va_P D zzcl [(h0, .inr (0, [.int 0, .ref a1, .int 0, .int 0, .ref a4, .ref a5, .ref a6, .ref a7, .ref a8, .ref a9, .ref a10, .ref a11, .ref a12, .null, .null, .null])), (a1, .inl (k1, 20, .inl (fun _ => 0))), (a4, .inl (k4, 161, .inl (fun _ => 0))), (a5, .inl (k5, 161, .inl (fun _ => 0))), (a6, .inl (k6, 161, .inl (fun _ => 0))), (a7, .inl (k7, 161, .inl (fun _ => 0))), (a8, .inl (k8, 8, .inl (fun _ => 0))), (a9, .inl (k9, 8, .inl (fun _ => 0))), (a10, .inl (k10, 8, .inl (fun _ => 0))), (a11, .inl (k11, 8, .inl (fun _ => 0))), (a12, .inl (k12, 256, .inl (fun _ => 0)))] H := hP
  have hD : va_D A [(h0, .inr (0, [.int 0, .ref a1, .int 0, .int 0, .ref a4, .ref a5, .ref a6, .ref a7, .ref a8, .ref a9, .ref a10, .ref a11, .ref a12, .null, .null, .null])), (a1, .inl (k1, 20, .inl (fun _ => 0))), (a4, .inl (k4, 161, .inl (fun _ => 0))), (a5, .inl (k5, 161, .inl (fun _ => 0))), (a6, .inl (k6, 161, .inl (fun _ => 0))), (a7, .inl (k7, 161, .inl (fun _ => 0))), (a8, .inl (k8, 8, .inl (fun _ => 0))), (a9, .inl (k9, 8, .inl (fun _ => 0))), (a10, .inl (k10, 8, .inl (fun _ => 0))), (a11, .inl (k11, 8, .inl (fun _ => 0))), (a12, .inl (k12, 256, .inl (fun _ => 0)))] := hD
  refine lv_aload_n hx hb dX0_init_89 rfl (lv_at hl 0 rfl) ?_
  refine lv_sipush (v := 1449) hx hb dX0_init_90 (by decide) ?_
  refine va_newa (atype := .byte) (ty := .byte) (a0 := (1449, .inl (fun _ => 0))) hx hb (hts _ q79) rfl hK hP hD hS hA (N' := 1449) (fun _ => rfl) (by decide) (by decide) (by decide) (by decide) (by decide) dX0_init_93 (fun a13 k13 H hK hP hD hS => ?_)
  have hP : va_P D zzcl [(h0, .inr (0, [.int 0, .ref a1, .int 0, .int 0, .ref a4, .ref a5, .ref a6, .ref a7, .ref a8, .ref a9, .ref a10, .ref a11, .ref a12, .null, .null, .null])), (a1, .inl (k1, 20, .inl (fun _ => 0))), (a4, .inl (k4, 161, .inl (fun _ => 0))), (a5, .inl (k5, 161, .inl (fun _ => 0))), (a6, .inl (k6, 161, .inl (fun _ => 0))), (a7, .inl (k7, 161, .inl (fun _ => 0))), (a8, .inl (k8, 8, .inl (fun _ => 0))), (a9, .inl (k9, 8, .inl (fun _ => 0))), (a10, .inl (k10, 8, .inl (fun _ => 0))), (a11, .inl (k11, 8, .inl (fun _ => 0))), (a12, .inl (k12, 256, .inl (fun _ => 0))), (a13, .inl (k13, 1449, .inl (fun _ => 0)))] H := hP
  have hD : va_D A [(h0, .inr (0, [.int 0, .ref a1, .int 0, .int 0, .ref a4, .ref a5, .ref a6, .ref a7, .ref a8, .ref a9, .ref a10, .ref a11, .ref a12, .null, .null, .null])), (a1, .inl (k1, 20, .inl (fun _ => 0))), (a4, .inl (k4, 161, .inl (fun _ => 0))), (a5, .inl (k5, 161, .inl (fun _ => 0))), (a6, .inl (k6, 161, .inl (fun _ => 0))), (a7, .inl (k7, 161, .inl (fun _ => 0))), (a8, .inl (k8, 8, .inl (fun _ => 0))), (a9, .inl (k9, 8, .inl (fun _ => 0))), (a10, .inl (k10, 8, .inl (fun _ => 0))), (a11, .inl (k11, 8, .inl (fun _ => 0))), (a12, .inl (k12, 256, .inl (fun _ => 0))), (a13, .inl (k13, 1449, .inl (fun _ => 0)))] := hD
  have hK : va_K D zzcl [(k1, .short), (k4, .byte), (k5, .byte), (k6, .short), (k7, .short), (k8, .short), (k9, .byte), (k10, .byte), (k11, .byte), (k12, .byte), (k13, .byte)] s := hK
  refine W.widen (k := 11) (n := 2401) (by decide) (by decide) ?_
  refine va_putF (D := D) (ci := 0) (v := .ref a13) (ty := .array .byte) (C := RX0) (T := TX0) (N := 16) hx hb hts in_X0 tyX0 tyX0_ok nmX0 hown hK hP hD hS 0 rfl rfl 13 (by decide) (hts _ q42) (fun _ h9 => h9) rfl hin rfl (by decide +kernel) rfl rfl (Nat.le_of_ble_eq_true rfl) dX0_init_95 (fun H locs hP hD hS => ?_)
  have hP : va_P D zzcl [(h0, .inr (0, [.int 0, .ref a1, .int 0, .int 0, .ref a4, .ref a5, .ref a6, .ref a7, .ref a8, .ref a9, .ref a10, .ref a11, .ref a12, .ref a13, .null, .null])), (a1, .inl (k1, 20, .inl (fun _ => 0))), (a4, .inl (k4, 161, .inl (fun _ => 0))), (a5, .inl (k5, 161, .inl (fun _ => 0))), (a6, .inl (k6, 161, .inl (fun _ => 0))), (a7, .inl (k7, 161, .inl (fun _ => 0))), (a8, .inl (k8, 8, .inl (fun _ => 0))), (a9, .inl (k9, 8, .inl (fun _ => 0))), (a10, .inl (k10, 8, .inl (fun _ => 0))), (a11, .inl (k11, 8, .inl (fun _ => 0))), (a12, .inl (k12, 256, .inl (fun _ => 0))), (a13, .inl (k13, 1449, .inl (fun _ => 0)))] H := hP
  have hD : va_D A [(h0, .inr (0, [.int 0, .ref a1, .int 0, .int 0, .ref a4, .ref a5, .ref a6, .ref a7, .ref a8, .ref a9, .ref a10, .ref a11, .ref a12, .ref a13, .null, .null])), (a1, .inl (k1, 20, .inl (fun _ => 0))), (a4, .inl (k4, 161, .inl (fun _ => 0))), (a5, .inl (k5, 161, .inl (fun _ => 0))), (a6, .inl (k6, 161, .inl (fun _ => 0))), (a7, .inl (k7, 161, .inl (fun _ => 0))), (a8, .inl (k8, 8, .inl (fun _ => 0))), (a9, .inl (k9, 8, .inl (fun _ => 0))), (a10, .inl (k10, 8, .inl (fun _ => 0))), (a11, .inl (k11, 8, .inl (fun _ => 0))), (a12, .inl (k12, 256, .inl (fun _ => 0))), (a13, .inl (k13, 1449, .inl (fun _ => 0)))] := hD
  refine lv_aload_n hx hb dX0_init_98 rfl (lv_at hl 0 rfl) ?_
  refine lv_bipush (v := 9) hx hb dX0_init_99 (by decide) ?_
  refine va_newa (atype := .short) (ty := .short) (a0 := (9, .inl (fun _ => 0))) hx hb (hts _ q78) rfl hK hP hD hS hA (N' := 9) (fun _ => rfl) (by decide) (by decide) (by decide) (by decide) (by decide) dX0_init_101 (fun a14 k14 H hK hP hD hS => ?_)
  have hP : va_P D zzcl [(h0, .inr (0, [.int 0, .ref a1, .int 0, .int 0, .ref a4, .ref a5, .ref a6, .ref a7, .ref a8, .ref a9, .ref a10, .ref a11, .ref a12, .ref a13, .null, .null])), (a1, .inl (k1, 20, .inl (fun _ => 0))), (a4, .inl (k4, 161, .inl (fun _ => 0))), (a5, .inl (k5, 161, .inl (fun _ => 0))), (a6, .inl (k6, 161, .inl (fun _ => 0))), (a7, .inl (k7, 161, .inl (fun _ => 0))), (a8, .inl (k8, 8, .inl (fun _ => 0))), (a9, .inl (k9, 8, .inl (fun _ => 0))), (a10, .inl (k10, 8, .inl (fun _ => 0))), (a11, .inl (k11, 8, .inl (fun _ => 0))), (a12, .inl (k12, 256, .inl (fun _ => 0))), (a13, .inl (k13, 1449, .inl (fun _ => 0))), (a14, .inl (k14, 9, .inl (fun _ => 0)))] H := hP
  have hD : va_D A [(h0, .inr (0, [.int 0, .ref a1, .int 0, .int 0, .ref a4, .ref a5, .ref a6, .ref a7, .ref a8, .ref a9, .ref a10, .ref a11, .ref a12, .ref a13, .null, .null])), (a1, .inl (k1, 20, .inl (fun _ => 0))), (a4, .inl (k4, 161, .inl (fun _ => 0))), (a5, .inl (k5, 161, .inl (fun _ => 0))), (a6, .inl (k6, 161, .inl (fun _ => 0))), (a7, .inl (k7, 161, .inl (fun _ => 0))), (a8, .inl (k8, 8, .inl (fun _ => 0))), (a9, .inl (k9, 8, .inl (fun _ => 0))), (a10, .inl (k10, 8, .inl (fun _ => 0))), (a11, .inl (k11, 8, .inl (fun _ => 0))), (a12, .inl (k12, 256, .inl (fun _ => 0))), (a13, .inl (k13, 1449, .inl (fun _ => 0))), (a14, .inl (k14, 9, .inl (fun _ => 0)))] := hD
  have hK : va_K D zzcl [(k1, .short), (k4, .byte), (k5, .byte), (k6, .short), (k7, .short), (k8, .short), (k9, .byte), (k10, .byte), (k11, .byte), (k12, .byte), (k13, .byte), (k14, .short)] s := hK
  refine W.widen (k := 12) (n := 2410) (by decide) (by decide) ?_
  refine va_putF (D := D) (ci := 0) (v := .ref a14) (ty := .array .short) (C := RX0) (T := TX0) (N := 16) hx hb hts in_X0 tyX0 tyX0_ok nmX0 hown hK hP hD hS 0 rfl rfl 14 (by decide) (hts _ q43) (fun _ h9 => h9) rfl hin rfl (by decide +kernel) rfl rfl (Nat.le_of_ble_eq_true rfl) dX0_init_103 (fun H locs hP hD hS => ?_)
  have hP : va_P D zzcl [(h0, .inr (0, [.int 0, .ref a1, .int 0, .int 0, .ref a4, .ref a5, .ref a6, .ref a7, .ref a8, .ref a9, .ref a10, .ref a11, .ref a12, .ref a13, .ref a14, .null])), (a1, .inl (k1, 20, .inl (fun _ => 0))), (a4, .inl (k4, 161, .inl (fun _ => 0))), (a5, .inl (k5, 161, .inl (fun _ => 0))), (a6, .inl (k6, 161, .inl (fun _ => 0))), (a7, .inl (k7, 161, .inl (fun _ => 0))), (a8, .inl (k8, 8, .inl (fun _ => 0))), (a9, .inl (k9, 8, .inl (fun _ => 0))), (a10, .inl (k10, 8, .inl (fun _ => 0))), (a11, .inl (k11, 8, .inl (fun _ => 0))), (a12, .inl (k12, 256, .inl (fun _ => 0))), (a13, .inl (k13, 1449, .inl (fun _ => 0))), (a14, .inl (k14, 9, .inl (fun _ => 0)))] H := hP
  have hD : va_D A [(h0, .inr (0, [.int 0, .ref a1, .int 0, .int 0, .ref a4, .ref a5, .ref a6, .ref a7, .ref a8, .ref a9, .ref a10, .ref a11, .ref a12, .ref a13, .ref a14, .null])), (a1, .inl (k1, 20, .inl (fun _ => 0))), (a4, .inl (k4, 161, .inl (fun _ => 0))), (a5, .inl (k5, 161, .inl (fun _ => 0))), (a6, .inl (k6, 161, .inl (fun _ => 0))), (a7, .inl (k7, 161, .inl (fun _ => 0))), (a8, .inl (k8, 8, .inl (fun _ => 0))), (a9, .inl (k9, 8, .inl (fun _ => 0))), (a10, .inl (k10, 8, .inl (fun _ => 0))), (a11, .inl (k11, 8, .inl (fun _ => 0))), (a12, .inl (k12, 256, .inl (fun _ => 0))), (a13, .inl (k13, 1449, .inl (fun _ => 0))), (a14, .inl (k14, 9, .inl (fun _ => 0)))] := hD
  refine lv_aload_n hx hb dX0_init_106 rfl (lv_at hl 0 rfl) ?_
  refine lv_bipush (v := 9) hx hb dX0_init_107 (by decide) ?_
  refine va_newa (atype := .byte) (ty := .byte) (a0 := (9, .inl (fun _ => 0))) hx hb (hts _ q79) rfl hK hP hD hS hA (N' := 9) (fun _ => rfl) (by decide) (by decide) (by decide) (by decide) (by decide) dX0_init_109 (fun a15 k15 H hK hP hD hS => ?_)
  have hP : va_P D zzcl [(h0, .inr (0, [.int 0, .ref a1, .int 0, .int 0, .ref a4, .ref a5, .ref a6, .ref a7, .ref a8, .ref a9, .ref a10, .ref a11, .ref a12, .ref a13, .ref a14, .null])), (a1, .inl (k1, 20, .inl (fun _ => 0))), (a4, .inl (k4, 161, .inl (fun _ => 0))), (a5, .inl (k5, 161, .inl (fun _ => 0))), (a6, .inl (k6, 161, .inl (fun _ => 0))), (a7, .inl (k7, 161, .inl (fun _ => 0))), (a8, .inl (k8, 8, .inl (fun _ => 0))), (a9, .inl (k9, 8, .inl (fun _ => 0))), (a10, .inl (k10, 8, .inl (fun _ => 0))), (a11, .inl (k11, 8, .inl (fun _ => 0))), (a12, .inl (k12, 256, .inl (fun _ => 0))), (a13, .inl (k13, 1449, .inl (fun _ => 0))), (a14, .inl (k14, 9, .inl (fun _ => 0))), (a15, .inl (k15, 9, .inl (fun _ => 0)))] H := hP
  have hD : va_D A [(h0, .inr (0, [.int 0, .ref a1, .int 0, .int 0, .ref a4, .ref a5, .ref a6, .ref a7, .ref a8, .ref a9, .ref a10, .ref a11, .ref a12, .ref a13, .ref a14, .null])), (a1, .inl (k1, 20, .inl (fun _ => 0))), (a4, .inl (k4, 161, .inl (fun _ => 0))), (a5, .inl (k5, 161, .inl (fun _ => 0))), (a6, .inl (k6, 161, .inl (fun _ => 0))), (a7, .inl (k7, 161, .inl (fun _ => 0))), (a8, .inl (k8, 8, .inl (fun _ => 0))), (a9, .inl (k9, 8, .inl (fun _ => 0))), (a10, .inl (k10, 8, .inl (fun _ => 0))), (a11, .inl (k11, 8, .inl (fun _ => 0))), (a12, .inl (k12, 256, .inl (fun _ => 0))), (a13, .inl (k13, 1449, .inl (fun _ => 0))), (a14, .inl (k14, 9, .inl (fun _ => 0))), (a15, .inl (k15, 9, .inl (fun _ => 0)))] := hD
  have hK : va_K D zzcl [(k1, .short), (k4, .byte), (k5, .byte), (k6, .short), (k7, .short), (k8, .short), (k9, .byte), (k10, .byte), (k11, .byte), (k12, .byte), (k13, .byte), (k14, .short), (k15, .byte)] s := hK
  refine W.widen (k := 13) (n := 2419) (by decide) (by decide) ?_
  refine va_putF (D := D) (ci := 0) (v := .ref a15) (ty := .array .byte) (C := RX0) (T := TX0) (N := 16) hx hb hts in_X0 tyX0 tyX0_ok nmX0 hown hK hP hD hS 0 rfl rfl 15 (by decide) (hts _ q44) (fun _ h9 => h9) rfl hin rfl (by decide +kernel) rfl rfl (Nat.le_of_ble_eq_true rfl) dX0_init_111 (fun H locs hP hD hS => ?_)
  have hP : va_P D zzcl [(h0, .inr (0, [.int 0, .ref a1, .int 0, .int 0, .ref a4, .ref a5, .ref a6, .ref a7, .ref a8, .ref a9, .ref a10, .ref a11, .ref a12, .ref a13, .ref a14, .ref a15])), (a1, .inl (k1, 20, .inl (fun _ => 0))), (a4, .inl (k4, 161, .inl (fun _ => 0))), (a5, .inl (k5, 161, .inl (fun _ => 0))), (a6, .inl (k6, 161, .inl (fun _ => 0))), (a7, .inl (k7, 161, .inl (fun _ => 0))), (a8, .inl (k8, 8, .inl (fun _ => 0))), (a9, .inl (k9, 8, .inl (fun _ => 0))), (a10, .inl (k10, 8, .inl (fun _ => 0))), (a11, .inl (k11, 8, .inl (fun _ => 0))), (a12, .inl (k12, 256, .inl (fun _ => 0))), (a13, .inl (k13, 1449, .inl (fun _ => 0))), (a14, .inl (k14, 9, .inl (fun _ => 0))), (a15, .inl (k15, 9, .inl (fun _ => 0)))] H := hP
  have hD : va_D A [(h0, .inr (0, [.int 0, .ref a1, .int 0, .int 0, .ref a4, .ref a5, .ref a6, .ref a7, .ref a8, .ref a9, .ref a10, .ref a11, .ref a12, .ref a13, .ref a14, .ref a15])), (a1, .inl (k1, 20, .inl (fun _ => 0))), (a4, .inl (k4, 161, .inl (fun _ => 0))), (a5, .inl (k5, 161, .inl (fun _ => 0))), (a6, .inl (k6, 161, .inl (fun _ => 0))), (a7, .inl (k7, 161, .inl (fun _ => 0))), (a8, .inl (k8, 8, .inl (fun _ => 0))), (a9, .inl (k9, 8, .inl (fun _ => 0))), (a10, .inl (k10, 8, .inl (fun _ => 0))), (a11, .inl (k11, 8, .inl (fun _ => 0))), (a12, .inl (k12, 256, .inl (fun _ => 0))), (a13, .inl (k13, 1449, .inl (fun _ => 0))), (a14, .inl (k14, 9, .inl (fun _ => 0))), (a15, .inl (k15, 9, .inl (fun _ => 0)))] := hD
  exact W.vret hx hb hr (fun t ht hW => ⟨⟨((fun k : Nat => match k with | 0 => h0 | 1 => a1 | 4 => a4 | 5 => a5 | 6 => a6 | 7 => a7 | 8 => a8 | 9 => a9 | 10 => a10 | 11 => a11 | 12 => a12 | 13 => a13 | 14 => a14 | 15 => a15 | _ => 0), (fun k : Nat => match k with | 1 => k1 | 4 => k4 | 5 => k5 | 6 => k6 | 7 => k7 | 8 => k8 | 9 => k9 | 10 => k10 | 11 => k11 | 12 => k12 | 13 => k13 | 14 => k14 | 15 => k15 | _ => k1)), rfl, trivial, rfl, by rw [ht]; exact hP, va_K.moved hW.alike hK, hD⟩, hS.F ht⟩) hS.2.2 dX0_init_114
set_option maxHeartbeats 4000000 in
/-- FrequentSetsModel(): the fields' arrays are made, all zero -/
theorem M_init (l : Launch) (D : va_G) (h0 sz : Nat) : Met l yX1_init (ws_ yX1_init cX1_init 1 none) ({ frames := 1, cells := 2, slots := 276, locals := 12 }) (va_Pc [.ref h0] (fun U => U.heap.size = sz ∧ va_P D zzcl [(h0, .inr (1, [.int 0, .null, .null]))] U.heap ∧ va_K D zzcl [] U ∧ va_D (fun _ => True) [(h0, .inr (1, [.int 0, .null, .null]))])) (va_Qv (fun _ : (Nat → Nat) × (Nat → ClassId) => True) (fun u t => u.1 0 = h0 ∧ va_P D zzcl (wM u.1 u.2 (fun _ _ => 0)) t.heap ∧ va_K D zzcl (tM u.2) t ∧ va_D (va_A [(h0, .inr (1, [.int 0, .null, .null]))] sz) (wM u.1 u.2 (fun _ _ => 0))) (va_A [(h0, .inr (1, [.int 0, .null, .null]))] sz)) 2 276 (va_A [(h0, .inr (1, [.int 0, .null, .null]))] sz) := by
  refine Met.ofW (cc := cX1_init) (maxL := 1) (ret := none) (by decide) rfl ?_
  intro p e s m args below meth c s₁ B hml hv
  obtain ⟨rfl, hsz, hP, hK, hD0⟩ := hv
  have hx := B.exec
  have hb := B.bytes
  have hr := B.returns
  have hts := atoms_spec (ws := ws_ yX1_init cX1_init 1 none) B.pre
  have hts : ∀ w ∈ lw_all, w.before _ s = true := fun w h => hts w (List.mem_cons_of_mem _ h)
  have hown : s.vm.findClass RX1 = some m.cls := findClass_of_methodNamed B.named
  have hlocks := B.notSynchronized
  have hin : meth.name = "<init>" := (name_of_methodNamed B.named B.method).1
  subst hsz
  have hD := hD0.self (sz := s.heap.size)
  generalize hAe : va_A [(h0, .inr (1, [.int 0, .null, .null]))] s.heap.size = A at hD ⊢
  have hA : ∀ q : Nat, s.heap.size ≤ q → A q := fun q h => by rw [← hAe]; exact Or.inr h
  have hS : va_S A s.heap s.heap [] := va_S.rf
  have hl := lv_entry ([.ref h0]) (n := 1) (Nat.le_of_ble_eq_true rfl)
  rw [lg_entry_eq]
  generalize (lg_sl ([.ref h0]) ++ List.replicate (1 - (lg_sl ([.ref h0])).length) Slot.unset).toArray = ls at hl ⊢
  have hl : lv_has ls 1 [(0, .ref h0)] := hl
  refine lv_aload_n hx hb dX1_init_0 rfl (lv_at hl 0 rfl) ?_
  refine W.objInit hx hb hown (hts _ q177) (hts _ q27) (hts _ q28) rfl (by rw [hml]; exact hl.1) rfl dX1_init_1 (Nat.le_of_ble_eq_true rfl) (Nat.le_of_ble_eq_true rfl) ?_
  refine W.eq (g2 := F0 m 4 ls []) rfl ?_
  refine lv_aload_n hx hb dX1_init_4 rfl (lv_at hl 0 rfl) ?_
  refine lv_iconst (v := 0) hx hb dX1_init_5 (by decide) ?_
  refine va_put (D := D) (ci := 1) (v := .int 0) (ty := .int) (C := RX1) (T := TX1) (N := 3) hx hb hts in_X1 tyX1 tyX1_ok nmX1 hown hK hP hD hS 0 rfl rfl 0 (by decide) (hts _ q178) (fun _ h9 => h9) rfl (by decide +kernel) rfl rfl (Nat.le_of_ble_eq_true rfl) dX1_init_6 (fun H locs hP hD hS => ?_)
  have hP : va_P D zzcl [(h0, .inr (1, [.int 0, .null, .null]))] H := hP
  have hD : va_D A [(h0, .inr (1, [.int 0, .null, .null]))] := hD
  refine lv_aload_n hx hb dX1_init_9 rfl (lv_at hl 0 rfl) ?_
  refine lv_bipush (v := 20) hx hb dX1_init_10 (by decide) ?_
  refine va_newa (atype := .int) (ty := .int) (a0 := (20, .inl (fun _ => 0))) hx hb (hts _ q188) rfl hK hP hD hS hA (N' := 20) (fun _ => rfl) (by decide) (by decide) (by decide) (by decide) (by decide) dX1_init_12 (fun a1 k1 H hK hP hD hS => ?_)
  have hP : va_P D zzcl [(h0, .inr (1, [.int 0, .null, .null])), (a1, .inl (k1, 20, .inl (fun _ => 0)))] H := hP
  have hD : va_D A [(h0, .inr (1, [.int 0, .null, .null])), (a1, .inl (k1, 20, .inl (fun _ => 0)))] := hD
  have hK : va_K D zzcl [(k1, .int)] s := hK
  refine W.widen (k := 1) (n := 20) (by decide) (by decide) ?_
  refine va_put (D := D) (ci := 1) (v := .ref a1) (ty := .array .int) (C := RX1) (T := TX1) (N := 3) hx hb hts in_X1 tyX1 tyX1_ok nmX1 hown hK hP hD hS 0 rfl rfl 1 (by decide) (hts _ q179) (fun _ h9 => h9) rfl (by decide +kernel) rfl rfl (Nat.le_of_ble_eq_true rfl) dX1_init_14 (fun H locs hP hD hS => ?_)
  have hP : va_P D zzcl [(h0, .inr (1, [.int 0, .ref a1, .null])), (a1, .inl (k1, 20, .inl (fun _ => 0)))] H := hP
  have hD : va_D A [(h0, .inr (1, [.int 0, .ref a1, .null])), (a1, .inl (k1, 20, .inl (fun _ => 0)))] := hD
  refine lv_aload_n hx hb dX1_init_17 rfl (lv_at hl 0 rfl) ?_
  refine lv_sipush (v := 256) hx hb dX1_init_18 (by decide) ?_
  refine va_newa (atype := .int) (ty := .int) (a0 := (256, .inl (fun _ => 0))) hx hb (hts _ q188) rfl hK hP hD hS hA (N' := 256) (fun _ => rfl) (by decide) (by decide) (by decide) (by decide) (by decide) dX1_init_21 (fun a2 k2 H hK hP hD hS => ?_)
  have hP : va_P D zzcl [(h0, .inr (1, [.int 0, .ref a1, .null])), (a1, .inl (k1, 20, .inl (fun _ => 0))), (a2, .inl (k2, 256, .inl (fun _ => 0)))] H := hP
  have hD : va_D A [(h0, .inr (1, [.int 0, .ref a1, .null])), (a1, .inl (k1, 20, .inl (fun _ => 0))), (a2, .inl (k2, 256, .inl (fun _ => 0)))] := hD
  have hK : va_K D zzcl [(k1, .int), (k2, .int)] s := hK
  refine W.widen (k := 2) (n := 276) (by decide) (by decide) ?_
  refine va_put (D := D) (ci := 1) (v := .ref a2) (ty := .array .int) (C := RX1) (T := TX1) (N := 3) hx hb hts in_X1 tyX1 tyX1_ok nmX1 hown hK hP hD hS 0 rfl rfl 2 (by decide) (hts _ q180) (fun _ h9 => h9) rfl (by decide +kernel) rfl rfl (Nat.le_of_ble_eq_true rfl) dX1_init_23 (fun H locs hP hD hS => ?_)
  have hP : va_P D zzcl [(h0, .inr (1, [.int 0, .ref a1, .ref a2])), (a1, .inl (k1, 20, .inl (fun _ => 0))), (a2, .inl (k2, 256, .inl (fun _ => 0)))] H := hP
  have hD : va_D A [(h0, .inr (1, [.int 0, .ref a1, .ref a2])), (a1, .inl (k1, 20, .inl (fun _ => 0))), (a2, .inl (k2, 256, .inl (fun _ => 0)))] := hD
  exact W.vret hx hb hr (fun t ht hW => ⟨⟨((fun k : Nat => match k with | 0 => h0 | 1 => a1 | 2 => a2 | _ => 0), (fun k : Nat => match k with | 1 => k1 | 2 => k2 | _ => k1)), rfl, trivial, rfl, by rw [ht]; exact hP, va_K.moved hW.alike hK, hD⟩, hS.F ht⟩) hS.2.2 dX1_init_26
end
section
set_option maxRecDepth 100000
/-! the law: the class's world ahead, the model's behind it; ZZ is the judgement of its body: the class's state, the model's, pc, locals, stack -/
def zlX (l : Launch) (D : va_G) (h : Nat → Nat) (d : Nat → ClassId) (g : Nat → Nat) (f : Nat → ClassId) (b Ln : Nat) (xs : Nat → Int32) (ZZ : zzS → zzS → Nat → List Value → List Value → Prop) : Prop :=
  ∃ (p : Program) (e : Env) (s : State) (m : MethodId) (args : Array Value) (below : List Frame) (meth : Method) (c : Code) (A : Nat → Prop) (kc ks : Nat) (Q : State → Prop), zzC p room_1 s m args c D (tX d ++ tM f) A code 4 kc ks "FrequentSetsLaw" ∧ (va_X b Ln xs s s.heap ∧ b < s.heap.size ∧ ¬ A b) ∧ ZZ = fun σ τ pc L st => zzW p l e room_1 s m args below meth c D A 4 kc ks Q (wX h d σ ++ wM g f τ) pc L st
section ZL
variable {l : Launch} {D : va_G} {h : Nat → Nat} {d : Nat → ClassId} {g : Nat → Nat} {f : Nat → ClassId} {b Ln : Nat} {xs : Nat → Int32} {ZZ : zzS → zzS → Nat → List Value → List Value → Prop} {σ τ : zzS} {pc : Nat} {L st : List Value}
theorem zl_c (C : zlX l D h d g f b Ln xs ZZ) (σ : zzS) : zzX l room_1 D (tX d ++ tM f) (fun τ => wX h d σ ++ wM g f τ) code 4 "FrequentSetsLaw" (ZZ σ) := by
  obtain ⟨p, e, s, m, args, below, meth, c, A, kc, ks, Q, hC, -, rfl⟩ := C
  exact ⟨p, e, s, m, args, below, meth, c, A, kc, ks, Q, hC, rfl⟩
/-- the script is read -/
theorem zl_sld (C : zlX l D h d g f b Ln xs ZZ) (hdg : decode code pc = .ok (.iaload, 1)) {i : Int32} (j : Nat) (hi : i = nI j) (hj : j < Ln) (hL : Ln ≤ 192) (k : ZZ σ τ (pc + 1) L (.int (xs j) :: st)) : ZZ σ τ pc L (.int i :: .ref b :: st) := by
  obtain ⟨p, e, s, m, args, below, meth, c, A, kc, ks, Q, ⟨hx, hb, hml, hown, hts, hK, hA, hkc, hks⟩, ⟨hX, hbl, hbA⟩, rfl⟩ := C
  intro H locs ls hP hD hS hl
  subst hi
  refine va_sld hx hb hX hbl hbA hS (vp_in_nI hj (by omega)) hdg ?_
  rw [nI_clamp (by omega)]
  exact k H locs ls hP hD hS hl
theorem zl_slen (C : zlX l D h d g f b Ln xs ZZ) (hdg : decode code pc = .ok (.arraylength, 1)) (k : ZZ σ τ (pc + 1) L (.int (nI Ln) :: st)) : ZZ σ τ pc L (.ref b :: st) := by
  obtain ⟨p, e, s, m, args, below, meth, c, A, kc, ks, Q, ⟨hx, hb, hml, hown, hts, hK, hA, hkc, hks⟩, ⟨hX, hbl, hbA⟩, rfl⟩ := C
  intro H locs ls hP hD hS hl
  exact va_slen hx hb hX hbl hbA hS hdg (k H locs ls hP hD hS hl)
/-- a call of a method of the class -/
theorem zl_callX (C : zlX l D h d g f b Ln xs ZZ) {y : MethodName} {c1 : ByteArray} {nL1 : Nat} {ret : FieldType} {rm : Room} {av : List Value} {post : Int32 → zzS → Prop} (hM : zzMi l y c1 nL1 ret rm D (tX d) (wX h d) (h 0) av σ post) {index ci nA : Nat} {Cn : String} {T : u_T} {N : Nat} {fs stk : List Value} (he : (wX h d σ)[0]? = some (h 0, .inr (ci, fs))) (hc : zzcl[ci]? = some (Cn, T, N)) (hCn : y.cls = Cn) (q1 : Cond.methodLink "FrequentSetsLaw" index y ∈ lw_all) (q2 : Cond.instanceMethod y ∈ lw_all) (q3 : Cond.selects Cn y y ∈ lw_all) (q4 : Cond.initialized Cn ∈ lw_all) (q5 : Cond.code y c1 nL1 (some ret) ∈ lw_all)
    (hd : y.cls ≠ "java/lang/invoke/MethodHandle" ∧ y.cls ≠ "java/lang/invoke/VarHandle" ∧ (parseMethodDescriptor y.desc).map (fun d => d.parameters.length) = some nA) (hnA : av.length = nA) (hrm : rm.cells = 0 ∧ rm.slots = 0 ∧ rm.frames + 1 ≤ 6 ∧ 8 + (nL1 + 11) + rm.locals ≤ 192) (hstk : stk = av.reverse ++ .ref (h 0) :: st) (hst : (st.map fun v => v.category).sum ≤ 8) (hdg : decode code pc = .ok (.invokevirtual index, 3)) (k : ∀ (r : Int32) (σ' : zzS), post r σ' → ZZ σ' τ (pc + 3) L (.int r :: st)) : ZZ σ τ pc L stk := by
  obtain ⟨p, e, s, m, args, below, meth, c, A, kc, ks, Q, ⟨hx, hb, hml, hown, hts, hK, hA, hkc, hks⟩, ⟨hX, hbl, hbA⟩, rfl⟩ := C
  intro H locs ls hP hD hS hl
  subst hstk
  subst hCn
  subst hnA
  have hPc : va_P D zzcl (wX h d σ) H := hP.sub [0, 1, 2, 3, 4, 5, 6, 7, 8, 9, 10, 11, 12, 13] rfl
  have hDc : va_D A (wX h d σ) := hD.sub [0, 1, 2, 3, 4, 5, 6, 7, 8, 9, 10, 11, 12, 13] (by decide) rfl
  have hKc : va_K D zzcl (tX d) s := hK.sub [0, 1, 2, 3, 4, 5, 6, 7, 8, 9, 10, 11, 12] rfl
  have hFc : ∀ q, va_A (wX h d σ) H.size q → A q := va_free hD hS hA [0, 1, 2, 3, 4, 5, 6, 7, 8, 9, 10, 11, 12, 13] rfl
  refine va_calli (va_runV (As := av) (rest := st) ⟨hx, hb, hml, hown, hts⟩ (hM H.size) (cwV av.length hts (lw_V q1 q2 q3 q4 q5) rfl hrm.1 hrm.2.1 ⟨rfl, hd⟩ ⟨hrm.2.2.1, hrm.2.2.2⟩) ⟨fun a U gg mk q => by obtain ⟨q0, q1, qP, qK, qD⟩ := q; exact ⟨q0, q1, qP, va_K.moved (u := U) (U := U.calling gg mk a) (Vm.Alike.refl U.vm) qK, qD⟩, va_recv hKc hPc (ci := ci) (q0 := 0) hc he, fun U hU hW => ⟨rfl, by rw [hU], by rw [hU]; exact hPc, va_K.moved hW.alike hKc, hDc.weaken (fun _ _ _ _ => trivial)⟩⟩ rfl rfl hl.1.1 rfl (lv_room hst) hdg ⟨hkc, hks⟩) hS (fun q _ hq => hFc q hq) hFc (fun r σ' t H1 locs1 ht hvm hw1 hB hz1 hk1 hS1 => ?_)
  obtain ⟨hP1, hK1, hD1⟩ := hB
  rw [ht] at hP1
  obtain ⟨hP2, hD2⟩ := va_join (wr := wM g f τ) (w1 := wX h d σ') hP hD [0, 1, 2, 3, 4, 5, 6, 7, 8, 9, 10, 11, 12, 13] [14, 15, 16] rfl rfl (by decide) (by decide) hk1 hFc hP1 hD1
  exact k r σ' hw1 H1 locs1 ls (hP2.sub [3, 4, 5, 6, 7, 8, 9, 10, 11, 12, 13, 14, 15, 16, 0, 1, 2] rfl) (hD2.sub [3, 4, 5, 6, 7, 8, 9, 10, 11, 12, 13, 14, 15, 16, 0, 1, 2] (by decide) rfl) hS1 hl
/-- a call of a method of the model -/
theorem zl_callM (C : zlX l D h d g f b Ln xs ZZ) {y : MethodName} {c1 : ByteArray} {nL1 : Nat} {ret : FieldType} {rm : Room} {av : List Value} {post : Int32 → zzS → Prop} (hM : zzMi l y c1 nL1 ret rm D (tM f) (wM g f) (g 0) av τ post) {index ci nA : Nat} {Cn : String} {T : u_T} {N : Nat} {fs stk : List Value} (he : (wM g f τ)[0]? = some (g 0, .inr (ci, fs))) (hc : zzcl[ci]? = some (Cn, T, N)) (hCn : y.cls = Cn) (q1 : Cond.methodLink "FrequentSetsLaw" index y ∈ lw_all) (q2 : Cond.instanceMethod y ∈ lw_all) (q3 : Cond.selects Cn y y ∈ lw_all) (q4 : Cond.initialized Cn ∈ lw_all) (q5 : Cond.code y c1 nL1 (some ret) ∈ lw_all)
    (hd : y.cls ≠ "java/lang/invoke/MethodHandle" ∧ y.cls ≠ "java/lang/invoke/VarHandle" ∧ (parseMethodDescriptor y.desc).map (fun d => d.parameters.length) = some nA) (hnA : av.length = nA) (hrm : rm.cells = 0 ∧ rm.slots = 0 ∧ rm.frames + 1 ≤ 6 ∧ 8 + (nL1 + 11) + rm.locals ≤ 192) (hstk : stk = av.reverse ++ .ref (g 0) :: st) (hst : (st.map fun v => v.category).sum ≤ 8) (hdg : decode code pc = .ok (.invokevirtual index, 3)) (k : ∀ (r : Int32) (τ' : zzS), post r τ' → ZZ σ τ' (pc + 3) L (.int r :: st)) : ZZ σ τ pc L stk := by
  obtain ⟨p, e, s, m, args, below, meth, c, A, kc, ks, Q, ⟨hx, hb, hml, hown, hts, hK, hA, hkc, hks⟩, ⟨hX, hbl, hbA⟩, rfl⟩ := C
  intro H locs ls hP hD hS hl
  subst hstk
  subst hCn
  subst hnA
  have hPc : va_P D zzcl (wM g f τ) H := hP.sub [14, 15, 16] rfl
  have hDc : va_D A (wM g f τ) := hD.sub [14, 15, 16] (by decide) rfl
  have hKc : va_K D zzcl (tM f) s := hK.sub [13, 14] rfl
  have hFc : ∀ q, va_A (wM g f τ) H.size q → A q := va_free hD hS hA [14, 15, 16] rfl
  refine va_calli (va_runV (As := av) (rest := st) ⟨hx, hb, hml, hown, hts⟩ (hM H.size) (cwV av.length hts (lw_V q1 q2 q3 q4 q5) rfl hrm.1 hrm.2.1 ⟨rfl, hd⟩ ⟨hrm.2.2.1, hrm.2.2.2⟩) ⟨fun a U gg mk q => by obtain ⟨q0, q1, qP, qK, qD⟩ := q; exact ⟨q0, q1, qP, va_K.moved (u := U) (U := U.calling gg mk a) (Vm.Alike.refl U.vm) qK, qD⟩, va_recv hKc hPc (ci := ci) (q0 := 0) hc he, fun U hU hW => ⟨rfl, by rw [hU], by rw [hU]; exact hPc, va_K.moved hW.alike hKc, hDc.weaken (fun _ _ _ _ => trivial)⟩⟩ rfl rfl hl.1.1 rfl (lv_room hst) hdg ⟨hkc, hks⟩) hS (fun q _ hq => hFc q hq) hFc (fun r τ' t H1 locs1 ht hvm hw1 hB hz1 hk1 hS1 => ?_)
  obtain ⟨hP1, hK1, hD1⟩ := hB
  rw [ht] at hP1
  obtain ⟨hP2, hD2⟩ := va_join (wr := wX h d σ) (w1 := wM g f τ') hP hD [14, 15, 16] [0, 1, 2, 3, 4, 5, 6, 7, 8, 9, 10, 11, 12, 13] rfl rfl (by decide) (by decide) hk1 hFc hP1 hD1
  exact k r τ' hw1 H1 locs1 ls hP2 hD2 hS1 hl
end ZL
theorem zl_3 {Ln i : Nat} (hL : Ln ≤ 192) (hi : i ≤ Ln) (c : ¬ nI Ln - 3 < nI i) : i + 3 ≤ Ln := by
  rcases Nat.lt_or_ge Ln 3 with q | q
  · exfalso
    apply c
    rw [Int32.lt_iff_toInt_lt, nI_toInt (by omega)]
    have h1 : (nI Ln - 3).toInt < 0 := by
      rcases (show Ln = 0 ∨ Ln = 1 ∨ Ln = 2 by omega) with rfl | rfl | rfl <;> decide +kernel
    omega
  · obtain ⟨k, rfl⟩ : ∃ k, Ln = k + 3 := ⟨Ln - 3, by omega⟩
    have h1 : nI (k + 3) - 3 = nI k := by
      rw [← nI_add, show nI 3 = 3 from by decide, Int32.add_sub_cancel]
    rw [h1, nI_ltI (by omega) (by omega)] at c
    omega
theorem zl_closed (a : Int32) (b : Nat → Nat) (n : Nat) : levz a (fun m => nI (cFz (kXz (cz b n) m) 256)) = levz a (fun m => nI (cFz (kMz (cz b n) m) 256)) :=
  congrArg (levz a) (funext fun m => congrArg nI (cFz_c 256 (fun _ h1 h2 => kz_iff b n m h1 h2)))
theorem zl_largest (a : Int32) (b : Nat → Nat) (n : Nat) : levz a (fun m => nI (cFz (gXz (cz b n) m) 256)) = levz a (fun m => nI (cFz (gMz (cz b n) m) 256)) :=
  congrArg (levz a) (funext fun m => congrArg nI (cFz_c 256 (fun _ h1 h2 => gz_iff b n m h1 h2)))
theorem zl_rules (a q : Int32) (b : Nat → Nat) (n : Nat) : rulz a q (fun m p => nI (ruX (cz b n) m p 256)) = rulz a q (fun m p => nI (ruM (cz b n) m p 256)) :=
  congrArg (rulz a q) (funext fun m => funext fun p => congrArg nI (ru_eq _ m p))
theorem zl_closedSet {a k r r' : Int32} {b : Nat → Nat} {n : Nat} (h : (¬ (1 ≤ a ∧ a ≤ 20) → r = -1) ∧ (∀ m, 1 ≤ m → m ≤ 20 → a = nI m → ksz (kXz (cz b n) m) k r)) (h' : (¬ (1 ≤ a ∧ a ≤ 20) → r' = -1) ∧ (∀ m, 1 ≤ m → m ≤ 20 → a = nI m → ksz (kMz (cz b n) m) k r')) : r = r' := by
  rcases Classical.em (1 ≤ a ∧ a ≤ 20) with e | e
  · obtain ⟨m, m1, m2, e3⟩ := zz_lev e
    exact ksz_u (fun S h1 h2 => kz_iff b n m h1 h2) (h.2 m m1 m2 e3) (h'.2 m m1 m2 e3)
  · rw [h.1 e, h'.1 e]
theorem zl_closure {a r r' : Int32} {b : Nat → Nat} {n : Nat} (h : (¬ (0 ≤ a ∧ a ≤ 255) → r = -1) ∧ (∀ S, S < 256 → a = nI S → clz b n S r)) (h' : (¬ (0 ≤ a ∧ a ≤ 255) → r' = -1) ∧ (∀ S, S < 256 → a = nI S → clz b n S r')) : r = r' := by
  rcases Classical.em (0 ≤ a ∧ a ≤ 255) with e | e
  · obtain ⟨S, hS, e3⟩ := zz_set e
    exact clz_u (h.2 S hS e3) (h'.2 S hS e3)
  · rw [h.1 e, h'.1 e]
end
section
set_option maxRecDepth 100000
set_option maxHeartbeats 4000000 in
theorem law_loop {l : Launch} {D : va_G} {h : Nat → Nat} {d : Nat → ClassId} {g : Nat → Nat} {f : Nat → ClassId} {b Ln : Nat} {xs : Nat → Int32} {ZZ : zzS → zzS → Nat → List Value → List Value → Prop} (C : zlX l D h d g f b Ln xs ZZ) (hL : Ln ≤ 192) (E : ∀ (σ τ : zzS) (pc : Nat) (L : List Value), decode code pc = .ok (.ireturn, 1) → ZZ σ τ pc L [.int 1]) : ∀ i, i ≤ Ln → ∀ (σ τ : zzS) (n : Nat) (bk : Nat → Nat), IXz n bk σ → IMz n bk τ → ZZ σ τ 18 [.ref b, .ref (h 0), .ref (g 0), .int (nI i)] [] := by
  intro i
  generalize hm : Ln - i = k
  induction k using Nat.strongRecOn generalizing i with
  | _ k ih =>
    intro hi σ τ n bk hX hM
    refine zz_iload_n (zl_c C _) dL_law_18 rfl ?_
    refine zz_aload_n (zl_c C _) dL_law_19 rfl ?_
    refine zl_slen C dL_law_20 ?_
    refine zz_iconst (zl_c C _) (v := 3) dL_law_21 (by decide) ?_
    refine zz_isub (zl_c C _) dL_law_22 ?_
    refine zz_icmp_gt (zl_c C _) 361 dL_law_23 (by decide) (fun c23 => ?_) (fun c23 => ?_)
    · refine zz_iconst (zl_c C _) (v := 1) dL_law_361 (by decide) ?_
      refine E _ _ _ _ dL_law_362 
    · have h3 : i + 3 ≤ Ln := zl_3 hL hi c23
      have go : ∀ (σ τ : zzS) (n : Nat) (bk : Nat → Nat), IXz n bk σ → IMz n bk τ → ZZ σ τ 355 [.ref b, .ref (h 0), .ref (g 0), .int (nI i)] [] := by
        intro σ τ n bk hX hM
        refine zz_iinc (zl_c C _) dL_law_355 rfl (zz_inc3 _) (L' := [_, _, _, _]) rfl (by decide) ?_
        refine zz_goto (zl_c C _) 18 dL_law_358 (by decide) ?_
        exact ih (Ln - (i + 3)) (by omega) (i + 3) rfl (by omega) σ τ n bk hX hM
      refine zz_aload_n (zl_c C _) dL_law_26 rfl ?_
      refine zz_iload_n (zl_c C _) dL_law_27 rfl ?_
      refine zl_sld C dL_law_28 i rfl (by omega) hL ?_
      refine zz_bipush (zl_c C _) (v := 15) dL_law_29 (by decide) ?_
      refine zz_iand (zl_c C _) dL_law_31 ?_
      obtain ⟨j, hj, ej⟩ := pk_andE (xs i) (m := 15) 4 (by decide)
      refine zz_eq (nI j) ej ?_
      rcases (show j = 0 ∨ j = 1 ∨ j = 2 ∨ j = 3 ∨ j = 4 ∨ j = 5 ∨ j = 6 ∨ j = 7 ∨ j = 8 ∨ j = 9 ∨ j = 10 ∨ 10 < j by omega) with rfl | rfl | rfl | rfl | rfl | rfl | rfl | rfl | rfl | rfl | rfl | hj10
      · refine zz_tableIn (zl_c C _) (off := 60) 92 dL_law_32 (by decide +kernel) (by decide +kernel) (by decide +kernel) (by decide) ?_
        refine zz_aload_n (zl_c C _) dL_law_92 rfl ?_
        refine zz_aload_n (zl_c C _) dL_law_93 rfl ?_
        refine zz_iload_n (zl_c C _) dL_law_94 rfl ?_
        refine zz_iconst (zl_c C _) (v := 1) dL_law_95 (by decide) ?_
        refine zz_iadd (zl_c C _) dL_law_96 ?_
        refine zz_eq (nI (i + 1)) (nI_1 i) ?_
        refine zl_sld C dL_law_97 (i + 1) rfl (by omega) hL ?_
        refine zl_callX C (X_add l D h d σ hX (xs (i + 1))) rfl rfl rfl q80 q81 q82 q19 q83 (nA := 1) (by decide +kernel) rfl ⟨rfl, rfl, by decide, by decide⟩ rfl (Nat.le_of_ble_eq_true rfl) dL_law_98 (fun r1 σ1 p1 => ?_)
        refine zz_aload_n (zl_c C _) dL_law_101 rfl ?_
        refine zz_aload_n (zl_c C _) dL_law_102 rfl ?_
        refine zz_iload_n (zl_c C _) dL_law_103 rfl ?_
        refine zz_iconst (zl_c C _) (v := 1) dL_law_104 (by decide) ?_
        refine zz_iadd (zl_c C _) dL_law_105 ?_
        refine zz_eq (nI (i + 1)) (nI_1 i) ?_
        refine zl_sld C dL_law_106 (i + 1) rfl (by omega) hL ?_
        refine zl_callM C (M_add l D g f τ hM (xs (i + 1))) rfl rfl rfl q189 q190 q191 q20 q192 (nA := 1) (by decide +kernel) rfl ⟨rfl, rfl, by decide, by decide⟩ rfl (Nat.le_of_ble_eq_true rfl) dL_law_107 (fun r2 τ1 p2 => ?_)
        refine zz_icmp_eq (zl_c C _) 355 dL_law_110 (by decide) (fun c_e => ?_) (fun c_e => ?_)
        · exact go _ _ _ _ p1.1 p2.1
        · exact absurd (p1.2.trans p2.2.symm) c_e
      · refine zz_tableIn (zl_c C _) (off := 83) 115 dL_law_32 (by decide +kernel) (by decide +kernel) (by decide +kernel) (by decide) ?_
        refine zz_aload_n (zl_c C _) dL_law_115 rfl ?_
        refine zl_callX C (X_drop l D h d σ hX) rfl rfl rfl q88 q89 q90 q19 q91 (nA := 0) (by decide +kernel) rfl ⟨rfl, rfl, by decide, by decide⟩ rfl (Nat.le_of_ble_eq_true rfl) dL_law_116 (fun r1 σ1 p1 => ?_)
        refine zz_aload_n (zl_c C _) dL_law_119 rfl ?_
        refine zl_callM C (M_drop l D g f τ hM) rfl rfl rfl q197 q198 q199 q20 q200 (nA := 0) (by decide +kernel) rfl ⟨rfl, rfl, by decide, by decide⟩ rfl (Nat.le_of_ble_eq_true rfl) dL_law_120 (fun r2 τ1 p2 => ?_)
        refine zz_icmp_eq (zl_c C _) 355 dL_law_123 (by decide) (fun c_e => ?_) (fun c_e => ?_)
        · exact go _ _ _ _ p1.1 p2.1
        · exact absurd (p1.2.trans p2.2.symm) c_e
      · refine zz_tableIn (zl_c C _) (off := 96) 128 dL_law_32 (by decide +kernel) (by decide +kernel) (by decide +kernel) (by decide) ?_
        refine zz_aload_n (zl_c C _) dL_law_128 rfl ?_
        refine zz_aload_n (zl_c C _) dL_law_129 rfl ?_
        refine zz_iload_n (zl_c C _) dL_law_130 rfl ?_
        refine zz_iconst (zl_c C _) (v := 1) dL_law_131 (by decide) ?_
        refine zz_iadd (zl_c C _) dL_law_132 ?_
        refine zz_eq (nI (i + 1)) (nI_1 i) ?_
        refine zl_sld C dL_law_133 (i + 1) rfl (by omega) hL ?_
        refine zl_callX C (X_count l D h d σ hX (xs (i + 1))) rfl rfl rfl q92 q93 q94 q19 q95 (nA := 1) (by decide +kernel) rfl ⟨rfl, rfl, by decide, by decide⟩ rfl (Nat.le_of_ble_eq_true rfl) dL_law_134 (fun r1 σ1 p1 => ?_)
        refine zz_aload_n (zl_c C _) dL_law_137 rfl ?_
        refine zz_aload_n (zl_c C _) dL_law_138 rfl ?_
        refine zz_iload_n (zl_c C _) dL_law_139 rfl ?_
        refine zz_iconst (zl_c C _) (v := 1) dL_law_140 (by decide) ?_
        refine zz_iadd (zl_c C _) dL_law_141 ?_
        refine zz_eq (nI (i + 1)) (nI_1 i) ?_
        refine zl_sld C dL_law_142 (i + 1) rfl (by omega) hL ?_
        refine zl_callM C (M_count l D g f τ hM (xs (i + 1))) rfl rfl rfl q201 q202 q203 q20 q204 (nA := 1) (by decide +kernel) rfl ⟨rfl, rfl, by decide, by decide⟩ rfl (Nat.le_of_ble_eq_true rfl) dL_law_143 (fun r2 τ1 p2 => ?_)
        refine zz_icmp_eq (zl_c C _) 355 dL_law_146 (by decide) (fun c_e => ?_) (fun c_e => ?_)
        · exact go _ _ _ _ p1.1 p2.1
        · exact absurd (p1.2.trans p2.2.symm) c_e
      · refine zz_tableIn (zl_c C _) (off := 119) 151 dL_law_32 (by decide +kernel) (by decide +kernel) (by decide +kernel) (by decide) ?_
        refine zz_aload_n (zl_c C _) dL_law_151 rfl ?_
        refine zz_aload_n (zl_c C _) dL_law_152 rfl ?_
        refine zz_iload_n (zl_c C _) dL_law_153 rfl ?_
        refine zz_iconst (zl_c C _) (v := 1) dL_law_154 (by decide) ?_
        refine zz_iadd (zl_c C _) dL_law_155 ?_
        refine zz_eq (nI (i + 1)) (nI_1 i) ?_
        refine zl_sld C dL_law_156 (i + 1) rfl (by omega) hL ?_
        refine zl_callX C (X_frequent l D h d σ hX (xs (i + 1))) rfl rfl rfl q124 q125 q126 q19 q127 (nA := 1) (by decide +kernel) rfl ⟨rfl, rfl, by decide, by decide⟩ rfl (Nat.le_of_ble_eq_true rfl) dL_law_157 (fun r1 σ1 p1 => ?_)
        refine zz_aload_n (zl_c C _) dL_law_160 rfl ?_
        refine zz_aload_n (zl_c C _) dL_law_161 rfl ?_
        refine zz_iload_n (zl_c C _) dL_law_162 rfl ?_
        refine zz_iconst (zl_c C _) (v := 1) dL_law_163 (by decide) ?_
        refine zz_iadd (zl_c C _) dL_law_164 ?_
        refine zz_eq (nI (i + 1)) (nI_1 i) ?_
        refine zl_sld C dL_law_165 (i + 1) rfl (by omega) hL ?_
        refine zl_callM C (M_frequent l D g f τ hM (xs (i + 1))) rfl rfl rfl q209 q210 q211 q20 q212 (nA := 1) (by decide +kernel) rfl ⟨rfl, rfl, by decide, by decide⟩ rfl (Nat.le_of_ble_eq_true rfl) dL_law_166 (fun r2 τ1 p2 => ?_)
        refine zz_icmp_eq (zl_c C _) 355 dL_law_169 (by decide) (fun c_e => ?_) (fun c_e => ?_)
        · exact go _ _ _ _ p1.1 p2.1
        · exact absurd (p1.2.trans p2.2.symm) c_e
      · refine zz_tableIn (zl_c C _) (off := 142) 174 dL_law_32 (by decide +kernel) (by decide +kernel) (by decide +kernel) (by decide) ?_
        refine zz_aload_n (zl_c C _) dL_law_174 rfl ?_
        refine zz_aload_n (zl_c C _) dL_law_175 rfl ?_
        refine zz_iload_n (zl_c C _) dL_law_176 rfl ?_
        refine zz_iconst (zl_c C _) (v := 1) dL_law_177 (by decide) ?_
        refine zz_iadd (zl_c C _) dL_law_178 ?_
        refine zz_eq (nI (i + 1)) (nI_1 i) ?_
        refine zl_sld C dL_law_179 (i + 1) rfl (by omega) hL ?_
        refine zl_callX C (X_closed l D h d σ hX (xs (i + 1))) rfl rfl rfl q132 q133 q134 q19 q135 (nA := 1) (by decide +kernel) rfl ⟨rfl, rfl, by decide, by decide⟩ rfl (Nat.le_of_ble_eq_true rfl) dL_law_180 (fun r1 σ1 p1 => ?_)
        refine zz_aload_n (zl_c C _) dL_law_183 rfl ?_
        refine zz_aload_n (zl_c C _) dL_law_184 rfl ?_
        refine zz_iload_n (zl_c C _) dL_law_185 rfl ?_
        refine zz_iconst (zl_c C _) (v := 1) dL_law_186 (by decide) ?_
        refine zz_iadd (zl_c C _) dL_law_187 ?_
        refine zz_eq (nI (i + 1)) (nI_1 i) ?_
        refine zl_sld C dL_law_188 (i + 1) rfl (by omega) hL ?_
        refine zl_callM C (M_closed l D g f τ hM (xs (i + 1))) rfl rfl rfl q217 q218 q219 q20 q220 (nA := 1) (by decide +kernel) rfl ⟨rfl, rfl, by decide, by decide⟩ rfl (Nat.le_of_ble_eq_true rfl) dL_law_189 (fun r2 τ1 p2 => ?_)
        refine zz_icmp_eq (zl_c C _) 355 dL_law_192 (by decide) (fun c_e => ?_) (fun c_e => ?_)
        · exact go _ _ _ _ p1.1 p2.1
        · exact absurd (by rw [p1.2, p2.2]; exact zl_closed _ _ _) c_e
      · refine zz_tableIn (zl_c C _) (off := 165) 197 dL_law_32 (by decide +kernel) (by decide +kernel) (by decide +kernel) (by decide) ?_
        refine zz_aload_n (zl_c C _) dL_law_197 rfl ?_
        refine zz_aload_n (zl_c C _) dL_law_198 rfl ?_
        refine zz_iload_n (zl_c C _) dL_law_199 rfl ?_
        refine zz_iconst (zl_c C _) (v := 1) dL_law_200 (by decide) ?_
        refine zz_iadd (zl_c C _) dL_law_201 ?_
        refine zz_eq (nI (i + 1)) (nI_1 i) ?_
        refine zl_sld C dL_law_202 (i + 1) rfl (by omega) hL ?_
        refine zl_callX C (X_largest l D h d σ hX (xs (i + 1))) rfl rfl rfl q140 q141 q142 q19 q143 (nA := 1) (by decide +kernel) rfl ⟨rfl, rfl, by decide, by decide⟩ rfl (Nat.le_of_ble_eq_true rfl) dL_law_203 (fun r1 σ1 p1 => ?_)
        refine zz_aload_n (zl_c C _) dL_law_206 rfl ?_
        refine zz_aload_n (zl_c C _) dL_law_207 rfl ?_
        refine zz_iload_n (zl_c C _) dL_law_208 rfl ?_
        refine zz_iconst (zl_c C _) (v := 1) dL_law_209 (by decide) ?_
        refine zz_iadd (zl_c C _) dL_law_210 ?_
        refine zz_eq (nI (i + 1)) (nI_1 i) ?_
        refine zl_sld C dL_law_211 (i + 1) rfl (by omega) hL ?_
        refine zl_callM C (M_largest l D g f τ hM (xs (i + 1))) rfl rfl rfl q229 q230 q231 q20 q232 (nA := 1) (by decide +kernel) rfl ⟨rfl, rfl, by decide, by decide⟩ rfl (Nat.le_of_ble_eq_true rfl) dL_law_212 (fun r2 τ1 p2 => ?_)
        refine zz_icmp_eq (zl_c C _) 355 dL_law_215 (by decide) (fun c_e => ?_) (fun c_e => ?_)
        · exact go _ _ _ _ p1.1 p2.1
        · exact absurd (by rw [p1.2, p2.2]; exact zl_largest _ _ _) c_e
      · refine zz_tableIn (zl_c C _) (off := 188) 220 dL_law_32 (by decide +kernel) (by decide +kernel) (by decide +kernel) (by decide) ?_
        refine zz_aload_n (zl_c C _) dL_law_220 rfl ?_
        refine zz_aload_n (zl_c C _) dL_law_221 rfl ?_
        refine zz_iload_n (zl_c C _) dL_law_222 rfl ?_
        refine zz_iconst (zl_c C _) (v := 1) dL_law_223 (by decide) ?_
        refine zz_iadd (zl_c C _) dL_law_224 ?_
        refine zz_eq (nI (i + 1)) (nI_1 i) ?_
        refine zl_sld C dL_law_225 (i + 1) rfl (by omega) hL ?_
        refine zz_aload_n (zl_c C _) dL_law_226 rfl ?_
        refine zz_iload_n (zl_c C _) dL_law_227 rfl ?_
        refine zz_iconst (zl_c C _) (v := 2) dL_law_228 (by decide) ?_
        refine zz_iadd (zl_c C _) dL_law_229 ?_
        refine zz_eq (nI (i + 2)) (nI_add i 2) ?_
        refine zl_sld C dL_law_230 (i + 2) rfl (by omega) hL ?_
        refine zl_callX C (X_closedSet l D h d σ hX (xs (i + 1)) (xs (i + 2))) rfl rfl rfl q148 q149 q150 q19 q151 (nA := 2) (by decide +kernel) rfl ⟨rfl, rfl, by decide, by decide⟩ rfl (Nat.le_of_ble_eq_true rfl) dL_law_231 (fun r1 σ1 p1 => ?_)
        refine zz_aload_n (zl_c C _) dL_law_234 rfl ?_
        refine zz_aload_n (zl_c C _) dL_law_235 rfl ?_
        refine zz_iload_n (zl_c C _) dL_law_236 rfl ?_
        refine zz_iconst (zl_c C _) (v := 1) dL_law_237 (by decide) ?_
        refine zz_iadd (zl_c C _) dL_law_238 ?_
        refine zz_eq (nI (i + 1)) (nI_1 i) ?_
        refine zl_sld C dL_law_239 (i + 1) rfl (by omega) hL ?_
        refine zz_aload_n (zl_c C _) dL_law_240 rfl ?_
        refine zz_iload_n (zl_c C _) dL_law_241 rfl ?_
        refine zz_iconst (zl_c C _) (v := 2) dL_law_242 (by decide) ?_
        refine zz_iadd (zl_c C _) dL_law_243 ?_
        refine zz_eq (nI (i + 2)) (nI_add i 2) ?_
        refine zl_sld C dL_law_244 (i + 2) rfl (by omega) hL ?_
        refine zl_callM C (M_closedSet l D g f τ hM (xs (i + 1)) (xs (i + 2))) rfl rfl rfl q233 q234 q235 q20 q236 (nA := 2) (by decide +kernel) rfl ⟨rfl, rfl, by decide, by decide⟩ rfl (Nat.le_of_ble_eq_true rfl) dL_law_245 (fun r2 τ1 p2 => ?_)
        refine zz_icmp_eq (zl_c C _) 355 dL_law_248 (by decide) (fun c_e => ?_) (fun c_e => ?_)
        · exact go _ _ _ _ p1.1 p2.1
        · exact absurd (zl_closedSet p1.2 p2.2) c_e
      · refine zz_tableIn (zl_c C _) (off := 221) 253 dL_law_32 (by decide +kernel) (by decide +kernel) (by decide +kernel) (by decide) ?_
        refine zz_aload_n (zl_c C _) dL_law_253 rfl ?_
        refine zz_aload_n (zl_c C _) dL_law_254 rfl ?_
        refine zz_iload_n (zl_c C _) dL_law_255 rfl ?_
        refine zz_iconst (zl_c C _) (v := 1) dL_law_256 (by decide) ?_
        refine zz_iadd (zl_c C _) dL_law_257 ?_
        refine zz_eq (nI (i + 1)) (nI_1 i) ?_
        refine zl_sld C dL_law_258 (i + 1) rfl (by omega) hL ?_
        refine zl_callX C (X_closure l D h d σ hX (xs (i + 1))) rfl rfl rfl q152 q153 q154 q19 q155 (nA := 1) (by decide +kernel) rfl ⟨rfl, rfl, by decide, by decide⟩ rfl (Nat.le_of_ble_eq_true rfl) dL_law_259 (fun r1 σ1 p1 => ?_)
        refine zz_aload_n (zl_c C _) dL_law_262 rfl ?_
        refine zz_aload_n (zl_c C _) dL_law_263 rfl ?_
        refine zz_iload_n (zl_c C _) dL_law_264 rfl ?_
        refine zz_iconst (zl_c C _) (v := 1) dL_law_265 (by decide) ?_
        refine zz_iadd (zl_c C _) dL_law_266 ?_
        refine zz_eq (nI (i + 1)) (nI_1 i) ?_
        refine zl_sld C dL_law_267 (i + 1) rfl (by omega) hL ?_
        refine zl_callM C (M_closure l D g f τ hM (xs (i + 1))) rfl rfl rfl q237 q238 q239 q20 q240 (nA := 1) (by decide +kernel) rfl ⟨rfl, rfl, by decide, by decide⟩ rfl (Nat.le_of_ble_eq_true rfl) dL_law_268 (fun r2 τ1 p2 => ?_)
        refine zz_icmp_eq (zl_c C _) 355 dL_law_271 (by decide) (fun c_e => ?_) (fun c_e => ?_)
        · exact go _ _ _ _ p1.1 p2.1
        · exact absurd (zl_closure p1.2 p2.2) c_e
      · refine zz_tableIn (zl_c C _) (off := 244) 276 dL_law_32 (by decide +kernel) (by decide +kernel) (by decide +kernel) (by decide) ?_
        refine zz_aload_n (zl_c C _) dL_law_276 rfl ?_
        refine zz_aload_n (zl_c C _) dL_law_277 rfl ?_
        refine zz_iload_n (zl_c C _) dL_law_278 rfl ?_
        refine zz_iconst (zl_c C _) (v := 1) dL_law_279 (by decide) ?_
        refine zz_iadd (zl_c C _) dL_law_280 ?_
        refine zz_eq (nI (i + 1)) (nI_1 i) ?_
        refine zl_sld C dL_law_281 (i + 1) rfl (by omega) hL ?_
        refine zl_callX C (X_widest l D h d σ hX (xs (i + 1))) rfl rfl rfl q156 q157 q158 q19 q159 (nA := 1) (by decide +kernel) rfl ⟨rfl, rfl, by decide, by decide⟩ rfl (Nat.le_of_ble_eq_true rfl) dL_law_282 (fun r1 σ1 p1 => ?_)
        refine zz_aload_n (zl_c C _) dL_law_285 rfl ?_
        refine zz_aload_n (zl_c C _) dL_law_286 rfl ?_
        refine zz_iload_n (zl_c C _) dL_law_287 rfl ?_
        refine zz_iconst (zl_c C _) (v := 1) dL_law_288 (by decide) ?_
        refine zz_iadd (zl_c C _) dL_law_289 ?_
        refine zz_eq (nI (i + 1)) (nI_1 i) ?_
        refine zl_sld C dL_law_290 (i + 1) rfl (by omega) hL ?_
        refine zl_callM C (M_widest l D g f τ hM (xs (i + 1))) rfl rfl rfl q241 q242 q243 q20 q244 (nA := 1) (by decide +kernel) rfl ⟨rfl, rfl, by decide, by decide⟩ rfl (Nat.le_of_ble_eq_true rfl) dL_law_291 (fun r2 τ1 p2 => ?_)
        refine zz_icmp_eq (zl_c C _) 355 dL_law_294 (by decide) (fun c_e => ?_) (fun c_e => ?_)
        · exact go _ _ _ _ p1.1 p2.1
        · exact absurd (p1.2.trans p2.2.symm) c_e
      · refine zz_tableIn (zl_c C _) (off := 267) 299 dL_law_32 (by decide +kernel) (by decide +kernel) (by decide +kernel) (by decide) ?_
        refine zz_aload_n (zl_c C _) dL_law_299 rfl ?_
        refine zz_aload_n (zl_c C _) dL_law_300 rfl ?_
        refine zz_iload_n (zl_c C _) dL_law_301 rfl ?_
        refine zz_iconst (zl_c C _) (v := 1) dL_law_302 (by decide) ?_
        refine zz_iadd (zl_c C _) dL_law_303 ?_
        refine zz_eq (nI (i + 1)) (nI_1 i) ?_
        refine zl_sld C dL_law_304 (i + 1) rfl (by omega) hL ?_
        refine zz_aload_n (zl_c C _) dL_law_305 rfl ?_
        refine zz_iload_n (zl_c C _) dL_law_306 rfl ?_
        refine zz_iconst (zl_c C _) (v := 2) dL_law_307 (by decide) ?_
        refine zz_iadd (zl_c C _) dL_law_308 ?_
        refine zz_eq (nI (i + 2)) (nI_add i 2) ?_
        refine zl_sld C dL_law_309 (i + 2) rfl (by omega) hL ?_
        refine zl_callX C (X_rules l D h d σ hX (xs (i + 1)) (xs (i + 2))) rfl rfl rfl q164 q165 q166 q19 q167 (nA := 2) (by decide +kernel) rfl ⟨rfl, rfl, by decide, by decide⟩ rfl (Nat.le_of_ble_eq_true rfl) dL_law_310 (fun r1 σ1 p1 => ?_)
        refine zz_aload_n (zl_c C _) dL_law_313 rfl ?_
        refine zz_aload_n (zl_c C _) dL_law_314 rfl ?_
        refine zz_iload_n (zl_c C _) dL_law_315 rfl ?_
        refine zz_iconst (zl_c C _) (v := 1) dL_law_316 (by decide) ?_
        refine zz_iadd (zl_c C _) dL_law_317 ?_
        refine zz_eq (nI (i + 1)) (nI_1 i) ?_
        refine zl_sld C dL_law_318 (i + 1) rfl (by omega) hL ?_
        refine zz_aload_n (zl_c C _) dL_law_319 rfl ?_
        refine zz_iload_n (zl_c C _) dL_law_320 rfl ?_
        refine zz_iconst (zl_c C _) (v := 2) dL_law_321 (by decide) ?_
        refine zz_iadd (zl_c C _) dL_law_322 ?_
        refine zz_eq (nI (i + 2)) (nI_add i 2) ?_
        refine zl_sld C dL_law_323 (i + 2) rfl (by omega) hL ?_
        refine zl_callM C (M_rules l D g f τ hM (xs (i + 1)) (xs (i + 2))) rfl rfl rfl q249 q250 q251 q20 q252 (nA := 2) (by decide +kernel) rfl ⟨rfl, rfl, by decide, by decide⟩ rfl (Nat.le_of_ble_eq_true rfl) dL_law_324 (fun r2 τ1 p2 => ?_)
        refine zz_icmp_eq (zl_c C _) 355 dL_law_327 (by decide) (fun c_e => ?_) (fun c_e => ?_)
        · exact go _ _ _ _ p1.1 p2.1
        · exact absurd (by rw [p1.2, p2.2]; exact zl_rules _ _ _ _) c_e
      · refine zz_tableIn (zl_c C _) (off := 300) 332 dL_law_32 (by decide +kernel) (by decide +kernel) (by decide +kernel) (by decide) ?_
        refine zz_aload_n (zl_c C _) dL_law_332 rfl ?_
        refine zz_aload_n (zl_c C _) dL_law_333 rfl ?_
        refine zz_iload_n (zl_c C _) dL_law_334 rfl ?_
        refine zz_iconst (zl_c C _) (v := 1) dL_law_335 (by decide) ?_
        refine zz_iadd (zl_c C _) dL_law_336 ?_
        refine zz_eq (nI (i + 1)) (nI_1 i) ?_
        refine zl_sld C dL_law_337 (i + 1) rfl (by omega) hL ?_
        refine zl_callX C (X_companion l D h d σ hX (xs (i + 1))) rfl rfl rfl q168 q169 q170 q19 q171 (nA := 1) (by decide +kernel) rfl ⟨rfl, rfl, by decide, by decide⟩ rfl (Nat.le_of_ble_eq_true rfl) dL_law_338 (fun r1 σ1 p1 => ?_)
        refine zz_aload_n (zl_c C _) dL_law_341 rfl ?_
        refine zz_aload_n (zl_c C _) dL_law_342 rfl ?_
        refine zz_iload_n (zl_c C _) dL_law_343 rfl ?_
        refine zz_iconst (zl_c C _) (v := 1) dL_law_344 (by decide) ?_
        refine zz_iadd (zl_c C _) dL_law_345 ?_
        refine zz_eq (nI (i + 1)) (nI_1 i) ?_
        refine zl_sld C dL_law_346 (i + 1) rfl (by omega) hL ?_
        refine zl_callM C (M_companion l D g f τ hM (xs (i + 1))) rfl rfl rfl q253 q254 q255 q20 q256 (nA := 1) (by decide +kernel) rfl ⟨rfl, rfl, by decide, by decide⟩ rfl (Nat.le_of_ble_eq_true rfl) dL_law_347 (fun r2 τ1 p2 => ?_)
        refine zz_icmp_eq (zl_c C _) 355 dL_law_350 (by decide) (fun c_e => ?_) (fun c_e => ?_)
        · exact go _ _ _ _ p1.1 p2.1
        · exact absurd (p1.2.trans p2.2.symm) c_e
      · refine zz_tableOut (zl_c C _) 355 dL_law_32 (Or.inr (by rw [nI_toInt (by omega)]; omega)) (by decide) ?_
        exact go σ τ n bk hX hM
end
section
set_option maxRecDepth 100000
/-! THE CLAIM OUT OF ONE WALK OF THE LAW'S BODY. Your part is whole_start (and what it stands on); all else here is the same for every law, but numbers. -/
def R_law : String := "FrequentSetsLaw"
def lw_P (b : Addr) (xs : List Int32) (args : Array Value) (s : State) : Prop := args = #[.ref b] ∧ s.IntsAt b xs ∧ xs.length ≤ 192 ∧ (Jvm.Cond.and given_1 narrow_1).before args s = true
def lw_Q (_ : Array Value) (s : State) (o : Outcome) (t : State) : Prop := o = .returned (some (.int 1)) ∧ Framed s o t [] 600000 7290000
def lw_Z (below : List Frame) (a : Array Value) (s : State) : State → Prop := fun t => ∃ o, t.status = .running ∧ Ended t below o ∧ lw_Q a s o t
/-- the law's own end, with 1 on the stack, nothing written that was there before, its room as the claim has it -/
theorem lw_ret {p : Program} {l : Launch} {e : Env} {s : State} {m : MethodId} {below : List Frame} {meth : Method} {c : Code} {b : Nat} (hx : p.tables.exec = Jvm.exec) (hb : c.code = code) (hr : meth.sig.returnType = ret) (hlocks : meth.locks = false) {pc : Nat} {H : Heap} {ls : Array Slot} (hdg : decode code pc = .ok (.ireturn, 1)) : W p l e room_1 s m #[Value.ref b] below meth c H [] 600000 7290000 (lw_Z below #[Value.ref b] s) (F0 m pc ls [.int 1]) := by
  intro T hT X
  obtain ⟨fs, hret, hrun, hended, hW, hframe⟩ := X.leave (v := some (.int 1)) (hlocks := hlocks) (fun h => by rw [hr] at h; cases h)
  have hmeth' : T.vm.method? m = some meth := X.method'
  refine ⟨T.setFrames fs, ?_, .returned (some (.int 1)), hrun, hended, rfl, ⟨_, rfl⟩, hW, hframe⟩
  jvm_step X.here [X.here.top, hx, hb, hdg, hmeth', hr, ret, narrow_b1]
  (try refine ⟨rfl, ?_⟩); (try refine ⟨rfl, ?_⟩)
  first | (intro acts; rw [hret _ acts rfl rfl rfl]) | rw [hret _ _ rfl rfl rfl]
  exact Steps.refl _
/-- what holds at the law's entry: the machine, the code, the tables' words (any of lw_tbl by 'hts w (by decide +kernel)'), the script of L ints xs at the cell b, what the Statement gives of the start (any of its parts by flat_of_before) -/
def lw_At (p : Program) (s : State) (m : MethodId) (meth : Method) (c : Code) (b L : Nat) (xs : Nat → Int32) : Prop :=
  p.tables.exec = Jvm.exec ∧ c.code = code ∧ meth.sig.returnType = ret ∧ c.maxLocals = 4 ∧ s.vm.findClass R_law = some m.cls ∧ (∀ w ∈ lw_tbl, w.before #[Value.ref b] s = true) ∧ va_X b L xs s s.heap ∧ b < s.heap.size ∧ meth.locks = false ∧ (Jvm.Cond.and given_1 narrow_1).before #[Value.ref b] s = true
set_option maxHeartbeats 4000000 in
theorem whole_start {p : Program} {e : Env} {s : State} {m : MethodId} {below : List Frame} {meth : Method} {c : Code} (l : Launch) {b L : Nat} {xs : Nat → Int32} (hL : L ≤ 192) (C0 : lw_At p s m meth c b L xs) : W p l e room_1 s m #[Value.ref b] below meth c s.heap [] 0 0 (lw_Z below #[Value.ref b] s) (entryFrame m ([Value.ref b] : List Value).toArray 4) := by
  obtain ⟨hx, hb, hr, hml, hown, hts0, hX, hbl, hlocks, hgv⟩ := id C0
  have hts : ∀ w ∈ lw_all, w.before #[Value.ref b] s = true := fun w hw => hts0 w (lw_all_tbl hw)
  have hA : ∀ q : Nat, s.heap.size ≤ q → (fun q : Nat => s.heap.size ≤ q) q := fun _ hq => hq
  have hbA : ¬ (fun q : Nat => s.heap.size ≤ q) b := Nat.not_le.mpr hbl
  obtain ⟨c0, iS0, hKn0⟩ := u_known (C := RX0) (T := TX0) (N := 16) (n := 16) hts in_X0 (hts _ q22)
  obtain ⟨c1, iS1, hKn1⟩ := u_known (C := RX1) (T := TX1) (N := 3) (n := 3) hts in_X1 (hts _ q173)
  obtain ⟨D, hKn⟩ : ∃ D : va_G, ∀ (k : Nat) (q : vw_C), zzcl[k]? = some q → u_Kn s q.1 q.2.1 q.2.2 (D.1 k) (D.2 k) := by
    refine ⟨(fun k => if k = 0 then c0 else c1, fun k => if k = 0 then iS0 else iS1), ?_⟩
    intro k q hq
    match k, hq with
    | 0, hq => cases hq; exact hKn0
    | 1, hq => cases hq; exact hKn1
    | k + 2, hq => simp [zzcl] at hq
  have hS : va_S (fun q : Nat => s.heap.size ≤ q) s.heap s.heap [] := va_S.rf
  have hK : va_K D zzcl [] s := ⟨hKn, fun k q hq => by simp at hq⟩
  have hP : va_P D zzcl [] s.heap := fun k q hq => by simp at hq
  have hD : va_D (fun q : Nat => s.heap.size ≤ q) [] := ⟨fun i j p q hq => by simp at hq, fun k q hq => by simp at hq⟩
  have hl := lv_entry ([.ref b]) (n := 4) (Nat.le_of_ble_eq_true rfl)
  rw [lg_entry_eq]
  generalize (lg_sl ([.ref b]) ++ List.replicate (4 - (lg_sl ([.ref b])).length) Slot.unset).toArray = ls at hl ⊢
  have hl : lv_has ls 4 [(0, .ref b)] := hl
  refine va_new (D := D) (cl := zzcl) (ci := 0) (fs := [.int 0, .null, .int 0, .int 0, .null, .null, .null, .null, .null, .null, .null, .null, .null, .null, .null, .null]) (C := RX0) (T := TX0) (N := 16) hx hb hts in_X0 tyX0 tyX0_ok hown (hts _ q21) (hts _ q22) (hts _ q19) hK hP hD hS hA rfl (fun j hj => by rcases (show j = 0 ∨ j = 1 ∨ j = 2 ∨ j = 3 ∨ j = 4 ∨ j = 5 ∨ j = 6 ∨ j = 7 ∨ j = 8 ∨ j = 9 ∨ j = 10 ∨ j = 11 ∨ j = 12 ∨ j = 13 ∨ j = 14 ∨ j = 15 by omega) with rfl | rfl | rfl | rfl | rfl | rfl | rfl | rfl | rfl | rfl | rfl | rfl | rfl | rfl | rfl | rfl <;> rfl) (Nat.le_of_ble_eq_true rfl) (Nat.le_of_ble_eq_true rfl) dL_law_0 (fun a0 H hP hD hS => ?_)
  have hP : va_P D zzcl [(a0, .inr (0, [.int 0, .null, .int 0, .int 0, .null, .null, .null, .null, .null, .null, .null, .null, .null, .null, .null, .null]))] H := hP
  have hD : va_D (fun q : Nat => s.heap.size ≤ q) [(a0, .inr (0, [.int 0, .null, .int 0, .int 0, .null, .null, .null, .null, .null, .null, .null, .null, .null, .null, .null, .null]))] := hD
  refine W.widen (k := 1) (n := 16) (by decide) (by decide) ?_
  refine lv_dup hx hb dL_law_3 rfl ?_
  have hPc := hP
  have hDc := hD
  have hKc := hK
  have hFc := va_free (wc := [(a0, .inr (0, [.int 0, .null, .int 0, .int 0, .null, .null, .null, .null, .null, .null, .null, .null, .null, .null, .null, .null]))]) hD hS hA [0] rfl
  refine va_callv (va_runI (As := []) (rest := [.ref a0]) ⟨hx, hb, hml, hown, hts⟩ (X_init l D a0 H.size) (cwI 0 hts (lw_meth q25) rfl rfl rfl (hts _ q19) (hts _ q23) (hts _ q24) rfl (by decide +kernel) ⟨Nat.le_of_ble_eq_true rfl, Nat.le_of_ble_eq_true rfl⟩) ⟨fun a U gg mk q => by obtain ⟨q0, q1, qP, qK, qD⟩ := q; exact ⟨q0, q1, qP, va_K.moved (u := U) (U := U.calling gg mk a) (Vm.Alike.refl U.vm) qK, qD⟩, fun U hU hW => ⟨rfl, by rw [hU], by rw [hU]; exact hPc, va_K.moved hW.alike hKc, hDc.weaken (fun _ _ _ _ => trivial)⟩⟩ rfl rfl hl.1 rfl (lv_room (Nat.le_of_ble_eq_true rfl)) dL_law_4 ⟨Nat.le_of_ble_eq_true rfl, Nat.le_of_ble_eq_true rfl⟩) hS (fun q _ hq => hFc q hq) hFc (fun u t H1 locs ht hvm hw hB hz1 hk1 hS => ?_)
  obtain ⟨h, d⟩ := u
  obtain ⟨e0, hP1, hK1, hD1⟩ := hB
  rw [ht] at hP1
  have e0 : h 0 = a0 := e0
  subst e0
  have hK : va_K D zzcl (tX d) s := va_K.moved hvm.symm hK1
  obtain ⟨hP, hD⟩ := va_join (wr := []) (w1 := wX h d (fun _ _ => 0)) hP hD [0] [] rfl rfl (by decide) (by decide) hk1 hFc hP1 hD1
  clear hk1 hP1 hD1 hPc hDc hKc hFc hK1 ht hvm
  generalize H1 = H at hP hS ⊢
  have hP : va_P D zzcl (wX h d (fun _ _ => 0)) H := hP
  have hD : va_D (fun q : Nat => s.heap.size ≤ q) (wX h d (fun _ _ => 0)) := hD
  refine W.widen (k := 14) (n := 3000) (by decide) (by decide) ?_
  refine lv_astore_n (lv' := [(1, .ref (h 0)), (0, .ref b)]) hx hb dL_law_7 rfl hl (by decide) rfl (fun ls hl => ?_)
  refine va_new (D := D) (cl := zzcl) (ci := 1) (fs := [.int 0, .null, .null]) (C := RX1) (T := TX1) (N := 3) hx hb hts in_X1 tyX1 tyX1_ok hown (hts _ q172) (hts _ q173) (hts _ q20) hK hP hD hS hA rfl (fun j hj => by rcases (show j = 0 ∨ j = 1 ∨ j = 2 by omega) with rfl | rfl | rfl <;> rfl) (Nat.le_of_ble_eq_true rfl) (Nat.le_of_ble_eq_true rfl) dL_law_8 (fun a0 H hP hD hS => ?_)
  refine W.widen (k := 15) (n := 3003) (by decide) (by decide) ?_
  refine lv_dup hx hb dL_law_11 rfl ?_
  have hPc : va_P D zzcl [(a0, .inr (1, [.int 0, .null, .null]))] H := hP.sub [14] rfl
  have hDc : va_D (fun q : Nat => s.heap.size ≤ q) [(a0, .inr (1, [.int 0, .null, .null]))] := hD.sub [14] (by decide) rfl
  have hKc : va_K D zzcl [] s := hK.sub [] rfl
  have hFc := va_free (wc := [(a0, .inr (1, [.int 0, .null, .null]))]) hD hS hA [14] rfl
  refine va_callv (va_runI (As := []) (rest := [.ref a0]) ⟨hx, hb, hml, hown, hts⟩ (M_init l D a0 H.size) (cwI 0 hts (lw_meth q176) rfl rfl rfl (hts _ q20) (hts _ q174) (hts _ q175) rfl (by decide +kernel) ⟨Nat.le_of_ble_eq_true rfl, Nat.le_of_ble_eq_true rfl⟩) ⟨fun a U gg mk q => by obtain ⟨q0, q1, qP, qK, qD⟩ := q; exact ⟨q0, q1, qP, va_K.moved (u := U) (U := U.calling gg mk a) (Vm.Alike.refl U.vm) qK, qD⟩, fun U hU hW => ⟨rfl, by rw [hU], by rw [hU]; exact hPc, va_K.moved hW.alike hKc, hDc.weaken (fun _ _ _ _ => trivial)⟩⟩ rfl rfl hl.1 rfl (lv_room (Nat.le_of_ble_eq_true rfl)) dL_law_12 ⟨Nat.le_of_ble_eq_true rfl, Nat.le_of_ble_eq_true rfl⟩) hS (fun q _ hq => hFc q hq) hFc (fun u t H1 locs ht hvm hw hB hz1 hk1 hS => ?_)
  obtain ⟨g, f⟩ := u
  obtain ⟨e0, hP1, hK1, hD1⟩ := hB
  rw [ht] at hP1
  have e0 : g 0 = a0 := e0
  subst e0
  have hK : va_K D zzcl (tX d ++ tM f) s := hK.app (va_K.moved hvm.symm hK1)
  obtain ⟨hP, hD⟩ := va_join (wr := wX h d (fun _ _ => 0)) (w1 := wM g f (fun _ _ => 0)) hP hD [14] [0, 1, 2, 3, 4, 5, 6, 7, 8, 9, 10, 11, 12, 13] rfl rfl (by decide) (by decide) hk1 hFc hP1 hD1
  clear hk1 hP1 hD1 hPc hDc hKc hFc hK1 ht hvm
  generalize H1 = H at hP hS ⊢
  refine W.widen (k := 600000) (n := 7290000) (by decide) (by decide) ?_
  refine lv_astore_n (lv' := [(2, .ref (g 0)), (1, .ref (h 0)), (0, .ref b)]) hx hb dL_law_15 rfl hl (by decide) rfl (fun ls hl => ?_)
  refine lv_iconst (v := nI 0) hx hb dL_law_16 (by decide) ?_
  refine lv_istore_n (lv' := [(3, .int (nI 0)), (2, .ref (g 0)), (1, .ref (h 0)), (0, .ref b)]) hx hb dL_law_17 rfl hl (by decide) rfl (fun ls hl => ?_)
  have hl1 : lv_has ls 4 (zzL 0 [.ref b, .ref (h 0), .ref (g 0), .int (nI 0)]) := lv_sub hl [3, 2, 1, 0] rfl
  have hl2 : zzLs ls 4 [.ref b, .ref (h 0), .ref (g 0), .int (nI 0)] := ⟨hl1, fun v hv => by
    simp only [List.mem_cons, List.not_mem_nil, or_false] at hv
    rcases hv with rfl | rfl | rfl | rfl <;> rfl⟩
  exact law_loop (l := l) (D := D) (h := h) (d := d) (g := g) (f := f) (b := b) (Ln := L) (xs := xs) (ZZ := fun σ τ pc L' st => zzW p l e room_1 s m #[Value.ref b] below meth c D (fun q : Nat => s.heap.size ≤ q) 4 600000 7290000 (lw_Z below #[Value.ref b] s) (wX h d σ ++ wM g f τ) pc L' st) ⟨p, e, s, m, #[Value.ref b], below, meth, c, _, 600000, 7290000, _, ⟨hx, hb, hml, hown, hts, hK, hA, Nat.le_of_ble_eq_true rfl, Nat.le_of_ble_eq_true rfl⟩, ⟨hX, hbl, hbA⟩, rfl⟩ hL (fun σ τ pc L' hdg H locs ls hP hD hS hl => va_forget hS.2.2 (lw_ret hx hb hr hlocks hdg)) 0 (Nat.zero_le L) (fun _ _ => 0) (fun _ _ => 0) 0 (fun _ => 0) ⟨⟨by decide, by decide, fun k hk => absurd hk (Nat.not_lt_zero k)⟩, Or.inl rfl⟩ ⟨by decide, by decide, fun k hk => absurd hk (Nat.not_lt_zero k)⟩ H locs ls hP hD hS hl2
set_option maxHeartbeats 4000000 in
theorem lw_walk (l : Launch) (b : Addr) (xs : List Int32) : MetFree l x (headSpec (Jvm.Cond.code x code maxLocals ret :: tables_1) room_1) (lw_P b xs) (fun _ _ _ _ _ => True) lw_Q := by
  refine MetFree.of_bodyS (code := code) (maxLocals := maxLocals) (ret := ret) (by decide) ?_ ?_
  · intro args s m h hn
    obtain ⟨meth, c, h1, h2, h3, h4, h5, h6, -, -⟩ := Cond.code_spec hn (atoms_spec (ws := Jvm.Cond.code x code maxLocals ret :: tables_1) h _ List.mem_cons_self)
    exact ⟨meth, c, h1, h2, h3, h4, h5, h6⟩
  · intro p e s m args below meth c s₁ B hml0 hP _
    obtain ⟨rfl, hx, hbd, hgv⟩ := hP
    obtain ⟨scr, harrAt, hlist, hof, hsmall⟩ := hx
    obtain ⟨hcb, hkn, -, -⟩ := State.arrayAt?_spec harrAt
    have hown : s.vm.findClass R_law = some m.cls := findClass_of_methodNamed B.named
    have hts0 : ∀ c ∈ (Jvm.Cond.code x code maxLocals ret :: tables_1), c.before #[Value.ref b] s = true := atoms_spec (ws := Jvm.Cond.code x code maxLocals ret :: tables_1) B.pre
    have hts : ∀ w ∈ lw_tbl, w.before #[Value.ref b] s = true := k2_hts_sels lw_privs (fun w hw => hts0 w (List.mem_cons_of_mem _ hw)) lw_privs_ok
    have hml : c.maxLocals = 4 := B.maxLocals_eq (hts0 _ List.mem_cons_self)
    have X₀ : Stand p l e room_1 s m #[Value.ref b] below meth c s₁ [] 0 0 := Stand.of_body B
    have hh0 : s₁.heap = s.heap := by rw [B.state]; rfl
    have hsz : scr.slots.size = xs.length := by rw [← Array.length_toList, hlist, List.length_map]
    have hval : ∀ j : Nat, j < xs.length → scr.slots[j]? = some (.int (xs.getD j 0)) := fun j hj => by
      rw [← Array.getElem?_toList, hlist]
      simp [hj]
    have hbl : b < s.heap.size := (Array.getElem?_eq_some_iff.mp hcb).1
    have hX : va_X b xs.length (fun j => xs.getD j 0) s s.heap := ⟨scr, hcb, hof, hkn, hsz, hval⟩
    have K : W p l e room_1 s m #[Value.ref b] below meth c s₁.heap [] 0 0 (lw_Z below #[Value.ref b] s) (entryFrame m ([Value.ref b] : List Value).toArray 4) := by
      rw [hh0]
      exact whole_start l hbd ⟨B.exec, B.bytes, B.returns, hml, hown, hts, hX, hbl, B.notSynchronized, hgv⟩
    obtain ⟨t, a1, o, b1, b2, b3⟩ := K s₁ rfl X₀
    exact ⟨t, o, a1, b1, b2, b3⟩
theorem lw_pre_spec {args : Array Value} {s : State} (h : (Jvm.Cond.and given_1 narrow_1).before args s = true) (hr : rest_1_c.before args s = true) : ∃ (b : Addr) (xs : List Int32), lw_P b xs args s := by
  have hs := flat_of_before _ h
  have hq := flat_of_before _ hr
  have hc : (Cond.count 1).before args s = true := hs _ (by decide +kernel)
  have harr : (Cond.arrayOf (.arg 0) .int).before args s = true := hs _ (by decide +kernel)
  have hle : (Cond.le (.length (.arg 0)) (.int 192)).before args s = true := hs _ (by decide +kernel)
  have hlen : (Cond.isInt (.length (.arg 0))).before args s = true := hq _ (by decide +kernel)
  have hall : (Cond.all (.arg 0) (.isInt (.elem (.arg 0) (.index 0)))).before args s = true := hq _ (by decide +kernel)
  obtain ⟨b, xs, hb, hx⟩ := State.ints_of_pre rfl harr hlen hall
  have hsm : xs.length < 2 ^ 31 := hx.choose_spec.2.2.2
  have hev : (Term.length (.arg 0)).eval args s none [] s = some (.int xs.length.toInt32) := hx.length_eval hb
  have hv := Cond.le_ints hev (show (Term.int 192).eval args s none [] s = some (.int 192) from rfl)
  have hd : xs.length.toInt32 ≤ 192 := by
    simpa [Cond.before, Cond.holds, hv] using hle
  have hN : xs.length ≤ 192 := (Int32.ofNat_le_ofNat hsm (by decide)).mp (show Int32.ofNat xs.length ≤ Int32.ofNat 192 from hd)
  exact ⟨b, xs, Cond.one_arg hc (show args[0]? = some (.ref b) from hb), hx, hN, h⟩
theorem lw_comes (l : Launch) : Comes l x (Jvm.Cond.code x code maxLocals ret :: tables_1) room_1 (fun tb e args s => Calls_1 tb e args s ∧ rest_1 tb e args s ∧ Pre_1 tb e args s)
    (fun _ _ args s o t => lw_Q args s o t) := by
  intro p e ha hc hk s m args below hf hfit hheap happ hpre
  obtain ⟨b, xs, hP⟩ := lw_pre_spec hpre.2.2 hpre.2.1
  obtain ⟨k, o, h1, h2, h3, hQ⟩ := lw_walk l b xs p e ha hc hk s m args below hf ((Spec.applies_iff_loose hf).mp happ).1 hP trivial
  exact ⟨k, o, h1, h2, h3, hQ⟩
theorem lw_frame {s t : State} {o : Outcome} {args : Array Value} (h : Framed s o t [] 600000 7290000) :
    Framed s o t (fieldLocs frame_1_writes args s ++ arrayLocs frame_1_arrays args s ++ staticLocs frame_1_statics s) 600000 7290000 := h
theorem lw_limb (L : Cond) (hL : ∀ (args : Array Value) (s t : State), L.after args s (.returned (some (.int 1))) t = true) :
    ArmFor flags0 classFile x code maxLocals ret World_1 tables_1 room_1 Calls_1 rest_1 Pre_1
      (fun tb e a s o t => postC L tb e a s o t ∧ Framed s o t (fieldLocs frame_1_writes a s ++ arrayLocs frame_1_arrays a s ++ staticLocs frame_1_statics s) 600000 7290000) := by
  intro l _ _ _ p e ha hc hk s m args below hf hfit hheap happ hpre
  obtain ⟨k, o, h1, h2, h3, rfl, hF⟩ := lw_comes l p e ha hc hk s m args below hf hfit hheap happ hpre
  exact ⟨k, _, h1, h2, h3, hL args s _, lw_frame hF⟩
theorem i_vc : Claimed_1_1 ∧ Claimed_1_2 := ⟨lw_limb limb_1_1 (fun args s t => by simp [limb_1_1, Cond.after, Cond.holds, Cond.value]), lw_limb limb_1_2 (fun args s t => Cond.after_iff.mpr (by
  first | (rw [show limb_1_2 = Cond.eq .result (.int 1) from rfl, Cond.eq_ints (x := 1) (y := 1) rfl rfl]; simp; done) | (simp [limb_1_2, Cond.value, Term.eval]; done)))⟩
end
