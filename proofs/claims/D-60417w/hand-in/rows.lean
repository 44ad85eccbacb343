section
-- ===== PART A: goes FIRST, ahead of the names: the tables' words, and 'selects' of the private methods out of them =====
/-- a private method of a class that the tables say can be made, by its rows of tables_1 -/
def lw_okq (q : MethodName × Nat) : Prop := (q.1.cls ≠ "java/lang/invoke/MethodHandle" ∧ q.1.cls ≠ "java/lang/invoke/VarHandle") ∧ Cond.instantiable q.1.cls q.2 ∈ tables_1 ∧ Cond.privateMethod q.1 ∈ tables_1 ∧ Cond.instanceMethod q.1 ∈ tables_1
set_option maxRecDepth 100000
theorem lw_p0 : lw_okq (⟨"BalloonShare", "ownFrame", "(I)I"⟩, 12) := ⟨⟨by decide +kernel, by decide +kernel⟩, List.mem_of_getElem? (i := 4) rfl, List.mem_of_getElem? (i := 58) rfl, List.mem_of_getElem? (i := 59) rfl⟩
theorem lw_p1 : lw_okq (⟨"BalloonShare", "freeFrame", "(I)I"⟩, 12) := ⟨⟨by decide +kernel, by decide +kernel⟩, List.mem_of_getElem? (i := 4) rfl, List.mem_of_getElem? (i := 62) rfl, List.mem_of_getElem? (i := 63) rfl⟩
theorem lw_p2 : lw_okq (⟨"BalloonShare", "charge", "()V"⟩, 12) := ⟨⟨by decide +kernel, by decide +kernel⟩, List.mem_of_getElem? (i := 4) rfl, List.mem_of_getElem? (i := 66) rfl, List.mem_of_getElem? (i := 67) rfl⟩
theorem lw_p3 : lw_okq (⟨"BalloonShare", "payer", "(I)I"⟩, 12) := ⟨⟨by decide +kernel, by decide +kernel⟩, List.mem_of_getElem? (i := 4) rfl, List.mem_of_getElem? (i := 70) rfl, List.mem_of_getElem? (i := 71) rfl⟩
theorem lw_p4 : lw_okq (⟨"BalloonShare", "poorest", "(I)I"⟩, 12) := ⟨⟨by decide +kernel, by decide +kernel⟩, List.mem_of_getElem? (i := 4) rfl, List.mem_of_getElem? (i := 74) rfl, List.mem_of_getElem? (i := 75) rfl⟩
theorem lw_p5 : lw_okq (⟨"BalloonShare", "victim", "(II)I"⟩, 12) := ⟨⟨by decide +kernel, by decide +kernel⟩, List.mem_of_getElem? (i := 4) rfl, List.mem_of_getElem? (i := 78) rfl, List.mem_of_getElem? (i := 79) rfl⟩
theorem lw_p6 : lw_okq (⟨"BalloonShare", "swapOut", "(I)V"⟩, 12) := ⟨⟨by decide +kernel, by decide +kernel⟩, List.mem_of_getElem? (i := 4) rfl, List.mem_of_getElem? (i := 82) rfl, List.mem_of_getElem? (i := 83) rfl⟩
theorem lw_p7 : lw_okq (⟨"BalloonShare", "detach", "(I)V"⟩, 12) := ⟨⟨by decide +kernel, by decide +kernel⟩, List.mem_of_getElem? (i := 4) rfl, List.mem_of_getElem? (i := 86) rfl, List.mem_of_getElem? (i := 87) rfl⟩
theorem lw_p8 : lw_okq (⟨"BalloonShare", "wordOf", "(II)I"⟩, 12) := ⟨⟨by decide +kernel, by decide +kernel⟩, List.mem_of_getElem? (i := 4) rfl, List.mem_of_getElem? (i := 90) rfl, List.mem_of_getElem? (i := 91) rfl⟩
theorem lw_p9 : lw_okq (⟨"BalloonShare", "attachLike", "(II)V"⟩, 12) := ⟨⟨by decide +kernel, by decide +kernel⟩, List.mem_of_getElem? (i := 4) rfl, List.mem_of_getElem? (i := 105) rfl, List.mem_of_getElem? (i := 106) rfl⟩
theorem lw_p10 : lw_okq (⟨"BalloonShare", "twinBefore", "(II)I"⟩, 12) := ⟨⟨by decide +kernel, by decide +kernel⟩, List.mem_of_getElem? (i := 4) rfl, List.mem_of_getElem? (i := 125) rfl, List.mem_of_getElem? (i := 126) rfl⟩
theorem lw_p11 : lw_okq (⟨"BalloonShare", "hashOf", "(I)I"⟩, 12) := ⟨⟨by decide +kernel, by decide +kernel⟩, List.mem_of_getElem? (i := 4) rfl, List.mem_of_getElem? (i := 129) rfl, List.mem_of_getElem? (i := 130) rfl⟩
theorem lw_p12 : lw_okq (⟨"BalloonShare", "alike", "(II)Z"⟩, 12) := ⟨⟨by decide +kernel, by decide +kernel⟩, List.mem_of_getElem? (i := 4) rfl, List.mem_of_getElem? (i := 133) rfl, List.mem_of_getElem? (i := 134) rfl⟩
theorem lw_p13 : lw_okq (⟨"BalloonShare", "isZero", "(I)Z"⟩, 12) := ⟨⟨by decide +kernel, by decide +kernel⟩, List.mem_of_getElem? (i := 4) rfl, List.mem_of_getElem? (i := 137) rfl, List.mem_of_getElem? (i := 138) rfl⟩
theorem lw_p14 : lw_okq (⟨"BalloonShareModel", "badGuest", "(I)Z"⟩, 2) := ⟨⟨by decide +kernel, by decide +kernel⟩, List.mem_of_getElem? (i := 164) rfl, List.mem_of_getElem? (i := 181) rfl, List.mem_of_getElem? (i := 182) rfl⟩
theorem lw_p15 : lw_okq (⟨"BalloonShareModel", "badPage", "(I)Z"⟩, 2) := ⟨⟨by decide +kernel, by decide +kernel⟩, List.mem_of_getElem? (i := 164) rfl, List.mem_of_getElem? (i := 189) rfl, List.mem_of_getElem? (i := 190) rfl⟩
def lw_privs_1 : List (MethodName × Nat) := [(⟨"BalloonShare", "ownFrame", "(I)I"⟩, 12), (⟨"BalloonShare", "freeFrame", "(I)I"⟩, 12), (⟨"BalloonShare", "charge", "()V"⟩, 12), (⟨"BalloonShare", "payer", "(I)I"⟩, 12), (⟨"BalloonShare", "poorest", "(I)I"⟩, 12), (⟨"BalloonShare", "victim", "(II)I"⟩, 12), (⟨"BalloonShare", "swapOut", "(I)V"⟩, 12), (⟨"BalloonShare", "detach", "(I)V"⟩, 12), (⟨"BalloonShare", "wordOf", "(II)I"⟩, 12), (⟨"BalloonShare", "attachLike", "(II)V"⟩, 12), (⟨"BalloonShare", "twinBefore", "(II)I"⟩, 12), (⟨"BalloonShare", "hashOf", "(I)I"⟩, 12), (⟨"BalloonShare", "alike", "(II)Z"⟩, 12), (⟨"BalloonShare", "isZero", "(I)Z"⟩, 12), (⟨"BalloonShareModel", "badGuest", "(I)Z"⟩, 2), (⟨"BalloonShareModel", "badPage", "(I)Z"⟩, 2)]
theorem lw_r1 : ∀ q ∈ lw_privs_1, lw_okq q := List.forall_mem_cons.mpr ⟨lw_p0, List.forall_mem_cons.mpr ⟨lw_p1, List.forall_mem_cons.mpr ⟨lw_p2, List.forall_mem_cons.mpr ⟨lw_p3, List.forall_mem_cons.mpr ⟨lw_p4, List.forall_mem_cons.mpr ⟨lw_p5, List.forall_mem_cons.mpr ⟨lw_p6, List.forall_mem_cons.mpr ⟨lw_p7, List.forall_mem_cons.mpr ⟨lw_p8, List.forall_mem_cons.mpr ⟨lw_p9, List.forall_mem_cons.mpr ⟨lw_p10, List.forall_mem_cons.mpr ⟨lw_p11, List.forall_mem_cons.mpr ⟨lw_p12, List.forall_mem_cons.mpr ⟨lw_p13, List.forall_mem_cons.mpr ⟨lw_p14, List.forall_mem_cons.mpr ⟨lw_p15, fun _ h => absurd h List.not_mem_nil⟩⟩⟩⟩⟩⟩⟩⟩⟩⟩⟩⟩⟩⟩⟩⟩
theorem lw_p16 : lw_okq (⟨"BalloonShareModel", "alike", "(II)Z"⟩, 2) := ⟨⟨by decide +kernel, by decide +kernel⟩, List.mem_of_getElem? (i := 164) rfl, List.mem_of_getElem? (i := 226) rfl, List.mem_of_getElem? (i := 227) rfl⟩
def lw_privs_2 : List (MethodName × Nat) := [(⟨"BalloonShareModel", "alike", "(II)Z"⟩, 2)]
theorem lw_r2 : ∀ q ∈ lw_privs_2, lw_okq q := List.forall_mem_cons.mpr ⟨lw_p16, fun _ h => absurd h List.not_mem_nil⟩
def lw_privs : List (MethodName × Nat) := lw_privs_1 ++ (lw_privs_2)
def lw_tbl : List Cond := k2_sels lw_privs ++ tables_1
theorem lw_privs_ok : ∀ q ∈ lw_privs, lw_okq q := by
  show ∀ q ∈ lw_privs_1 ++ (lw_privs_2), lw_okq q
  exact List.forall_mem_append.mpr ⟨lw_r1, lw_r2⟩
-- ===== ONE list of words for every method: the tables' words that hold all through a run =====
def lw_all : List Cond := lw_tbl.filter goodWord
/-- a word of the tables by its place: claim/WORDS.tsv -/
theorem lw_w {w : Cond} (i : Nat) (h : lw_tbl[i]? = some w) (g : goodWord w = true) : w ∈ lw_all := List.mem_filter.mpr ⟨List.mem_of_getElem? h, g⟩
theorem lw_all_tbl {w : Cond} (h : w ∈ lw_all) : w ∈ lw_tbl := (List.mem_filter.mp h).1
theorem lw_self : GoodIn lw_all lw_all := fun w h => ⟨h, good_of_word (List.mem_filter.mp h).2⟩
/-- a class's field words, by their places -/
theorem lw_in (ws : List Cond) (ps : List Nat) (hp : ws = ps.filterMap (fun i => lw_tbl[i]?)) (hg : ws.all goodWord = true) : ∀ w ∈ ws, w ∈ lw_all := by
  intro w h
  have h1 := List.all_eq_true.mp hg w h
  rw [hp] at h
  obtain ⟨i, -, hi⟩ := List.mem_filterMap.mp h
  exact lw_w i hi h1
/-- the words of a contract for the method y with code b, L locals, answer r -/
abbrev ws_ (y : MethodName) (b : ByteArray) (L : Nat) (r : Option FieldType) : List Cond := Cond.code y b L r :: lw_all
theorem lw_meth {y : MethodName} {b : ByteArray} {L : Nat} {r : Option FieldType} (h : Cond.code y b L r ∈ lw_all) : GoodIn lw_all (ws_ y b L r) := by
  intro w hw
  rcases List.mem_cons.mp hw with e | e
  · rw [e]
    exact lw_self _ h
  · exact lw_self _ e
theorem lw_app {a c : List Cond} (ha : ∀ w ∈ a, w ∈ lw_all) (hc : GoodIn lw_all c) : GoodIn lw_all (a ++ c) := by
  intro w hw
  rcases List.mem_append.mp hw with e | e
  · exact lw_self w (ha w e)
  · exact hc w e
/-- what a call through an object asks: cwV n hts (lw_V ..) -/
theorem lw_V {own : String} {idx : Nat} {C : String} {y : MethodName} {b : ByteArray} {L : Nat} {r : Option FieldType} (h1 : Cond.methodLink own idx y ∈ lw_all) (h2 : Cond.instanceMethod y ∈ lw_all) (h3 : Cond.selects C y y ∈ lw_all) (h4 : Cond.initialized C ∈ lw_all) (h5 : Cond.code y b L r ∈ lw_all) : GoodIn lw_all (wsV own idx C y (ws_ y b L r)) := by
  refine lw_app ?_ (lw_meth h5)
  intro w hw
  simp only [List.mem_cons, List.not_mem_nil, or_false] at hw
  rcases hw with e | e | e | e
  · rw [e]; exact h1
  · rw [e]; exact h2
  · rw [e]; exact h3
  · rw [e]; exact h4
/-- what a static call asks: va_cwS n hts (lw_S ..) -/
theorem lw_S {own : String} {idx : Nat} {y : MethodName} {b : ByteArray} {L : Nat} {r : Option FieldType} (h1 : Cond.methodLink own idx y ∈ lw_all) (h2 : Cond.static y ∈ lw_all) (h3 : Cond.initialized y.cls ∈ lw_all) (h4 : Cond.code y b L r ∈ lw_all) : GoodIn lw_all (va_wsS own idx y (ws_ y b L r)) := by
  refine lw_app ?_ (lw_meth h4)
  intro w hw
  simp only [List.mem_cons, List.not_mem_nil, or_false] at hw
  rcases hw with e | e | e
  · rw [e]; exact h1
  · rw [e]; exact h2
  · rw [e]; exact h3
/-- the words of a contract for a method WITH HANDLERS (hh: its table) -/
abbrev wsW_ (y : MethodName) (b : ByteArray) (L : Nat) (r : Option FieldType) (hh : List (Nat × Nat × Nat × Nat)) : List Cond := Cond.codeWith y b L r hh :: lw_all
theorem lw_methW {y : MethodName} {b : ByteArray} {L : Nat} {r : Option FieldType} {hh : List (Nat × Nat × Nat × Nat)} (h : Cond.codeWith y b L r hh ∈ lw_all) : GoodIn lw_all (wsW_ y b L r hh) := by
  intro w hw
  rcases List.mem_cons.mp hw with e | e
  · rw [e]
    exact lw_self _ h
  · exact lw_self _ e
/-- any list of words by their places (lw_in), good -/
theorem lw_good {ws : List Cond} (h : ∀ w ∈ ws, w ∈ lw_all) : GoodIn lw_all ws := fun w hw => lw_self w (h w hw)
/-- what a call of a method with handlers asks: vx_cwVW n hts (lw_VW ..), vx_cwSW n hts (lw_SW ..) -/
theorem lw_VW {own : String} {idx : Nat} {C : String} {y : MethodName} {b : ByteArray} {L : Nat} {r : Option FieldType} {hh : List (Nat × Nat × Nat × Nat)} (h1 : Cond.methodLink own idx y ∈ lw_all) (h2 : Cond.instanceMethod y ∈ lw_all) (h3 : Cond.selects C y y ∈ lw_all) (h4 : Cond.initialized C ∈ lw_all) (h5 : Cond.codeWith y b L r hh ∈ lw_all) : GoodIn lw_all (wsV own idx C y (wsW_ y b L r hh)) := by
  refine lw_app ?_ (lw_methW h5)
  intro w hw
  simp only [List.mem_cons, List.not_mem_nil, or_false] at hw
  rcases hw with e | e | e | e
  · rw [e]; exact h1
  · rw [e]; exact h2
  · rw [e]; exact h3
  · rw [e]; exact h4
theorem lw_SW {own : String} {idx : Nat} {y : MethodName} {b : ByteArray} {L : Nat} {r : Option FieldType} {hh : List (Nat × Nat × Nat × Nat)} (h1 : Cond.methodLink own idx y ∈ lw_all) (h2 : Cond.static y ∈ lw_all) (h3 : Cond.initialized y.cls ∈ lw_all) (h4 : Cond.codeWith y b L r hh ∈ lw_all) : GoodIn lw_all (va_wsS own idx y (wsW_ y b L r hh)) := by
  refine lw_app ?_ (lw_methW h4)
  intro w hw
  simp only [List.mem_cons, List.not_mem_nil, or_false] at hw
  rcases hw with e | e | e
  · rw [e]; exact h1
  · rw [e]; exact h2
  · rw [e]; exact h3
/-- a word by its place in its run of the tables -/
theorem lw_at {r : List Cond} (hr : ∀ w ∈ r, w ∈ lw_tbl) {w : Cond} (i : Nat) (h : r[i]? = some w) : w ∈ lw_tbl := hr w (List.mem_of_getElem? h)
theorem lw_g {w : Cond} (h : w ∈ lw_tbl) (g : goodWord w = true) : w ∈ lw_all := List.mem_filter.mpr ⟨h, g⟩
theorem lw_ms : ∀ w ∈ k2_sels lw_privs, w ∈ lw_tbl := fun w h => show w ∈ k2_sels lw_privs ++ tables_1 from List.mem_append_left _ h
theorem lw_m0 : ∀ w ∈ tables_1, w ∈ lw_tbl := fun w h => show w ∈ k2_sels lw_privs ++ tables_1 from List.mem_append_right (k2_sels lw_privs) h
theorem qs0 : (Cond.selects "BalloonShare" ⟨"BalloonShare", "ownFrame", "(I)I"⟩ ⟨"BalloonShare", "ownFrame", "(I)I"⟩) ∈ lw_all := lw_g (lw_at lw_ms 0 rfl) rfl
theorem qs1 : (Cond.selects "BalloonShare" ⟨"BalloonShare", "freeFrame", "(I)I"⟩ ⟨"BalloonShare", "freeFrame", "(I)I"⟩) ∈ lw_all := lw_g (lw_at lw_ms 1 rfl) rfl
theorem qs2 : (Cond.selects "BalloonShare" ⟨"BalloonShare", "charge", "()V"⟩ ⟨"BalloonShare", "charge", "()V"⟩) ∈ lw_all := lw_g (lw_at lw_ms 2 rfl) rfl
theorem qs3 : (Cond.selects "BalloonShare" ⟨"BalloonShare", "payer", "(I)I"⟩ ⟨"BalloonShare", "payer", "(I)I"⟩) ∈ lw_all := lw_g (lw_at lw_ms 3 rfl) rfl
theorem qs4 : (Cond.selects "BalloonShare" ⟨"BalloonShare", "poorest", "(I)I"⟩ ⟨"BalloonShare", "poorest", "(I)I"⟩) ∈ lw_all := lw_g (lw_at lw_ms 4 rfl) rfl
theorem qs5 : (Cond.selects "BalloonShare" ⟨"BalloonShare", "victim", "(II)I"⟩ ⟨"BalloonShare", "victim", "(II)I"⟩) ∈ lw_all := lw_g (lw_at lw_ms 5 rfl) rfl
theorem qs6 : (Cond.selects "BalloonShare" ⟨"BalloonShare", "swapOut", "(I)V"⟩ ⟨"BalloonShare", "swapOut", "(I)V"⟩) ∈ lw_all := lw_g (lw_at lw_ms 6 rfl) rfl
theorem qs7 : (Cond.selects "BalloonShare" ⟨"BalloonShare", "detach", "(I)V"⟩ ⟨"BalloonShare", "detach", "(I)V"⟩) ∈ lw_all := lw_g (lw_at lw_ms 7 rfl) rfl
theorem qs8 : (Cond.selects "BalloonShare" ⟨"BalloonShare", "wordOf", "(II)I"⟩ ⟨"BalloonShare", "wordOf", "(II)I"⟩) ∈ lw_all := lw_g (lw_at lw_ms 8 rfl) rfl
theorem qs9 : (Cond.selects "BalloonShare" ⟨"BalloonShare", "attachLike", "(II)V"⟩ ⟨"BalloonShare", "attachLike", "(II)V"⟩) ∈ lw_all := lw_g (lw_at lw_ms 9 rfl) rfl
theorem qs10 : (Cond.selects "BalloonShare" ⟨"BalloonShare", "twinBefore", "(II)I"⟩ ⟨"BalloonShare", "twinBefore", "(II)I"⟩) ∈ lw_all := lw_g (lw_at lw_ms 10 rfl) rfl
theorem qs11 : (Cond.selects "BalloonShare" ⟨"BalloonShare", "hashOf", "(I)I"⟩ ⟨"BalloonShare", "hashOf", "(I)I"⟩) ∈ lw_all := lw_g (lw_at lw_ms 11 rfl) rfl
theorem qs12 : (Cond.selects "BalloonShare" ⟨"BalloonShare", "alike", "(II)Z"⟩ ⟨"BalloonShare", "alike", "(II)Z"⟩) ∈ lw_all := lw_g (lw_at lw_ms 12 rfl) rfl
theorem qs13 : (Cond.selects "BalloonShare" ⟨"BalloonShare", "isZero", "(I)Z"⟩ ⟨"BalloonShare", "isZero", "(I)Z"⟩) ∈ lw_all := lw_g (lw_at lw_ms 13 rfl) rfl
theorem qs14 : (Cond.selects "BalloonShareModel" ⟨"BalloonShareModel", "badGuest", "(I)Z"⟩ ⟨"BalloonShareModel", "badGuest", "(I)Z"⟩) ∈ lw_all := lw_g (lw_at lw_ms 14 rfl) rfl
theorem qs15 : (Cond.selects "BalloonShareModel" ⟨"BalloonShareModel", "badPage", "(I)Z"⟩ ⟨"BalloonShareModel", "badPage", "(I)Z"⟩) ∈ lw_all := lw_g (lw_at lw_ms 15 rfl) rfl
theorem qs16 : (Cond.selects "BalloonShareModel" ⟨"BalloonShareModel", "alike", "(II)Z"⟩ ⟨"BalloonShareModel", "alike", "(II)Z"⟩) ∈ lw_all := lw_g (lw_at lw_ms 16 rfl) rfl
end
section
set_option maxRecDepth 100000
/-! java/lang/Object -/
def RJ0 : String := "java/lang/Object"
abbrev cJ0_init : ByteArray := object_method_1_code
def yJ0_init : MethodName := ⟨RJ0, "<init>", "()V"⟩
theorem q26 : (Jvm.Cond.instanceMethod ({ cls := "java/lang/Object", name := "<init>", desc := "()V" } : Jvm.MethodName)) ∈ lw_all := lw_g (lw_at lw_m0 9 rfl) rfl
theorem q27 : (Jvm.Cond.code ({ cls := "java/lang/Object", name := "<init>", desc := "()V" } : Jvm.MethodName) object_method_1_code (1 : Nat) (Option.none : Option Jvm.ClassFile.FieldType)) ∈ lw_all := lw_g (lw_at lw_m0 10 rfl) rfl
/-! BalloonShareLaw -/
def RX0 : String := "BalloonShareLaw"
abbrev cX0_cell : ByteArray := method_2_code
def yX0_cell : MethodName := ⟨RX0, "cell", "([II)I"⟩
theorem q17 : (Jvm.Cond.initialized "BalloonShareLaw") ∈ lw_all := lw_g (lw_at lw_m0 0 rfl) rfl
theorem q20 : (Jvm.Cond.classLink "BalloonShareLaw" (7 : Nat) "BalloonShare") ∈ lw_all := lw_g (lw_at lw_m0 3 rfl) rfl
theorem q22 : (Jvm.Cond.methodLink "BalloonShareLaw" (15 : Nat) ({ cls := "BalloonShare", name := "<init>", desc := "(I)V" } : Jvm.MethodName)) ∈ lw_all := lw_g (lw_at lw_m0 5 rfl) rfl
theorem q67 : (Jvm.Cond.methodLink "BalloonShareLaw" (21 : Nat) ({ cls := "BalloonShare", name := "write", desc := "(III)I" } : Jvm.MethodName)) ∈ lw_all := lw_g (lw_at lw_m0 50 rfl) rfl
theorem q110 : (Jvm.Cond.methodLink "BalloonShareLaw" (26 : Nat) ({ cls := "BalloonShare", name := "fill", desc := "(IIII)I" } : Jvm.MethodName)) ∈ lw_all := lw_g (lw_at lw_m0 93 rfl) rfl
theorem q117 : (Jvm.Cond.methodLink "BalloonShareLaw" (31 : Nat) ({ cls := "BalloonShare", name := "copy", desc := "(IIII)I" } : Jvm.MethodName)) ∈ lw_all := lw_g (lw_at lw_m0 100 rfl) rfl
theorem q125 : (Jvm.Cond.methodLink "BalloonShareLaw" (35 : Nat) ({ cls := "BalloonShare", name := "release", desc := "(II)I" } : Jvm.MethodName)) ∈ lw_all := lw_g (lw_at lw_m0 108 rfl) rfl
theorem q129 : (Jvm.Cond.methodLink "BalloonShareLaw" (40 : Nat) ({ cls := "BalloonShare", name := "cloneGuest", desc := "(II)I" } : Jvm.MethodName)) ∈ lw_all := lw_g (lw_at lw_m0 112 rfl) rfl
theorem q133 : (Jvm.Cond.methodLink "BalloonShareLaw" (44 : Nat) ({ cls := "BalloonShare", name := "shares", desc := "(II)I" } : Jvm.MethodName)) ∈ lw_all := lw_g (lw_at lw_m0 116 rfl) rfl
theorem q137 : (Jvm.Cond.methodLink "BalloonShareLaw" (48 : Nat) ({ cls := "BalloonShare", name := "tidy", desc := "(I)V" } : Jvm.MethodName)) ∈ lw_all := lw_g (lw_at lw_m0 120 rfl) rfl
theorem q157 : (Jvm.Cond.methodLink "BalloonShareLaw" (52 : Nat) ({ cls := "BalloonShare", name := "read", desc := "(II)I" } : Jvm.MethodName)) ∈ lw_all := lw_g (lw_at lw_m0 140 rfl) rfl
theorem q161 : (Jvm.Cond.methodLink "BalloonShareLaw" (56 : Nat) ({ cls := "BalloonShare", name := "sum", desc := "(II)I" } : Jvm.MethodName)) ∈ lw_all := lw_g (lw_at lw_m0 144 rfl) rfl
theorem q165 : (Jvm.Cond.methodLink "BalloonShareLaw" (60 : Nat) ({ cls := "BalloonShare", name := "same", desc := "(IIII)Z" } : Jvm.MethodName)) ∈ lw_all := lw_g (lw_at lw_m0 148 rfl) rfl
theorem q169 : (Jvm.Cond.methodLink "BalloonShareLaw" (65 : Nat) ({ cls := "BalloonShare", name := "contents", desc := "(I)I" } : Jvm.MethodName)) ∈ lw_all := lw_g (lw_at lw_m0 152 rfl) rfl
theorem q173 : (Jvm.Cond.methodLink "BalloonShareLaw" (70 : Nat) ({ cls := "BalloonShare", name := "twins", desc := "(II)I" } : Jvm.MethodName)) ∈ lw_all := lw_g (lw_at lw_m0 156 rfl) rfl
theorem q177 : (Jvm.Cond.methodLink "BalloonShareLaw" (9 : Nat) ({ cls := "BalloonShareLaw", name := "cell", desc := "([II)I" } : Jvm.MethodName)) ∈ lw_all := lw_g (lw_at lw_m0 160 rfl) rfl
theorem q178 : (Jvm.Cond.static ({ cls := "BalloonShareLaw", name := "cell", desc := "([II)I" } : Jvm.MethodName)) ∈ lw_all := lw_g (lw_at lw_m0 161 rfl) rfl
theorem q179 : (Jvm.Cond.code ({ cls := "BalloonShareLaw", name := "cell", desc := "([II)I" } : Jvm.MethodName) method_2_code (2 : Nat) (Option.some Jvm.ClassFile.FieldType.int)) ∈ lw_all := lw_g (lw_at lw_m0 162 rfl) rfl
theorem q180 : (Jvm.Cond.classLink "BalloonShareLaw" (18 : Nat) "BalloonShareModel") ∈ lw_all := lw_g (lw_at lw_m0 163 rfl) rfl
theorem q182 : (Jvm.Cond.methodLink "BalloonShareLaw" (20 : Nat) ({ cls := "BalloonShareModel", name := "<init>", desc := "(I)V" } : Jvm.MethodName)) ∈ lw_all := lw_g (lw_at lw_m0 165 rfl) rfl
theorem q193 : (Jvm.Cond.methodLink "BalloonShareLaw" (25 : Nat) ({ cls := "BalloonShareModel", name := "write", desc := "(III)I" } : Jvm.MethodName)) ∈ lw_all := lw_g (lw_at lw_m0 176 rfl) rfl
theorem q201 : (Jvm.Cond.methodLink "BalloonShareLaw" (30 : Nat) ({ cls := "BalloonShareModel", name := "fill", desc := "(IIII)I" } : Jvm.MethodName)) ∈ lw_all := lw_g (lw_at lw_m0 184 rfl) rfl
theorem q209 : (Jvm.Cond.methodLink "BalloonShareLaw" (34 : Nat) ({ cls := "BalloonShareModel", name := "copy", desc := "(IIII)I" } : Jvm.MethodName)) ∈ lw_all := lw_g (lw_at lw_m0 192 rfl) rfl
theorem q213 : (Jvm.Cond.methodLink "BalloonShareLaw" (39 : Nat) ({ cls := "BalloonShareModel", name := "release", desc := "(II)I" } : Jvm.MethodName)) ∈ lw_all := lw_g (lw_at lw_m0 196 rfl) rfl
theorem q218 : (Jvm.Cond.methodLink "BalloonShareLaw" (43 : Nat) ({ cls := "BalloonShareModel", name := "cloneGuest", desc := "(II)I" } : Jvm.MethodName)) ∈ lw_all := lw_g (lw_at lw_m0 201 rfl) rfl
theorem q222 : (Jvm.Cond.methodLink "BalloonShareLaw" (47 : Nat) ({ cls := "BalloonShareModel", name := "shares", desc := "(II)I" } : Jvm.MethodName)) ∈ lw_all := lw_g (lw_at lw_m0 205 rfl) rfl
theorem q226 : (Jvm.Cond.methodLink "BalloonShareLaw" (51 : Nat) ({ cls := "BalloonShareModel", name := "tidy", desc := "(I)V" } : Jvm.MethodName)) ∈ lw_all := lw_g (lw_at lw_m0 209 rfl) rfl
theorem q230 : (Jvm.Cond.methodLink "BalloonShareLaw" (55 : Nat) ({ cls := "BalloonShareModel", name := "read", desc := "(II)I" } : Jvm.MethodName)) ∈ lw_all := lw_g (lw_at lw_m0 213 rfl) rfl
theorem q234 : (Jvm.Cond.methodLink "BalloonShareLaw" (59 : Nat) ({ cls := "BalloonShareModel", name := "sum", desc := "(II)I" } : Jvm.MethodName)) ∈ lw_all := lw_g (lw_at lw_m0 217 rfl) rfl
theorem q238 : (Jvm.Cond.methodLink "BalloonShareLaw" (64 : Nat) ({ cls := "BalloonShareModel", name := "same", desc := "(IIII)Z" } : Jvm.MethodName)) ∈ lw_all := lw_g (lw_at lw_m0 221 rfl) rfl
theorem q246 : (Jvm.Cond.methodLink "BalloonShareLaw" (69 : Nat) ({ cls := "BalloonShareModel", name := "contents", desc := "(I)I" } : Jvm.MethodName)) ∈ lw_all := lw_g (lw_at lw_m0 229 rfl) rfl
theorem q250 : (Jvm.Cond.methodLink "BalloonShareLaw" (73 : Nat) ({ cls := "BalloonShareModel", name := "twins", desc := "(II)I" } : Jvm.MethodName)) ∈ lw_all := lw_g (lw_at lw_m0 233 rfl) rfl
/-! BalloonShare -/
def RX1 : String := "BalloonShare"
def TX1 : u_T := fun k => match k with
  | 0 => ("BalloonShare", "frameOf", "[I", true)
  | 1 => ("BalloonShare", "slotOf", "[I", true)
  | 2 => ("BalloonShare", "frames", "I", true)
  | 3 => ("BalloonShare", "inFrame", "[I", true)
  | 4 => ("BalloonShare", "holders", "[I", true)
  | 5 => ("BalloonShare", "lately", "[Z", true)
  | 6 => ("BalloonShare", "hand", "I", false)
  | 7 => ("BalloonShare", "inSlot", "[I", true)
  | 8 => ("BalloonShare", "slotHolders", "[I", true)
  | 9 => ("BalloonShare", "sharesOf", "[I", true)
  | 10 => ("BalloonShare", "busy", "[I", true)
  | _ => ("BalloonShare", "idle", "[I", true)
def tyX1 : Nat → FieldType := fun k => match k with
  | 0 => .array .int
  | 1 => .array .int
  | 2 => .int
  | 3 => .array .int
  | 4 => .array .int
  | 5 => .array .boolean
  | 6 => .int
  | 7 => .array .int
  | 8 => .array .int
  | 9 => .array .int
  | 10 => .array .int
  | _ => .array .int
abbrev wsX10 : List Cond := u_ws RX1 TX1 12
theorem nmX1 : ∀ a, a < 12 → ∀ b, b < 12 → a ≠ b → (TX1 a).2.1 ≠ (TX1 b).2.1 := by decide +kernel
theorem tyX1_ok : ∀ k, k < 12 → parseFieldDescriptor (TX1 k).2.2.1 = some (tyX1 k) := by decide +kernel
abbrev cX1_init : ByteArray := prog_1_method_1_code
def yX1_init : MethodName := ⟨RX1, "<init>", "(I)V"⟩
abbrev cX1_write : ByteArray := prog_1_method_14_code
def yX1_write : MethodName := ⟨RX1, "write", "(III)I"⟩
abbrev cX1_badGuest : ByteArray := prog_1_method_2_code
def yX1_badGuest : MethodName := ⟨RX1, "badGuest", "(I)Z"⟩
abbrev cX1_ownFrame : ByteArray := prog_1_method_7_code
def yX1_ownFrame : MethodName := ⟨RX1, "ownFrame", "(I)I"⟩
abbrev cX1_freeFrame : ByteArray := prog_1_method_8_code
def yX1_freeFrame : MethodName := ⟨RX1, "freeFrame", "(I)I"⟩
abbrev cX1_charge : ByteArray := prog_1_method_10_code
def yX1_charge : MethodName := ⟨RX1, "charge", "()V"⟩
abbrev cX1_payer : ByteArray := prog_1_method_9_code
def yX1_payer : MethodName := ⟨RX1, "payer", "(I)I"⟩
abbrev cX1_poorest : ByteArray := prog_1_method_11_code
def yX1_poorest : MethodName := ⟨RX1, "poorest", "(I)I"⟩
abbrev cX1_victim : ByteArray := prog_1_method_12_code
def yX1_victim : MethodName := ⟨RX1, "victim", "(II)I"⟩
abbrev cX1_swapOut : ByteArray := prog_1_method_13_code
def yX1_swapOut : MethodName := ⟨RX1, "swapOut", "(I)V"⟩
abbrev cX1_detach : ByteArray := prog_1_method_5_code
def yX1_detach : MethodName := ⟨RX1, "detach", "(I)V"⟩
abbrev cX1_wordOf : ByteArray := prog_1_method_4_code
def yX1_wordOf : MethodName := ⟨RX1, "wordOf", "(II)I"⟩
abbrev cX1_fill : ByteArray := prog_1_method_15_code
def yX1_fill : MethodName := ⟨RX1, "fill", "(IIII)I"⟩
abbrev cX1_badPage : ByteArray := prog_1_method_3_code
def yX1_badPage : MethodName := ⟨RX1, "badPage", "(I)Z"⟩
abbrev cX1_copy : ByteArray := prog_1_method_16_code
def yX1_copy : MethodName := ⟨RX1, "copy", "(IIII)I"⟩
abbrev cX1_attachLike : ByteArray := prog_1_method_6_code
def yX1_attachLike : MethodName := ⟨RX1, "attachLike", "(II)V"⟩
abbrev cX1_release : ByteArray := prog_1_method_17_code
def yX1_release : MethodName := ⟨RX1, "release", "(II)I"⟩
abbrev cX1_cloneGuest : ByteArray := prog_1_method_18_code
def yX1_cloneGuest : MethodName := ⟨RX1, "cloneGuest", "(II)I"⟩
abbrev cX1_shares : ByteArray := prog_1_method_19_code
def yX1_shares : MethodName := ⟨RX1, "shares", "(II)I"⟩
abbrev cX1_tidy : ByteArray := prog_1_method_22_code
def yX1_tidy : MethodName := ⟨RX1, "tidy", "(I)V"⟩
abbrev cX1_twinBefore : ByteArray := prog_1_method_24_code
def yX1_twinBefore : MethodName := ⟨RX1, "twinBefore", "(II)I"⟩
abbrev cX1_hashOf : ByteArray := prog_1_method_20_code
def yX1_hashOf : MethodName := ⟨RX1, "hashOf", "(I)I"⟩
abbrev cX1_alike : ByteArray := prog_1_method_21_code
def yX1_alike : MethodName := ⟨RX1, "alike", "(II)Z"⟩
abbrev cX1_isZero : ByteArray := prog_1_method_23_code
def yX1_isZero : MethodName := ⟨RX1, "isZero", "(I)Z"⟩
abbrev cX1_read : ByteArray := prog_1_method_25_code
def yX1_read : MethodName := ⟨RX1, "read", "(II)I"⟩
abbrev cX1_sum : ByteArray := prog_1_method_26_code
def yX1_sum : MethodName := ⟨RX1, "sum", "(II)I"⟩
abbrev cX1_same : ByteArray := prog_1_method_27_code
def yX1_same : MethodName := ⟨RX1, "same", "(IIII)Z"⟩
abbrev cX1_contents : ByteArray := prog_1_method_28_code
def yX1_contents : MethodName := ⟨RX1, "contents", "(I)I"⟩
abbrev cX1_twins : ByteArray := prog_1_method_29_code
def yX1_twins : MethodName := ⟨RX1, "twins", "(II)I"⟩
theorem q18 : (Jvm.Cond.initialized "BalloonShare") ∈ lw_all := lw_g (lw_at lw_m0 1 rfl) rfl
theorem q21 : (Jvm.Cond.instantiable "BalloonShare" (12 : Nat)) ∈ lw_all := lw_g (lw_at lw_m0 4 rfl) rfl
theorem q23 : (Jvm.Cond.instanceMethod ({ cls := "BalloonShare", name := "<init>", desc := "(I)V" } : Jvm.MethodName)) ∈ lw_all := lw_g (lw_at lw_m0 6 rfl) rfl
theorem q24 : (Jvm.Cond.code ({ cls := "BalloonShare", name := "<init>", desc := "(I)V" } : Jvm.MethodName) prog_1_method_1_code (4 : Nat) (Option.none : Option Jvm.ClassFile.FieldType)) ∈ lw_all := lw_g (lw_at lw_m0 7 rfl) rfl
theorem q25 : (Jvm.Cond.methodLink "BalloonShare" (1 : Nat) ({ cls := "java/lang/Object", name := "<init>", desc := "()V" } : Jvm.MethodName)) ∈ lw_all := lw_g (lw_at lw_m0 8 rfl) rfl
theorem q28 : (Jvm.Cond.fieldLink "BalloonShare" (7 : Nat) "BalloonShare" "frameOf" "[I") ∈ lw_all := lw_g (lw_at lw_m0 11 rfl) rfl
theorem q29 : (Jvm.Cond.fieldLink "BalloonShare" (13 : Nat) "BalloonShare" "slotOf" "[I") ∈ lw_all := lw_g (lw_at lw_m0 12 rfl) rfl
theorem q30 : (Jvm.Cond.fieldLink "BalloonShare" (41 : Nat) "BalloonShare" "frames" "I") ∈ lw_all := lw_g (lw_at lw_m0 13 rfl) rfl
theorem q31 : (Jvm.Cond.fieldLink "BalloonShare" (16 : Nat) "BalloonShare" "inFrame" "[I") ∈ lw_all := lw_g (lw_at lw_m0 14 rfl) rfl
theorem q32 : (Jvm.Cond.fieldLink "BalloonShare" (19 : Nat) "BalloonShare" "holders" "[I") ∈ lw_all := lw_g (lw_at lw_m0 15 rfl) rfl
theorem q33 : (Jvm.Cond.fieldLink "BalloonShare" (22 : Nat) "BalloonShare" "lately" "[Z") ∈ lw_all := lw_g (lw_at lw_m0 16 rfl) rfl
theorem q34 : (Jvm.Cond.fieldLink "BalloonShare" (72 : Nat) "BalloonShare" "hand" "I") ∈ lw_all := lw_g (lw_at lw_m0 17 rfl) rfl
theorem q35 : (Jvm.Cond.fieldLink "BalloonShare" (26 : Nat) "BalloonShare" "inSlot" "[I") ∈ lw_all := lw_g (lw_at lw_m0 18 rfl) rfl
theorem q36 : (Jvm.Cond.fieldLink "BalloonShare" (29 : Nat) "BalloonShare" "slotHolders" "[I") ∈ lw_all := lw_g (lw_at lw_m0 19 rfl) rfl
theorem q37 : (Jvm.Cond.fieldLink "BalloonShare" (32 : Nat) "BalloonShare" "sharesOf" "[I") ∈ lw_all := lw_g (lw_at lw_m0 20 rfl) rfl
theorem q38 : (Jvm.Cond.fieldLink "BalloonShare" (35 : Nat) "BalloonShare" "busy" "[I") ∈ lw_all := lw_g (lw_at lw_m0 21 rfl) rfl
theorem q39 : (Jvm.Cond.fieldLink "BalloonShare" (38 : Nat) "BalloonShare" "idle" "[I") ∈ lw_all := lw_g (lw_at lw_m0 22 rfl) rfl
theorem q40 : (Jvm.Cond.laysFinal "BalloonShare" "BalloonShare" "frameOf" "[I") ∈ lw_all := lw_g (lw_at lw_m0 23 rfl) rfl
theorem q41 : (Jvm.Cond.soleField "BalloonShare" "frameOf") ∈ lw_all := lw_g (lw_at lw_m0 24 rfl) rfl
theorem q42 : (Jvm.Cond.laysFinal "BalloonShare" "BalloonShare" "slotOf" "[I") ∈ lw_all := lw_g (lw_at lw_m0 25 rfl) rfl
theorem q43 : (Jvm.Cond.soleField "BalloonShare" "slotOf") ∈ lw_all := lw_g (lw_at lw_m0 26 rfl) rfl
theorem q44 : (Jvm.Cond.laysFinal "BalloonShare" "BalloonShare" "frames" "I") ∈ lw_all := lw_g (lw_at lw_m0 27 rfl) rfl
theorem q45 : (Jvm.Cond.soleField "BalloonShare" "frames") ∈ lw_all := lw_g (lw_at lw_m0 28 rfl) rfl
theorem q46 : (Jvm.Cond.laysFinal "BalloonShare" "BalloonShare" "inFrame" "[I") ∈ lw_all := lw_g (lw_at lw_m0 29 rfl) rfl
theorem q47 : (Jvm.Cond.soleField "BalloonShare" "inFrame") ∈ lw_all := lw_g (lw_at lw_m0 30 rfl) rfl
theorem q48 : (Jvm.Cond.laysFinal "BalloonShare" "BalloonShare" "holders" "[I") ∈ lw_all := lw_g (lw_at lw_m0 31 rfl) rfl
theorem q49 : (Jvm.Cond.soleField "BalloonShare" "holders") ∈ lw_all := lw_g (lw_at lw_m0 32 rfl) rfl
theorem q50 : (Jvm.Cond.laysFinal "BalloonShare" "BalloonShare" "lately" "[Z") ∈ lw_all := lw_g (lw_at lw_m0 33 rfl) rfl
theorem q51 : (Jvm.Cond.soleField "BalloonShare" "lately") ∈ lw_all := lw_g (lw_at lw_m0 34 rfl) rfl
theorem q52 : (Jvm.Cond.lays "BalloonShare" "BalloonShare" "hand" "I") ∈ lw_all := lw_g (lw_at lw_m0 35 rfl) rfl
theorem q53 : (Jvm.Cond.soleField "BalloonShare" "hand") ∈ lw_all := lw_g (lw_at lw_m0 36 rfl) rfl
theorem q54 : (Jvm.Cond.laysFinal "BalloonShare" "BalloonShare" "inSlot" "[I") ∈ lw_all := lw_g (lw_at lw_m0 37 rfl) rfl
theorem q55 : (Jvm.Cond.soleField "BalloonShare" "inSlot") ∈ lw_all := lw_g (lw_at lw_m0 38 rfl) rfl
theorem q56 : (Jvm.Cond.laysFinal "BalloonShare" "BalloonShare" "slotHolders" "[I") ∈ lw_all := lw_g (lw_at lw_m0 39 rfl) rfl
theorem q57 : (Jvm.Cond.soleField "BalloonShare" "slotHolders") ∈ lw_all := lw_g (lw_at lw_m0 40 rfl) rfl
theorem q58 : (Jvm.Cond.laysFinal "BalloonShare" "BalloonShare" "sharesOf" "[I") ∈ lw_all := lw_g (lw_at lw_m0 41 rfl) rfl
theorem q59 : (Jvm.Cond.soleField "BalloonShare" "sharesOf") ∈ lw_all := lw_g (lw_at lw_m0 42 rfl) rfl
theorem q60 : (Jvm.Cond.laysFinal "BalloonShare" "BalloonShare" "busy" "[I") ∈ lw_all := lw_g (lw_at lw_m0 43 rfl) rfl
theorem q61 : (Jvm.Cond.soleField "BalloonShare" "busy") ∈ lw_all := lw_g (lw_at lw_m0 44 rfl) rfl
theorem q62 : (Jvm.Cond.laysFinal "BalloonShare" "BalloonShare" "idle" "[I") ∈ lw_all := lw_g (lw_at lw_m0 45 rfl) rfl
theorem q63 : (Jvm.Cond.soleField "BalloonShare" "idle") ∈ lw_all := lw_g (lw_at lw_m0 46 rfl) rfl
theorem q64 : (Jvm.Cond.superclass "BalloonShare" "java/lang/Object") ∈ lw_all := lw_g (lw_at lw_m0 47 rfl) rfl
theorem q68 : (Jvm.Cond.instanceMethod ({ cls := "BalloonShare", name := "write", desc := "(III)I" } : Jvm.MethodName)) ∈ lw_all := lw_g (lw_at lw_m0 51 rfl) rfl
theorem q69 : (Jvm.Cond.selects "BalloonShare" ({ cls := "BalloonShare", name := "write", desc := "(III)I" } : Jvm.MethodName) ({ cls := "BalloonShare", name := "write", desc := "(III)I" } : Jvm.MethodName)) ∈ lw_all := lw_g (lw_at lw_m0 52 rfl) rfl
theorem q70 : (Jvm.Cond.code ({ cls := "BalloonShare", name := "write", desc := "(III)I" } : Jvm.MethodName) prog_1_method_14_code (6 : Nat) (Option.some Jvm.ClassFile.FieldType.int)) ∈ lw_all := lw_g (lw_at lw_m0 53 rfl) rfl
theorem q71 : (Jvm.Cond.methodLink "BalloonShare" (75 : Nat) ({ cls := "BalloonShare", name := "badGuest", desc := "(I)Z" } : Jvm.MethodName)) ∈ lw_all := lw_g (lw_at lw_m0 54 rfl) rfl
theorem q72 : (Jvm.Cond.static ({ cls := "BalloonShare", name := "badGuest", desc := "(I)Z" } : Jvm.MethodName)) ∈ lw_all := lw_g (lw_at lw_m0 55 rfl) rfl
theorem q73 : (Jvm.Cond.code ({ cls := "BalloonShare", name := "badGuest", desc := "(I)Z" } : Jvm.MethodName) prog_1_method_2_code (1 : Nat) (Option.some Jvm.ClassFile.FieldType.boolean)) ∈ lw_all := lw_g (lw_at lw_m0 56 rfl) rfl
theorem q74 : (Jvm.Cond.methodLink "BalloonShare" (79 : Nat) ({ cls := "BalloonShare", name := "ownFrame", desc := "(I)I" } : Jvm.MethodName)) ∈ lw_all := lw_g (lw_at lw_m0 57 rfl) rfl
theorem q75 : (Jvm.Cond.privateMethod ({ cls := "BalloonShare", name := "ownFrame", desc := "(I)I" } : Jvm.MethodName)) ∈ lw_tbl := lw_at lw_m0 58 rfl
theorem q76 : (Jvm.Cond.instanceMethod ({ cls := "BalloonShare", name := "ownFrame", desc := "(I)I" } : Jvm.MethodName)) ∈ lw_all := lw_g (lw_at lw_m0 59 rfl) rfl
theorem q77 : (Jvm.Cond.code ({ cls := "BalloonShare", name := "ownFrame", desc := "(I)I" } : Jvm.MethodName) prog_1_method_7_code (5 : Nat) (Option.some Jvm.ClassFile.FieldType.int)) ∈ lw_all := lw_g (lw_at lw_m0 60 rfl) rfl
theorem q78 : (Jvm.Cond.methodLink "BalloonShare" (49 : Nat) ({ cls := "BalloonShare", name := "freeFrame", desc := "(I)I" } : Jvm.MethodName)) ∈ lw_all := lw_g (lw_at lw_m0 61 rfl) rfl
theorem q79 : (Jvm.Cond.privateMethod ({ cls := "BalloonShare", name := "freeFrame", desc := "(I)I" } : Jvm.MethodName)) ∈ lw_tbl := lw_at lw_m0 62 rfl
theorem q80 : (Jvm.Cond.instanceMethod ({ cls := "BalloonShare", name := "freeFrame", desc := "(I)I" } : Jvm.MethodName)) ∈ lw_all := lw_g (lw_at lw_m0 63 rfl) rfl
theorem q81 : (Jvm.Cond.code ({ cls := "BalloonShare", name := "freeFrame", desc := "(I)I" } : Jvm.MethodName) prog_1_method_8_code (4 : Nat) (Option.some Jvm.ClassFile.FieldType.int)) ∈ lw_all := lw_g (lw_at lw_m0 64 rfl) rfl
theorem q82 : (Jvm.Cond.methodLink "BalloonShare" (57 : Nat) ({ cls := "BalloonShare", name := "charge", desc := "()V" } : Jvm.MethodName)) ∈ lw_all := lw_g (lw_at lw_m0 65 rfl) rfl
theorem q83 : (Jvm.Cond.privateMethod ({ cls := "BalloonShare", name := "charge", desc := "()V" } : Jvm.MethodName)) ∈ lw_tbl := lw_at lw_m0 66 rfl
theorem q84 : (Jvm.Cond.instanceMethod ({ cls := "BalloonShare", name := "charge", desc := "()V" } : Jvm.MethodName)) ∈ lw_all := lw_g (lw_at lw_m0 67 rfl) rfl
theorem q85 : (Jvm.Cond.code ({ cls := "BalloonShare", name := "charge", desc := "()V" } : Jvm.MethodName) prog_1_method_10_code (3 : Nat) (Option.none : Option Jvm.ClassFile.FieldType)) ∈ lw_all := lw_g (lw_at lw_m0 68 rfl) rfl
theorem q86 : (Jvm.Cond.methodLink "BalloonShare" (69 : Nat) ({ cls := "BalloonShare", name := "payer", desc := "(I)I" } : Jvm.MethodName)) ∈ lw_all := lw_g (lw_at lw_m0 69 rfl) rfl
theorem q87 : (Jvm.Cond.privateMethod ({ cls := "BalloonShare", name := "payer", desc := "(I)I" } : Jvm.MethodName)) ∈ lw_tbl := lw_at lw_m0 70 rfl
theorem q88 : (Jvm.Cond.instanceMethod ({ cls := "BalloonShare", name := "payer", desc := "(I)I" } : Jvm.MethodName)) ∈ lw_all := lw_g (lw_at lw_m0 71 rfl) rfl
theorem q89 : (Jvm.Cond.code ({ cls := "BalloonShare", name := "payer", desc := "(I)I" } : Jvm.MethodName) prog_1_method_9_code (3 : Nat) (Option.some Jvm.ClassFile.FieldType.int)) ∈ lw_all := lw_g (lw_at lw_m0 72 rfl) rfl
theorem q90 : (Jvm.Cond.methodLink "BalloonShare" (60 : Nat) ({ cls := "BalloonShare", name := "poorest", desc := "(I)I" } : Jvm.MethodName)) ∈ lw_all := lw_g (lw_at lw_m0 73 rfl) rfl
theorem q91 : (Jvm.Cond.privateMethod ({ cls := "BalloonShare", name := "poorest", desc := "(I)I" } : Jvm.MethodName)) ∈ lw_tbl := lw_at lw_m0 74 rfl
theorem q92 : (Jvm.Cond.instanceMethod ({ cls := "BalloonShare", name := "poorest", desc := "(I)I" } : Jvm.MethodName)) ∈ lw_all := lw_g (lw_at lw_m0 75 rfl) rfl
theorem q93 : (Jvm.Cond.code ({ cls := "BalloonShare", name := "poorest", desc := "(I)I" } : Jvm.MethodName) prog_1_method_11_code (7 : Nat) (Option.some Jvm.ClassFile.FieldType.int)) ∈ lw_all := lw_g (lw_at lw_m0 76 rfl) rfl
theorem q94 : (Jvm.Cond.methodLink "BalloonShare" (63 : Nat) ({ cls := "BalloonShare", name := "victim", desc := "(II)I" } : Jvm.MethodName)) ∈ lw_all := lw_g (lw_at lw_m0 77 rfl) rfl
theorem q95 : (Jvm.Cond.privateMethod ({ cls := "BalloonShare", name := "victim", desc := "(II)I" } : Jvm.MethodName)) ∈ lw_tbl := lw_at lw_m0 78 rfl
theorem q96 : (Jvm.Cond.instanceMethod ({ cls := "BalloonShare", name := "victim", desc := "(II)I" } : Jvm.MethodName)) ∈ lw_all := lw_g (lw_at lw_m0 79 rfl) rfl
theorem q97 : (Jvm.Cond.code ({ cls := "BalloonShare", name := "victim", desc := "(II)I" } : Jvm.MethodName) prog_1_method_12_code (6 : Nat) (Option.some Jvm.ClassFile.FieldType.int)) ∈ lw_all := lw_g (lw_at lw_m0 80 rfl) rfl
theorem q98 : (Jvm.Cond.methodLink "BalloonShare" (66 : Nat) ({ cls := "BalloonShare", name := "swapOut", desc := "(I)V" } : Jvm.MethodName)) ∈ lw_all := lw_g (lw_at lw_m0 81 rfl) rfl
theorem q99 : (Jvm.Cond.privateMethod ({ cls := "BalloonShare", name := "swapOut", desc := "(I)V" } : Jvm.MethodName)) ∈ lw_tbl := lw_at lw_m0 82 rfl
theorem q100 : (Jvm.Cond.instanceMethod ({ cls := "BalloonShare", name := "swapOut", desc := "(I)V" } : Jvm.MethodName)) ∈ lw_all := lw_g (lw_at lw_m0 83 rfl) rfl
theorem q101 : (Jvm.Cond.code ({ cls := "BalloonShare", name := "swapOut", desc := "(I)V" } : Jvm.MethodName) prog_1_method_13_code (5 : Nat) (Option.none : Option Jvm.ClassFile.FieldType)) ∈ lw_all := lw_g (lw_at lw_m0 84 rfl) rfl
theorem q102 : (Jvm.Cond.methodLink "BalloonShare" (45 : Nat) ({ cls := "BalloonShare", name := "detach", desc := "(I)V" } : Jvm.MethodName)) ∈ lw_all := lw_g (lw_at lw_m0 85 rfl) rfl
theorem q103 : (Jvm.Cond.privateMethod ({ cls := "BalloonShare", name := "detach", desc := "(I)V" } : Jvm.MethodName)) ∈ lw_tbl := lw_at lw_m0 86 rfl
theorem q104 : (Jvm.Cond.instanceMethod ({ cls := "BalloonShare", name := "detach", desc := "(I)V" } : Jvm.MethodName)) ∈ lw_all := lw_g (lw_at lw_m0 87 rfl) rfl
theorem q105 : (Jvm.Cond.code ({ cls := "BalloonShare", name := "detach", desc := "(I)V" } : Jvm.MethodName) prog_1_method_5_code (2 : Nat) (Option.none : Option Jvm.ClassFile.FieldType)) ∈ lw_all := lw_g (lw_at lw_m0 88 rfl) rfl
theorem q106 : (Jvm.Cond.methodLink "BalloonShare" (53 : Nat) ({ cls := "BalloonShare", name := "wordOf", desc := "(II)I" } : Jvm.MethodName)) ∈ lw_all := lw_g (lw_at lw_m0 89 rfl) rfl
theorem q107 : (Jvm.Cond.privateMethod ({ cls := "BalloonShare", name := "wordOf", desc := "(II)I" } : Jvm.MethodName)) ∈ lw_tbl := lw_at lw_m0 90 rfl
theorem q108 : (Jvm.Cond.instanceMethod ({ cls := "BalloonShare", name := "wordOf", desc := "(II)I" } : Jvm.MethodName)) ∈ lw_all := lw_g (lw_at lw_m0 91 rfl) rfl
theorem q109 : (Jvm.Cond.code ({ cls := "BalloonShare", name := "wordOf", desc := "(II)I" } : Jvm.MethodName) prog_1_method_4_code (3 : Nat) (Option.some Jvm.ClassFile.FieldType.int)) ∈ lw_all := lw_g (lw_at lw_m0 92 rfl) rfl
theorem q111 : (Jvm.Cond.instanceMethod ({ cls := "BalloonShare", name := "fill", desc := "(IIII)I" } : Jvm.MethodName)) ∈ lw_all := lw_g (lw_at lw_m0 94 rfl) rfl
theorem q112 : (Jvm.Cond.selects "BalloonShare" ({ cls := "BalloonShare", name := "fill", desc := "(IIII)I" } : Jvm.MethodName) ({ cls := "BalloonShare", name := "fill", desc := "(IIII)I" } : Jvm.MethodName)) ∈ lw_all := lw_g (lw_at lw_m0 95 rfl) rfl
theorem q113 : (Jvm.Cond.code ({ cls := "BalloonShare", name := "fill", desc := "(IIII)I" } : Jvm.MethodName) prog_1_method_15_code (7 : Nat) (Option.some Jvm.ClassFile.FieldType.int)) ∈ lw_all := lw_g (lw_at lw_m0 96 rfl) rfl
theorem q114 : (Jvm.Cond.methodLink "BalloonShare" (82 : Nat) ({ cls := "BalloonShare", name := "badPage", desc := "(I)Z" } : Jvm.MethodName)) ∈ lw_all := lw_g (lw_at lw_m0 97 rfl) rfl
theorem q115 : (Jvm.Cond.static ({ cls := "BalloonShare", name := "badPage", desc := "(I)Z" } : Jvm.MethodName)) ∈ lw_all := lw_g (lw_at lw_m0 98 rfl) rfl
theorem q116 : (Jvm.Cond.code ({ cls := "BalloonShare", name := "badPage", desc := "(I)Z" } : Jvm.MethodName) prog_1_method_3_code (1 : Nat) (Option.some Jvm.ClassFile.FieldType.boolean)) ∈ lw_all := lw_g (lw_at lw_m0 99 rfl) rfl
theorem q118 : (Jvm.Cond.instanceMethod ({ cls := "BalloonShare", name := "copy", desc := "(IIII)I" } : Jvm.MethodName)) ∈ lw_all := lw_g (lw_at lw_m0 101 rfl) rfl
theorem q119 : (Jvm.Cond.selects "BalloonShare" ({ cls := "BalloonShare", name := "copy", desc := "(IIII)I" } : Jvm.MethodName) ({ cls := "BalloonShare", name := "copy", desc := "(IIII)I" } : Jvm.MethodName)) ∈ lw_all := lw_g (lw_at lw_m0 102 rfl) rfl
theorem q120 : (Jvm.Cond.code ({ cls := "BalloonShare", name := "copy", desc := "(IIII)I" } : Jvm.MethodName) prog_1_method_16_code (5 : Nat) (Option.some Jvm.ClassFile.FieldType.int)) ∈ lw_all := lw_g (lw_at lw_m0 103 rfl) rfl
theorem q121 : (Jvm.Cond.methodLink "BalloonShare" (85 : Nat) ({ cls := "BalloonShare", name := "attachLike", desc := "(II)V" } : Jvm.MethodName)) ∈ lw_all := lw_g (lw_at lw_m0 104 rfl) rfl
theorem q122 : (Jvm.Cond.privateMethod ({ cls := "BalloonShare", name := "attachLike", desc := "(II)V" } : Jvm.MethodName)) ∈ lw_tbl := lw_at lw_m0 105 rfl
theorem q123 : (Jvm.Cond.instanceMethod ({ cls := "BalloonShare", name := "attachLike", desc := "(II)V" } : Jvm.MethodName)) ∈ lw_all := lw_g (lw_at lw_m0 106 rfl) rfl
theorem q124 : (Jvm.Cond.code ({ cls := "BalloonShare", name := "attachLike", desc := "(II)V" } : Jvm.MethodName) prog_1_method_6_code (3 : Nat) (Option.none : Option Jvm.ClassFile.FieldType)) ∈ lw_all := lw_g (lw_at lw_m0 107 rfl) rfl
theorem q126 : (Jvm.Cond.instanceMethod ({ cls := "BalloonShare", name := "release", desc := "(II)I" } : Jvm.MethodName)) ∈ lw_all := lw_g (lw_at lw_m0 109 rfl) rfl
theorem q127 : (Jvm.Cond.selects "BalloonShare" ({ cls := "BalloonShare", name := "release", desc := "(II)I" } : Jvm.MethodName) ({ cls := "BalloonShare", name := "release", desc := "(II)I" } : Jvm.MethodName)) ∈ lw_all := lw_g (lw_at lw_m0 110 rfl) rfl
theorem q128 : (Jvm.Cond.code ({ cls := "BalloonShare", name := "release", desc := "(II)I" } : Jvm.MethodName) prog_1_method_17_code (3 : Nat) (Option.some Jvm.ClassFile.FieldType.int)) ∈ lw_all := lw_g (lw_at lw_m0 111 rfl) rfl
theorem q130 : (Jvm.Cond.instanceMethod ({ cls := "BalloonShare", name := "cloneGuest", desc := "(II)I" } : Jvm.MethodName)) ∈ lw_all := lw_g (lw_at lw_m0 113 rfl) rfl
theorem q131 : (Jvm.Cond.selects "BalloonShare" ({ cls := "BalloonShare", name := "cloneGuest", desc := "(II)I" } : Jvm.MethodName) ({ cls := "BalloonShare", name := "cloneGuest", desc := "(II)I" } : Jvm.MethodName)) ∈ lw_all := lw_g (lw_at lw_m0 114 rfl) rfl
theorem q132 : (Jvm.Cond.code ({ cls := "BalloonShare", name := "cloneGuest", desc := "(II)I" } : Jvm.MethodName) prog_1_method_18_code (4 : Nat) (Option.some Jvm.ClassFile.FieldType.int)) ∈ lw_all := lw_g (lw_at lw_m0 115 rfl) rfl
theorem q134 : (Jvm.Cond.instanceMethod ({ cls := "BalloonShare", name := "shares", desc := "(II)I" } : Jvm.MethodName)) ∈ lw_all := lw_g (lw_at lw_m0 117 rfl) rfl
theorem q135 : (Jvm.Cond.selects "BalloonShare" ({ cls := "BalloonShare", name := "shares", desc := "(II)I" } : Jvm.MethodName) ({ cls := "BalloonShare", name := "shares", desc := "(II)I" } : Jvm.MethodName)) ∈ lw_all := lw_g (lw_at lw_m0 118 rfl) rfl
theorem q136 : (Jvm.Cond.code ({ cls := "BalloonShare", name := "shares", desc := "(II)I" } : Jvm.MethodName) prog_1_method_19_code (4 : Nat) (Option.some Jvm.ClassFile.FieldType.int)) ∈ lw_all := lw_g (lw_at lw_m0 119 rfl) rfl
theorem q138 : (Jvm.Cond.instanceMethod ({ cls := "BalloonShare", name := "tidy", desc := "(I)V" } : Jvm.MethodName)) ∈ lw_all := lw_g (lw_at lw_m0 121 rfl) rfl
theorem q139 : (Jvm.Cond.selects "BalloonShare" ({ cls := "BalloonShare", name := "tidy", desc := "(I)V" } : Jvm.MethodName) ({ cls := "BalloonShare", name := "tidy", desc := "(I)V" } : Jvm.MethodName)) ∈ lw_all := lw_g (lw_at lw_m0 122 rfl) rfl
theorem q140 : (Jvm.Cond.code ({ cls := "BalloonShare", name := "tidy", desc := "(I)V" } : Jvm.MethodName) prog_1_method_22_code (6 : Nat) (Option.none : Option Jvm.ClassFile.FieldType)) ∈ lw_all := lw_g (lw_at lw_m0 123 rfl) rfl
theorem q141 : (Jvm.Cond.methodLink "BalloonShare" (89 : Nat) ({ cls := "BalloonShare", name := "twinBefore", desc := "(II)I" } : Jvm.MethodName)) ∈ lw_all := lw_g (lw_at lw_m0 124 rfl) rfl
theorem q142 : (Jvm.Cond.privateMethod ({ cls := "BalloonShare", name := "twinBefore", desc := "(II)I" } : Jvm.MethodName)) ∈ lw_tbl := lw_at lw_m0 125 rfl
theorem q143 : (Jvm.Cond.instanceMethod ({ cls := "BalloonShare", name := "twinBefore", desc := "(II)I" } : Jvm.MethodName)) ∈ lw_all := lw_g (lw_at lw_m0 126 rfl) rfl
theorem q144 : (Jvm.Cond.code ({ cls := "BalloonShare", name := "twinBefore", desc := "(II)I" } : Jvm.MethodName) prog_1_method_24_code (9 : Nat) (Option.some Jvm.ClassFile.FieldType.int)) ∈ lw_all := lw_g (lw_at lw_m0 127 rfl) rfl
theorem q145 : (Jvm.Cond.methodLink "BalloonShare" (95 : Nat) ({ cls := "BalloonShare", name := "hashOf", desc := "(I)I" } : Jvm.MethodName)) ∈ lw_all := lw_g (lw_at lw_m0 128 rfl) rfl
theorem q146 : (Jvm.Cond.privateMethod ({ cls := "BalloonShare", name := "hashOf", desc := "(I)I" } : Jvm.MethodName)) ∈ lw_tbl := lw_at lw_m0 129 rfl
theorem q147 : (Jvm.Cond.instanceMethod ({ cls := "BalloonShare", name := "hashOf", desc := "(I)I" } : Jvm.MethodName)) ∈ lw_all := lw_g (lw_at lw_m0 130 rfl) rfl
theorem q148 : (Jvm.Cond.code ({ cls := "BalloonShare", name := "hashOf", desc := "(I)I" } : Jvm.MethodName) prog_1_method_20_code (5 : Nat) (Option.some Jvm.ClassFile.FieldType.int)) ∈ lw_all := lw_g (lw_at lw_m0 131 rfl) rfl
theorem q149 : (Jvm.Cond.methodLink "BalloonShare" (98 : Nat) ({ cls := "BalloonShare", name := "alike", desc := "(II)Z" } : Jvm.MethodName)) ∈ lw_all := lw_g (lw_at lw_m0 132 rfl) rfl
theorem q150 : (Jvm.Cond.privateMethod ({ cls := "BalloonShare", name := "alike", desc := "(II)Z" } : Jvm.MethodName)) ∈ lw_tbl := lw_at lw_m0 133 rfl
theorem q151 : (Jvm.Cond.instanceMethod ({ cls := "BalloonShare", name := "alike", desc := "(II)Z" } : Jvm.MethodName)) ∈ lw_all := lw_g (lw_at lw_m0 134 rfl) rfl
theorem q152 : (Jvm.Cond.code ({ cls := "BalloonShare", name := "alike", desc := "(II)Z" } : Jvm.MethodName) prog_1_method_21_code (6 : Nat) (Option.some Jvm.ClassFile.FieldType.boolean)) ∈ lw_all := lw_g (lw_at lw_m0 135 rfl) rfl
theorem q153 : (Jvm.Cond.methodLink "BalloonShare" (92 : Nat) ({ cls := "BalloonShare", name := "isZero", desc := "(I)Z" } : Jvm.MethodName)) ∈ lw_all := lw_g (lw_at lw_m0 136 rfl) rfl
theorem q154 : (Jvm.Cond.privateMethod ({ cls := "BalloonShare", name := "isZero", desc := "(I)Z" } : Jvm.MethodName)) ∈ lw_tbl := lw_at lw_m0 137 rfl
theorem q155 : (Jvm.Cond.instanceMethod ({ cls := "BalloonShare", name := "isZero", desc := "(I)Z" } : Jvm.MethodName)) ∈ lw_all := lw_g (lw_at lw_m0 138 rfl) rfl
theorem q156 : (Jvm.Cond.code ({ cls := "BalloonShare", name := "isZero", desc := "(I)Z" } : Jvm.MethodName) prog_1_method_23_code (4 : Nat) (Option.some Jvm.ClassFile.FieldType.boolean)) ∈ lw_all := lw_g (lw_at lw_m0 139 rfl) rfl
theorem q158 : (Jvm.Cond.instanceMethod ({ cls := "BalloonShare", name := "read", desc := "(II)I" } : Jvm.MethodName)) ∈ lw_all := lw_g (lw_at lw_m0 141 rfl) rfl
theorem q159 : (Jvm.Cond.selects "BalloonShare" ({ cls := "BalloonShare", name := "read", desc := "(II)I" } : Jvm.MethodName) ({ cls := "BalloonShare", name := "read", desc := "(II)I" } : Jvm.MethodName)) ∈ lw_all := lw_g (lw_at lw_m0 142 rfl) rfl
theorem q160 : (Jvm.Cond.code ({ cls := "BalloonShare", name := "read", desc := "(II)I" } : Jvm.MethodName) prog_1_method_25_code (4 : Nat) (Option.some Jvm.ClassFile.FieldType.int)) ∈ lw_all := lw_g (lw_at lw_m0 143 rfl) rfl
theorem q162 : (Jvm.Cond.instanceMethod ({ cls := "BalloonShare", name := "sum", desc := "(II)I" } : Jvm.MethodName)) ∈ lw_all := lw_g (lw_at lw_m0 145 rfl) rfl
theorem q163 : (Jvm.Cond.selects "BalloonShare" ({ cls := "BalloonShare", name := "sum", desc := "(II)I" } : Jvm.MethodName) ({ cls := "BalloonShare", name := "sum", desc := "(II)I" } : Jvm.MethodName)) ∈ lw_all := lw_g (lw_at lw_m0 146 rfl) rfl
theorem q164 : (Jvm.Cond.code ({ cls := "BalloonShare", name := "sum", desc := "(II)I" } : Jvm.MethodName) prog_1_method_26_code (5 : Nat) (Option.some Jvm.ClassFile.FieldType.int)) ∈ lw_all := lw_g (lw_at lw_m0 147 rfl) rfl
theorem q166 : (Jvm.Cond.instanceMethod ({ cls := "BalloonShare", name := "same", desc := "(IIII)Z" } : Jvm.MethodName)) ∈ lw_all := lw_g (lw_at lw_m0 149 rfl) rfl
theorem q167 : (Jvm.Cond.selects "BalloonShare" ({ cls := "BalloonShare", name := "same", desc := "(IIII)Z" } : Jvm.MethodName) ({ cls := "BalloonShare", name := "same", desc := "(IIII)Z" } : Jvm.MethodName)) ∈ lw_all := lw_g (lw_at lw_m0 150 rfl) rfl
theorem q168 : (Jvm.Cond.code ({ cls := "BalloonShare", name := "same", desc := "(IIII)Z" } : Jvm.MethodName) prog_1_method_27_code (5 : Nat) (Option.some Jvm.ClassFile.FieldType.boolean)) ∈ lw_all := lw_g (lw_at lw_m0 151 rfl) rfl
theorem q170 : (Jvm.Cond.instanceMethod ({ cls := "BalloonShare", name := "contents", desc := "(I)I" } : Jvm.MethodName)) ∈ lw_all := lw_g (lw_at lw_m0 153 rfl) rfl
theorem q171 : (Jvm.Cond.selects "BalloonShare" ({ cls := "BalloonShare", name := "contents", desc := "(I)I" } : Jvm.MethodName) ({ cls := "BalloonShare", name := "contents", desc := "(I)I" } : Jvm.MethodName)) ∈ lw_all := lw_g (lw_at lw_m0 154 rfl) rfl
theorem q172 : (Jvm.Cond.code ({ cls := "BalloonShare", name := "contents", desc := "(I)I" } : Jvm.MethodName) prog_1_method_28_code (7 : Nat) (Option.some Jvm.ClassFile.FieldType.int)) ∈ lw_all := lw_g (lw_at lw_m0 155 rfl) rfl
theorem q174 : (Jvm.Cond.instanceMethod ({ cls := "BalloonShare", name := "twins", desc := "(II)I" } : Jvm.MethodName)) ∈ lw_all := lw_g (lw_at lw_m0 157 rfl) rfl
theorem q175 : (Jvm.Cond.selects "BalloonShare" ({ cls := "BalloonShare", name := "twins", desc := "(II)I" } : Jvm.MethodName) ({ cls := "BalloonShare", name := "twins", desc := "(II)I" } : Jvm.MethodName)) ∈ lw_all := lw_g (lw_at lw_m0 158 rfl) rfl
theorem q176 : (Jvm.Cond.code ({ cls := "BalloonShare", name := "twins", desc := "(II)I" } : Jvm.MethodName) prog_1_method_29_code (6 : Nat) (Option.some Jvm.ClassFile.FieldType.int)) ∈ lw_all := lw_g (lw_at lw_m0 159 rfl) rfl
theorem in_X1 : ∀ w ∈ wsX10, w ∈ lw_all := lw_in wsX10 [40, 42, 44, 46, 48, 50, 52, 54, 56, 58, 60, 62] (by decide +kernel) (by decide +kernel)
/-! BalloonShareModel -/
def RX2 : String := "BalloonShareModel"
def TX2 : u_T := fun k => match k with
  | 0 => ("BalloonShareModel", "words", "[I", true)
  | _ => ("BalloonShareModel", "shares", "[I", true)
def tyX2 : Nat → FieldType := fun k => match k with
  | 0 => .array .int
  | _ => .array .int
abbrev wsX20 : List Cond := u_ws RX2 TX2 2
theorem nmX2 : ∀ a, a < 2 → ∀ b, b < 2 → a ≠ b → (TX2 a).2.1 ≠ (TX2 b).2.1 := by decide +kernel
theorem tyX2_ok : ∀ k, k < 2 → parseFieldDescriptor (TX2 k).2.2.1 = some (tyX2 k) := by decide +kernel
abbrev cX2_init : ByteArray := prog_3_method_1_code
def yX2_init : MethodName := ⟨RX2, "<init>", "(I)V"⟩
abbrev cX2_write : ByteArray := prog_3_method_4_code
def yX2_write : MethodName := ⟨RX2, "write", "(III)I"⟩
abbrev cX2_badGuest : ByteArray := prog_3_method_2_code
def yX2_badGuest : MethodName := ⟨RX2, "badGuest", "(I)Z"⟩
abbrev cX2_fill : ByteArray := prog_3_method_5_code
def yX2_fill : MethodName := ⟨RX2, "fill", "(IIII)I"⟩
abbrev cX2_badPage : ByteArray := prog_3_method_3_code
def yX2_badPage : MethodName := ⟨RX2, "badPage", "(I)Z"⟩
abbrev cX2_copy : ByteArray := prog_3_method_6_code
def yX2_copy : MethodName := ⟨RX2, "copy", "(IIII)I"⟩
abbrev cX2_release : ByteArray := prog_3_method_7_code
def yX2_release : MethodName := ⟨RX2, "release", "(II)I"⟩
abbrev cX2_cloneGuest : ByteArray := prog_3_method_8_code
def yX2_cloneGuest : MethodName := ⟨RX2, "cloneGuest", "(II)I"⟩
abbrev cX2_shares : ByteArray := prog_3_method_9_code
def yX2_shares : MethodName := ⟨RX2, "shares", "(II)I"⟩
abbrev cX2_tidy : ByteArray := prog_3_method_10_code
def yX2_tidy : MethodName := ⟨RX2, "tidy", "(I)V"⟩
abbrev cX2_read : ByteArray := prog_3_method_11_code
def yX2_read : MethodName := ⟨RX2, "read", "(II)I"⟩
abbrev cX2_sum : ByteArray := prog_3_method_12_code
def yX2_sum : MethodName := ⟨RX2, "sum", "(II)I"⟩
abbrev cX2_same : ByteArray := prog_3_method_14_code
def yX2_same : MethodName := ⟨RX2, "same", "(IIII)Z"⟩
abbrev cX2_alike : ByteArray := prog_3_method_13_code
def yX2_alike : MethodName := ⟨RX2, "alike", "(II)Z"⟩
abbrev cX2_contents : ByteArray := prog_3_method_15_code
def yX2_contents : MethodName := ⟨RX2, "contents", "(I)I"⟩
abbrev cX2_twins : ByteArray := prog_3_method_16_code
def yX2_twins : MethodName := ⟨RX2, "twins", "(II)I"⟩
theorem q19 : (Jvm.Cond.initialized "BalloonShareModel") ∈ lw_all := lw_g (lw_at lw_m0 2 rfl) rfl
theorem q181 : (Jvm.Cond.instantiable "BalloonShareModel" (2 : Nat)) ∈ lw_all := lw_g (lw_at lw_m0 164 rfl) rfl
theorem q183 : (Jvm.Cond.instanceMethod ({ cls := "BalloonShareModel", name := "<init>", desc := "(I)V" } : Jvm.MethodName)) ∈ lw_all := lw_g (lw_at lw_m0 166 rfl) rfl
theorem q184 : (Jvm.Cond.code ({ cls := "BalloonShareModel", name := "<init>", desc := "(I)V" } : Jvm.MethodName) prog_3_method_1_code (3 : Nat) (Option.none : Option Jvm.ClassFile.FieldType)) ∈ lw_all := lw_g (lw_at lw_m0 167 rfl) rfl
theorem q185 : (Jvm.Cond.methodLink "BalloonShareModel" (1 : Nat) ({ cls := "java/lang/Object", name := "<init>", desc := "()V" } : Jvm.MethodName)) ∈ lw_all := lw_g (lw_at lw_m0 168 rfl) rfl
theorem q186 : (Jvm.Cond.fieldLink "BalloonShareModel" (7 : Nat) "BalloonShareModel" "words" "[I") ∈ lw_all := lw_g (lw_at lw_m0 169 rfl) rfl
theorem q187 : (Jvm.Cond.fieldLink "BalloonShareModel" (13 : Nat) "BalloonShareModel" "shares" "[I") ∈ lw_all := lw_g (lw_at lw_m0 170 rfl) rfl
theorem q188 : (Jvm.Cond.laysFinal "BalloonShareModel" "BalloonShareModel" "words" "[I") ∈ lw_all := lw_g (lw_at lw_m0 171 rfl) rfl
theorem q189 : (Jvm.Cond.soleField "BalloonShareModel" "words") ∈ lw_all := lw_g (lw_at lw_m0 172 rfl) rfl
theorem q190 : (Jvm.Cond.laysFinal "BalloonShareModel" "BalloonShareModel" "shares" "[I") ∈ lw_all := lw_g (lw_at lw_m0 173 rfl) rfl
theorem q191 : (Jvm.Cond.soleField "BalloonShareModel" "shares") ∈ lw_all := lw_g (lw_at lw_m0 174 rfl) rfl
theorem q192 : (Jvm.Cond.superclass "BalloonShareModel" "java/lang/Object") ∈ lw_all := lw_g (lw_at lw_m0 175 rfl) rfl
theorem q194 : (Jvm.Cond.instanceMethod ({ cls := "BalloonShareModel", name := "write", desc := "(III)I" } : Jvm.MethodName)) ∈ lw_all := lw_g (lw_at lw_m0 177 rfl) rfl
theorem q195 : (Jvm.Cond.selects "BalloonShareModel" ({ cls := "BalloonShareModel", name := "write", desc := "(III)I" } : Jvm.MethodName) ({ cls := "BalloonShareModel", name := "write", desc := "(III)I" } : Jvm.MethodName)) ∈ lw_all := lw_g (lw_at lw_m0 178 rfl) rfl
theorem q196 : (Jvm.Cond.code ({ cls := "BalloonShareModel", name := "write", desc := "(III)I" } : Jvm.MethodName) prog_3_method_4_code (4 : Nat) (Option.some Jvm.ClassFile.FieldType.int)) ∈ lw_all := lw_g (lw_at lw_m0 179 rfl) rfl
theorem q197 : (Jvm.Cond.methodLink "BalloonShareModel" (16 : Nat) ({ cls := "BalloonShareModel", name := "badGuest", desc := "(I)Z" } : Jvm.MethodName)) ∈ lw_all := lw_g (lw_at lw_m0 180 rfl) rfl
theorem q198 : (Jvm.Cond.privateMethod ({ cls := "BalloonShareModel", name := "badGuest", desc := "(I)Z" } : Jvm.MethodName)) ∈ lw_tbl := lw_at lw_m0 181 rfl
theorem q199 : (Jvm.Cond.instanceMethod ({ cls := "BalloonShareModel", name := "badGuest", desc := "(I)Z" } : Jvm.MethodName)) ∈ lw_all := lw_g (lw_at lw_m0 182 rfl) rfl
theorem q200 : (Jvm.Cond.code ({ cls := "BalloonShareModel", name := "badGuest", desc := "(I)Z" } : Jvm.MethodName) prog_3_method_2_code (2 : Nat) (Option.some Jvm.ClassFile.FieldType.boolean)) ∈ lw_all := lw_g (lw_at lw_m0 183 rfl) rfl
theorem q202 : (Jvm.Cond.instanceMethod ({ cls := "BalloonShareModel", name := "fill", desc := "(IIII)I" } : Jvm.MethodName)) ∈ lw_all := lw_g (lw_at lw_m0 185 rfl) rfl
theorem q203 : (Jvm.Cond.selects "BalloonShareModel" ({ cls := "BalloonShareModel", name := "fill", desc := "(IIII)I" } : Jvm.MethodName) ({ cls := "BalloonShareModel", name := "fill", desc := "(IIII)I" } : Jvm.MethodName)) ∈ lw_all := lw_g (lw_at lw_m0 186 rfl) rfl
theorem q204 : (Jvm.Cond.code ({ cls := "BalloonShareModel", name := "fill", desc := "(IIII)I" } : Jvm.MethodName) prog_3_method_5_code (6 : Nat) (Option.some Jvm.ClassFile.FieldType.int)) ∈ lw_all := lw_g (lw_at lw_m0 187 rfl) rfl
theorem q205 : (Jvm.Cond.methodLink "BalloonShareModel" (20 : Nat) ({ cls := "BalloonShareModel", name := "badPage", desc := "(I)Z" } : Jvm.MethodName)) ∈ lw_all := lw_g (lw_at lw_m0 188 rfl) rfl
theorem q206 : (Jvm.Cond.privateMethod ({ cls := "BalloonShareModel", name := "badPage", desc := "(I)Z" } : Jvm.MethodName)) ∈ lw_tbl := lw_at lw_m0 189 rfl
theorem q207 : (Jvm.Cond.instanceMethod ({ cls := "BalloonShareModel", name := "badPage", desc := "(I)Z" } : Jvm.MethodName)) ∈ lw_all := lw_g (lw_at lw_m0 190 rfl) rfl
theorem q208 : (Jvm.Cond.code ({ cls := "BalloonShareModel", name := "badPage", desc := "(I)Z" } : Jvm.MethodName) prog_3_method_3_code (2 : Nat) (Option.some Jvm.ClassFile.FieldType.boolean)) ∈ lw_all := lw_g (lw_at lw_m0 191 rfl) rfl
theorem q210 : (Jvm.Cond.instanceMethod ({ cls := "BalloonShareModel", name := "copy", desc := "(IIII)I" } : Jvm.MethodName)) ∈ lw_all := lw_g (lw_at lw_m0 193 rfl) rfl
theorem q211 : (Jvm.Cond.selects "BalloonShareModel" ({ cls := "BalloonShareModel", name := "copy", desc := "(IIII)I" } : Jvm.MethodName) ({ cls := "BalloonShareModel", name := "copy", desc := "(IIII)I" } : Jvm.MethodName)) ∈ lw_all := lw_g (lw_at lw_m0 194 rfl) rfl
theorem q212 : (Jvm.Cond.code ({ cls := "BalloonShareModel", name := "copy", desc := "(IIII)I" } : Jvm.MethodName) prog_3_method_6_code (6 : Nat) (Option.some Jvm.ClassFile.FieldType.int)) ∈ lw_all := lw_g (lw_at lw_m0 195 rfl) rfl
theorem q214 : (Jvm.Cond.instanceMethod ({ cls := "BalloonShareModel", name := "release", desc := "(II)I" } : Jvm.MethodName)) ∈ lw_all := lw_g (lw_at lw_m0 197 rfl) rfl
theorem q215 : (Jvm.Cond.selects "BalloonShareModel" ({ cls := "BalloonShareModel", name := "release", desc := "(II)I" } : Jvm.MethodName) ({ cls := "BalloonShareModel", name := "release", desc := "(II)I" } : Jvm.MethodName)) ∈ lw_all := lw_g (lw_at lw_m0 198 rfl) rfl
theorem q216 : (Jvm.Cond.code ({ cls := "BalloonShareModel", name := "release", desc := "(II)I" } : Jvm.MethodName) prog_3_method_7_code (3 : Nat) (Option.some Jvm.ClassFile.FieldType.int)) ∈ lw_all := lw_g (lw_at lw_m0 199 rfl) rfl
theorem q217 : (Jvm.Cond.methodLink "BalloonShareModel" (23 : Nat) ({ cls := "BalloonShareModel", name := "fill", desc := "(IIII)I" } : Jvm.MethodName)) ∈ lw_all := lw_g (lw_at lw_m0 200 rfl) rfl
theorem q219 : (Jvm.Cond.instanceMethod ({ cls := "BalloonShareModel", name := "cloneGuest", desc := "(II)I" } : Jvm.MethodName)) ∈ lw_all := lw_g (lw_at lw_m0 202 rfl) rfl
theorem q220 : (Jvm.Cond.selects "BalloonShareModel" ({ cls := "BalloonShareModel", name := "cloneGuest", desc := "(II)I" } : Jvm.MethodName) ({ cls := "BalloonShareModel", name := "cloneGuest", desc := "(II)I" } : Jvm.MethodName)) ∈ lw_all := lw_g (lw_at lw_m0 203 rfl) rfl
theorem q221 : (Jvm.Cond.code ({ cls := "BalloonShareModel", name := "cloneGuest", desc := "(II)I" } : Jvm.MethodName) prog_3_method_8_code (4 : Nat) (Option.some Jvm.ClassFile.FieldType.int)) ∈ lw_all := lw_g (lw_at lw_m0 204 rfl) rfl
theorem q223 : (Jvm.Cond.instanceMethod ({ cls := "BalloonShareModel", name := "shares", desc := "(II)I" } : Jvm.MethodName)) ∈ lw_all := lw_g (lw_at lw_m0 206 rfl) rfl
theorem q224 : (Jvm.Cond.selects "BalloonShareModel" ({ cls := "BalloonShareModel", name := "shares", desc := "(II)I" } : Jvm.MethodName) ({ cls := "BalloonShareModel", name := "shares", desc := "(II)I" } : Jvm.MethodName)) ∈ lw_all := lw_g (lw_at lw_m0 207 rfl) rfl
theorem q225 : (Jvm.Cond.code ({ cls := "BalloonShareModel", name := "shares", desc := "(II)I" } : Jvm.MethodName) prog_3_method_9_code (4 : Nat) (Option.some Jvm.ClassFile.FieldType.int)) ∈ lw_all := lw_g (lw_at lw_m0 208 rfl) rfl
theorem q227 : (Jvm.Cond.instanceMethod ({ cls := "BalloonShareModel", name := "tidy", desc := "(I)V" } : Jvm.MethodName)) ∈ lw_all := lw_g (lw_at lw_m0 210 rfl) rfl
theorem q228 : (Jvm.Cond.selects "BalloonShareModel" ({ cls := "BalloonShareModel", name := "tidy", desc := "(I)V" } : Jvm.MethodName) ({ cls := "BalloonShareModel", name := "tidy", desc := "(I)V" } : Jvm.MethodName)) ∈ lw_all := lw_g (lw_at lw_m0 211 rfl) rfl
theorem q229 : (Jvm.Cond.code ({ cls := "BalloonShareModel", name := "tidy", desc := "(I)V" } : Jvm.MethodName) prog_3_method_10_code (2 : Nat) (Option.none : Option Jvm.ClassFile.FieldType)) ∈ lw_all := lw_g (lw_at lw_m0 212 rfl) rfl
theorem q231 : (Jvm.Cond.instanceMethod ({ cls := "BalloonShareModel", name := "read", desc := "(II)I" } : Jvm.MethodName)) ∈ lw_all := lw_g (lw_at lw_m0 214 rfl) rfl
theorem q232 : (Jvm.Cond.selects "BalloonShareModel" ({ cls := "BalloonShareModel", name := "read", desc := "(II)I" } : Jvm.MethodName) ({ cls := "BalloonShareModel", name := "read", desc := "(II)I" } : Jvm.MethodName)) ∈ lw_all := lw_g (lw_at lw_m0 215 rfl) rfl
theorem q233 : (Jvm.Cond.code ({ cls := "BalloonShareModel", name := "read", desc := "(II)I" } : Jvm.MethodName) prog_3_method_11_code (3 : Nat) (Option.some Jvm.ClassFile.FieldType.int)) ∈ lw_all := lw_g (lw_at lw_m0 216 rfl) rfl
theorem q235 : (Jvm.Cond.instanceMethod ({ cls := "BalloonShareModel", name := "sum", desc := "(II)I" } : Jvm.MethodName)) ∈ lw_all := lw_g (lw_at lw_m0 218 rfl) rfl
theorem q236 : (Jvm.Cond.selects "BalloonShareModel" ({ cls := "BalloonShareModel", name := "sum", desc := "(II)I" } : Jvm.MethodName) ({ cls := "BalloonShareModel", name := "sum", desc := "(II)I" } : Jvm.MethodName)) ∈ lw_all := lw_g (lw_at lw_m0 219 rfl) rfl
theorem q237 : (Jvm.Cond.code ({ cls := "BalloonShareModel", name := "sum", desc := "(II)I" } : Jvm.MethodName) prog_3_method_12_code (5 : Nat) (Option.some Jvm.ClassFile.FieldType.int)) ∈ lw_all := lw_g (lw_at lw_m0 220 rfl) rfl
theorem q239 : (Jvm.Cond.instanceMethod ({ cls := "BalloonShareModel", name := "same", desc := "(IIII)Z" } : Jvm.MethodName)) ∈ lw_all := lw_g (lw_at lw_m0 222 rfl) rfl
theorem q240 : (Jvm.Cond.selects "BalloonShareModel" ({ cls := "BalloonShareModel", name := "same", desc := "(IIII)Z" } : Jvm.MethodName) ({ cls := "BalloonShareModel", name := "same", desc := "(IIII)Z" } : Jvm.MethodName)) ∈ lw_all := lw_g (lw_at lw_m0 223 rfl) rfl
theorem q241 : (Jvm.Cond.code ({ cls := "BalloonShareModel", name := "same", desc := "(IIII)Z" } : Jvm.MethodName) prog_3_method_14_code (5 : Nat) (Option.some Jvm.ClassFile.FieldType.boolean)) ∈ lw_all := lw_g (lw_at lw_m0 224 rfl) rfl
theorem q242 : (Jvm.Cond.methodLink "BalloonShareModel" (27 : Nat) ({ cls := "BalloonShareModel", name := "alike", desc := "(II)Z" } : Jvm.MethodName)) ∈ lw_all := lw_g (lw_at lw_m0 225 rfl) rfl
theorem q243 : (Jvm.Cond.privateMethod ({ cls := "BalloonShareModel", name := "alike", desc := "(II)Z" } : Jvm.MethodName)) ∈ lw_tbl := lw_at lw_m0 226 rfl
theorem q244 : (Jvm.Cond.instanceMethod ({ cls := "BalloonShareModel", name := "alike", desc := "(II)Z" } : Jvm.MethodName)) ∈ lw_all := lw_g (lw_at lw_m0 227 rfl) rfl
theorem q245 : (Jvm.Cond.code ({ cls := "BalloonShareModel", name := "alike", desc := "(II)Z" } : Jvm.MethodName) prog_3_method_13_code (4 : Nat) (Option.some Jvm.ClassFile.FieldType.boolean)) ∈ lw_all := lw_g (lw_at lw_m0 228 rfl) rfl
theorem q247 : (Jvm.Cond.instanceMethod ({ cls := "BalloonShareModel", name := "contents", desc := "(I)I" } : Jvm.MethodName)) ∈ lw_all := lw_g (lw_at lw_m0 230 rfl) rfl
theorem q248 : (Jvm.Cond.selects "BalloonShareModel" ({ cls := "BalloonShareModel", name := "contents", desc := "(I)I" } : Jvm.MethodName) ({ cls := "BalloonShareModel", name := "contents", desc := "(I)I" } : Jvm.MethodName)) ∈ lw_all := lw_g (lw_at lw_m0 231 rfl) rfl
theorem q249 : (Jvm.Cond.code ({ cls := "BalloonShareModel", name := "contents", desc := "(I)I" } : Jvm.MethodName) prog_3_method_15_code (6 : Nat) (Option.some Jvm.ClassFile.FieldType.int)) ∈ lw_all := lw_g (lw_at lw_m0 232 rfl) rfl
theorem q251 : (Jvm.Cond.instanceMethod ({ cls := "BalloonShareModel", name := "twins", desc := "(II)I" } : Jvm.MethodName)) ∈ lw_all := lw_g (lw_at lw_m0 234 rfl) rfl
theorem q252 : (Jvm.Cond.selects "BalloonShareModel" ({ cls := "BalloonShareModel", name := "twins", desc := "(II)I" } : Jvm.MethodName) ({ cls := "BalloonShareModel", name := "twins", desc := "(II)I" } : Jvm.MethodName)) ∈ lw_all := lw_g (lw_at lw_m0 235 rfl) rfl
theorem q253 : (Jvm.Cond.code ({ cls := "BalloonShareModel", name := "twins", desc := "(II)I" } : Jvm.MethodName) prog_3_method_16_code (5 : Nat) (Option.some Jvm.ClassFile.FieldType.int)) ∈ lw_all := lw_g (lw_at lw_m0 236 rfl) rfl
theorem in_X2 : ∀ w ∈ wsX20, w ∈ lw_all := lw_in wsX20 [188, 190] (by decide +kernel) (by decide +kernel)
theorem q65 : (Jvm.Cond.arrayClass Jvm.ClassFile.FieldType.int) ∈ lw_all := lw_g (lw_at lw_m0 48 rfl) rfl
theorem q66 : (Jvm.Cond.arrayClass Jvm.ClassFile.FieldType.boolean) ∈ lw_all := lw_g (lw_at lw_m0 49 rfl) rfl
/-! the law's own entry -/
abbrev cL_law : ByteArray := code
end
section
set_option maxRecDepth 100000
theorem dL_law_0 : decode cL_law 0 = .ok (.new 7, 3) := by decide +kernel
theorem dL_law_3 : decode cL_law 3 = .ok (.dup, 1) := by decide +kernel
theorem dL_law_4 : decode cL_law 4 = .ok (.aload_n 0, 1) := by decide +kernel
theorem dL_law_5 : decode cL_law 5 = .ok (.iconst 0, 1) := by decide +kernel
theorem dL_law_6 : decode cL_law 6 = .ok (.invokestatic 9, 3) := by decide +kernel
theorem dL_law_9 : decode cL_law 9 = .ok (.invokespecial 15, 3) := by decide +kernel
theorem dL_law_12 : decode cL_law 12 = .ok (.astore_n 1, 1) := by decide +kernel
theorem dL_law_13 : decode cL_law 13 = .ok (.new 18, 3) := by decide +kernel
theorem dL_law_16 : decode cL_law 16 = .ok (.dup, 1) := by decide +kernel
theorem dL_law_17 : decode cL_law 17 = .ok (.aload_n 0, 1) := by decide +kernel
theorem dL_law_18 : decode cL_law 18 = .ok (.iconst 0, 1) := by decide +kernel
theorem dL_law_19 : decode cL_law 19 = .ok (.invokestatic 9, 3) := by decide +kernel
theorem dL_law_22 : decode cL_law 22 = .ok (.invokespecial 20, 3) := by decide +kernel
theorem dL_law_25 : decode cL_law 25 = .ok (.astore_n 2, 1) := by decide +kernel
theorem dL_law_26 : decode cL_law 26 = .ok (.iconst 1, 1) := by decide +kernel
theorem dL_law_27 : decode cL_law 27 = .ok (.istore_n 3, 1) := by decide +kernel
theorem dL_law_28 : decode cL_law 28 = .ok (.iload_n 3, 1) := by decide +kernel
theorem dL_law_29 : decode cL_law 29 = .ok (.aload_n 0, 1) := by decide +kernel
theorem dL_law_30 : decode cL_law 30 = .ok (.arraylength, 1) := by decide +kernel
theorem dL_law_31 : decode cL_law 31 = .ok (.iconst 5, 1) := by decide +kernel
theorem dL_law_32 : decode cL_law 32 = .ok (.isub, 1) := by decide +kernel
theorem dL_law_33 : decode cL_law 33 = .ok (.if_icmp .gt 521, 3) := by decide +kernel
theorem dL_law_36 : decode cL_law 36 = .ok (.aload_n 0, 1) := by decide +kernel
theorem dL_law_37 : decode cL_law 37 = .ok (.iload_n 3, 1) := by decide +kernel
theorem dL_law_38 : decode cL_law 38 = .ok (.iaload, 1) := by decide +kernel
theorem dL_law_39 : decode cL_law 39 = .ok (.bipush 15, 2) := by decide +kernel
theorem dL_law_41 : decode cL_law 41 = .ok (.iand, 1) := by decide +kernel
theorem dL_law_42 : decode cL_law 42 = .ok (.tableswitch 506 0 11 #[62, 105, 158, 211, 244, 277, 310, 331, 364, 397, 450, 473], 62) := by decide +kernel
theorem dL_law_104 : decode cL_law 104 = .ok (.aload_n 1, 1) := by decide +kernel
theorem dL_law_105 : decode cL_law 105 = .ok (.aload_n 0, 1) := by decide +kernel
theorem dL_law_106 : decode cL_law 106 = .ok (.iload_n 3, 1) := by decide +kernel
theorem dL_law_107 : decode cL_law 107 = .ok (.iconst 1, 1) := by decide +kernel
theorem dL_law_108 : decode cL_law 108 = .ok (.iadd, 1) := by decide +kernel
theorem dL_law_109 : decode cL_law 109 = .ok (.iaload, 1) := by decide +kernel
theorem dL_law_110 : decode cL_law 110 = .ok (.aload_n 0, 1) := by decide +kernel
theorem dL_law_111 : decode cL_law 111 = .ok (.iload_n 3, 1) := by decide +kernel
theorem dL_law_112 : decode cL_law 112 = .ok (.iconst 2, 1) := by decide +kernel
theorem dL_law_113 : decode cL_law 113 = .ok (.iadd, 1) := by decide +kernel
theorem dL_law_114 : decode cL_law 114 = .ok (.iaload, 1) := by decide +kernel
theorem dL_law_115 : decode cL_law 115 = .ok (.aload_n 0, 1) := by decide +kernel
theorem dL_law_116 : decode cL_law 116 = .ok (.iload_n 3, 1) := by decide +kernel
theorem dL_law_117 : decode cL_law 117 = .ok (.iconst 3, 1) := by decide +kernel
theorem dL_law_118 : decode cL_law 118 = .ok (.iadd, 1) := by decide +kernel
theorem dL_law_119 : decode cL_law 119 = .ok (.iaload, 1) := by decide +kernel
theorem dL_law_120 : decode cL_law 120 = .ok (.invokevirtual 21, 3) := by decide +kernel
theorem dL_law_123 : decode cL_law 123 = .ok (.aload_n 2, 1) := by decide +kernel
theorem dL_law_124 : decode cL_law 124 = .ok (.aload_n 0, 1) := by decide +kernel
theorem dL_law_125 : decode cL_law 125 = .ok (.iload_n 3, 1) := by decide +kernel
theorem dL_law_126 : decode cL_law 126 = .ok (.iconst 1, 1) := by decide +kernel
theorem dL_law_127 : decode cL_law 127 = .ok (.iadd, 1) := by decide +kernel
theorem dL_law_128 : decode cL_law 128 = .ok (.iaload, 1) := by decide +kernel
theorem dL_law_129 : decode cL_law 129 = .ok (.aload_n 0, 1) := by decide +kernel
theorem dL_law_130 : decode cL_law 130 = .ok (.iload_n 3, 1) := by decide +kernel
theorem dL_law_131 : decode cL_law 131 = .ok (.iconst 2, 1) := by decide +kernel
theorem dL_law_132 : decode cL_law 132 = .ok (.iadd, 1) := by decide +kernel
theorem dL_law_133 : decode cL_law 133 = .ok (.iaload, 1) := by decide +kernel
theorem dL_law_134 : decode cL_law 134 = .ok (.aload_n 0, 1) := by decide +kernel
theorem dL_law_135 : decode cL_law 135 = .ok (.iload_n 3, 1) := by decide +kernel
theorem dL_law_136 : decode cL_law 136 = .ok (.iconst 3, 1) := by decide +kernel
theorem dL_law_137 : decode cL_law 137 = .ok (.iadd, 1) := by decide +kernel
theorem dL_law_138 : decode cL_law 138 = .ok (.iaload, 1) := by decide +kernel
theorem dL_law_139 : decode cL_law 139 = .ok (.invokevirtual 25, 3) := by decide +kernel
theorem dL_law_142 : decode cL_law 142 = .ok (.if_icmp .eq 406, 3) := by decide +kernel
theorem dL_law_145 : decode cL_law 145 = .ok (.iconst 0, 1) := by decide +kernel
theorem dL_law_146 : decode cL_law 146 = .ok (.ireturn, 1) := by decide +kernel
theorem dL_law_147 : decode cL_law 147 = .ok (.aload_n 1, 1) := by decide +kernel
theorem dL_law_148 : decode cL_law 148 = .ok (.aload_n 0, 1) := by decide +kernel
theorem dL_law_149 : decode cL_law 149 = .ok (.iload_n 3, 1) := by decide +kernel
theorem dL_law_150 : decode cL_law 150 = .ok (.iconst 1, 1) := by decide +kernel
theorem dL_law_151 : decode cL_law 151 = .ok (.iadd, 1) := by decide +kernel
theorem dL_law_152 : decode cL_law 152 = .ok (.iaload, 1) := by decide +kernel
theorem dL_law_153 : decode cL_law 153 = .ok (.aload_n 0, 1) := by decide +kernel
theorem dL_law_154 : decode cL_law 154 = .ok (.iload_n 3, 1) := by decide +kernel
theorem dL_law_155 : decode cL_law 155 = .ok (.iconst 2, 1) := by decide +kernel
theorem dL_law_156 : decode cL_law 156 = .ok (.iadd, 1) := by decide +kernel
theorem dL_law_157 : decode cL_law 157 = .ok (.iaload, 1) := by decide +kernel
theorem dL_law_158 : decode cL_law 158 = .ok (.aload_n 0, 1) := by decide +kernel
theorem dL_law_159 : decode cL_law 159 = .ok (.iload_n 3, 1) := by decide +kernel
theorem dL_law_160 : decode cL_law 160 = .ok (.iconst 3, 1) := by decide +kernel
theorem dL_law_161 : decode cL_law 161 = .ok (.iadd, 1) := by decide +kernel
theorem dL_law_162 : decode cL_law 162 = .ok (.iaload, 1) := by decide +kernel
theorem dL_law_163 : decode cL_law 163 = .ok (.aload_n 0, 1) := by decide +kernel
theorem dL_law_164 : decode cL_law 164 = .ok (.iload_n 3, 1) := by decide +kernel
theorem dL_law_165 : decode cL_law 165 = .ok (.iconst 4, 1) := by decide +kernel
theorem dL_law_166 : decode cL_law 166 = .ok (.iadd, 1) := by decide +kernel
theorem dL_law_167 : decode cL_law 167 = .ok (.iaload, 1) := by decide +kernel
theorem dL_law_168 : decode cL_law 168 = .ok (.invokevirtual 26, 3) := by decide +kernel
theorem dL_law_171 : decode cL_law 171 = .ok (.aload_n 2, 1) := by decide +kernel
theorem dL_law_172 : decode cL_law 172 = .ok (.aload_n 0, 1) := by decide +kernel
theorem dL_law_173 : decode cL_law 173 = .ok (.iload_n 3, 1) := by decide +kernel
theorem dL_law_174 : decode cL_law 174 = .ok (.iconst 1, 1) := by decide +kernel
theorem dL_law_175 : decode cL_law 175 = .ok (.iadd, 1) := by decide +kernel
theorem dL_law_176 : decode cL_law 176 = .ok (.iaload, 1) := by decide +kernel
theorem dL_law_177 : decode cL_law 177 = .ok (.aload_n 0, 1) := by decide +kernel
theorem dL_law_178 : decode cL_law 178 = .ok (.iload_n 3, 1) := by decide +kernel
theorem dL_law_179 : decode cL_law 179 = .ok (.iconst 2, 1) := by decide +kernel
theorem dL_law_180 : decode cL_law 180 = .ok (.iadd, 1) := by decide +kernel
theorem dL_law_181 : decode cL_law 181 = .ok (.iaload, 1) := by decide +kernel
theorem dL_law_182 : decode cL_law 182 = .ok (.aload_n 0, 1) := by decide +kernel
theorem dL_law_183 : decode cL_law 183 = .ok (.iload_n 3, 1) := by decide +kernel
theorem dL_law_184 : decode cL_law 184 = .ok (.iconst 3, 1) := by decide +kernel
theorem dL_law_185 : decode cL_law 185 = .ok (.iadd, 1) := by decide +kernel
theorem dL_law_186 : decode cL_law 186 = .ok (.iaload, 1) := by decide +kernel
theorem dL_law_187 : decode cL_law 187 = .ok (.aload_n 0, 1) := by decide +kernel
theorem dL_law_188 : decode cL_law 188 = .ok (.iload_n 3, 1) := by decide +kernel
theorem dL_law_189 : decode cL_law 189 = .ok (.iconst 4, 1) := by decide +kernel
theorem dL_law_190 : decode cL_law 190 = .ok (.iadd, 1) := by decide +kernel
theorem dL_law_191 : decode cL_law 191 = .ok (.iaload, 1) := by decide +kernel
theorem dL_law_192 : decode cL_law 192 = .ok (.invokevirtual 30, 3) := by decide +kernel
theorem dL_law_195 : decode cL_law 195 = .ok (.if_icmp .eq 353, 3) := by decide +kernel
theorem dL_law_198 : decode cL_law 198 = .ok (.iconst 0, 1) := by decide +kernel
theorem dL_law_199 : decode cL_law 199 = .ok (.ireturn, 1) := by decide +kernel
theorem dL_law_200 : decode cL_law 200 = .ok (.aload_n 1, 1) := by decide +kernel
theorem dL_law_201 : decode cL_law 201 = .ok (.aload_n 0, 1) := by decide +kernel
theorem dL_law_202 : decode cL_law 202 = .ok (.iload_n 3, 1) := by decide +kernel
theorem dL_law_203 : decode cL_law 203 = .ok (.iconst 1, 1) := by decide +kernel
theorem dL_law_204 : decode cL_law 204 = .ok (.iadd, 1) := by decide +kernel
theorem dL_law_205 : decode cL_law 205 = .ok (.iaload, 1) := by decide +kernel
theorem dL_law_206 : decode cL_law 206 = .ok (.aload_n 0, 1) := by decide +kernel
theorem dL_law_207 : decode cL_law 207 = .ok (.iload_n 3, 1) := by decide +kernel
theorem dL_law_208 : decode cL_law 208 = .ok (.iconst 2, 1) := by decide +kernel
theorem dL_law_209 : decode cL_law 209 = .ok (.iadd, 1) := by decide +kernel
theorem dL_law_210 : decode cL_law 210 = .ok (.iaload, 1) := by decide +kernel
theorem dL_law_211 : decode cL_law 211 = .ok (.aload_n 0, 1) := by decide +kernel
theorem dL_law_212 : decode cL_law 212 = .ok (.iload_n 3, 1) := by decide +kernel
theorem dL_law_213 : decode cL_law 213 = .ok (.iconst 3, 1) := by decide +kernel
theorem dL_law_214 : decode cL_law 214 = .ok (.iadd, 1) := by decide +kernel
theorem dL_law_215 : decode cL_law 215 = .ok (.iaload, 1) := by decide +kernel
theorem dL_law_216 : decode cL_law 216 = .ok (.aload_n 0, 1) := by decide +kernel
theorem dL_law_217 : decode cL_law 217 = .ok (.iload_n 3, 1) := by decide +kernel
theorem dL_law_218 : decode cL_law 218 = .ok (.iconst 4, 1) := by decide +kernel
theorem dL_law_219 : decode cL_law 219 = .ok (.iadd, 1) := by decide +kernel
theorem dL_law_220 : decode cL_law 220 = .ok (.iaload, 1) := by decide +kernel
theorem dL_law_221 : decode cL_law 221 = .ok (.invokevirtual 31, 3) := by decide +kernel
theorem dL_law_224 : decode cL_law 224 = .ok (.aload_n 2, 1) := by decide +kernel
end
section
set_option maxRecDepth 100000
theorem dL_law_225 : decode cL_law 225 = .ok (.aload_n 0, 1) := by decide +kernel
theorem dL_law_226 : decode cL_law 226 = .ok (.iload_n 3, 1) := by decide +kernel
theorem dL_law_227 : decode cL_law 227 = .ok (.iconst 1, 1) := by decide +kernel
theorem dL_law_228 : decode cL_law 228 = .ok (.iadd, 1) := by decide +kernel
theorem dL_law_229 : decode cL_law 229 = .ok (.iaload, 1) := by decide +kernel
theorem dL_law_230 : decode cL_law 230 = .ok (.aload_n 0, 1) := by decide +kernel
theorem dL_law_231 : decode cL_law 231 = .ok (.iload_n 3, 1) := by decide +kernel
theorem dL_law_232 : decode cL_law 232 = .ok (.iconst 2, 1) := by decide +kernel
theorem dL_law_233 : decode cL_law 233 = .ok (.iadd, 1) := by decide +kernel
theorem dL_law_234 : decode cL_law 234 = .ok (.iaload, 1) := by decide +kernel
theorem dL_law_235 : decode cL_law 235 = .ok (.aload_n 0, 1) := by decide +kernel
theorem dL_law_236 : decode cL_law 236 = .ok (.iload_n 3, 1) := by decide +kernel
theorem dL_law_237 : decode cL_law 237 = .ok (.iconst 3, 1) := by decide +kernel
theorem dL_law_238 : decode cL_law 238 = .ok (.iadd, 1) := by decide +kernel
theorem dL_law_239 : decode cL_law 239 = .ok (.iaload, 1) := by decide +kernel
theorem dL_law_240 : decode cL_law 240 = .ok (.aload_n 0, 1) := by decide +kernel
theorem dL_law_241 : decode cL_law 241 = .ok (.iload_n 3, 1) := by decide +kernel
theorem dL_law_242 : decode cL_law 242 = .ok (.iconst 4, 1) := by decide +kernel
theorem dL_law_243 : decode cL_law 243 = .ok (.iadd, 1) := by decide +kernel
theorem dL_law_244 : decode cL_law 244 = .ok (.iaload, 1) := by decide +kernel
theorem dL_law_245 : decode cL_law 245 = .ok (.invokevirtual 34, 3) := by decide +kernel
theorem dL_law_248 : decode cL_law 248 = .ok (.if_icmp .eq 300, 3) := by decide +kernel
theorem dL_law_251 : decode cL_law 251 = .ok (.iconst 0, 1) := by decide +kernel
theorem dL_law_252 : decode cL_law 252 = .ok (.ireturn, 1) := by decide +kernel
theorem dL_law_253 : decode cL_law 253 = .ok (.aload_n 1, 1) := by decide +kernel
theorem dL_law_254 : decode cL_law 254 = .ok (.aload_n 0, 1) := by decide +kernel
theorem dL_law_255 : decode cL_law 255 = .ok (.iload_n 3, 1) := by decide +kernel
theorem dL_law_256 : decode cL_law 256 = .ok (.iconst 1, 1) := by decide +kernel
theorem dL_law_257 : decode cL_law 257 = .ok (.iadd, 1) := by decide +kernel
theorem dL_law_258 : decode cL_law 258 = .ok (.iaload, 1) := by decide +kernel
theorem dL_law_259 : decode cL_law 259 = .ok (.aload_n 0, 1) := by decide +kernel
theorem dL_law_260 : decode cL_law 260 = .ok (.iload_n 3, 1) := by decide +kernel
theorem dL_law_261 : decode cL_law 261 = .ok (.iconst 2, 1) := by decide +kernel
theorem dL_law_262 : decode cL_law 262 = .ok (.iadd, 1) := by decide +kernel
theorem dL_law_263 : decode cL_law 263 = .ok (.iaload, 1) := by decide +kernel
theorem dL_law_264 : decode cL_law 264 = .ok (.invokevirtual 35, 3) := by decide +kernel
theorem dL_law_267 : decode cL_law 267 = .ok (.aload_n 2, 1) := by decide +kernel
theorem dL_law_268 : decode cL_law 268 = .ok (.aload_n 0, 1) := by decide +kernel
theorem dL_law_269 : decode cL_law 269 = .ok (.iload_n 3, 1) := by decide +kernel
theorem dL_law_270 : decode cL_law 270 = .ok (.iconst 1, 1) := by decide +kernel
theorem dL_law_271 : decode cL_law 271 = .ok (.iadd, 1) := by decide +kernel
theorem dL_law_272 : decode cL_law 272 = .ok (.iaload, 1) := by decide +kernel
theorem dL_law_273 : decode cL_law 273 = .ok (.aload_n 0, 1) := by decide +kernel
theorem dL_law_274 : decode cL_law 274 = .ok (.iload_n 3, 1) := by decide +kernel
theorem dL_law_275 : decode cL_law 275 = .ok (.iconst 2, 1) := by decide +kernel
theorem dL_law_276 : decode cL_law 276 = .ok (.iadd, 1) := by decide +kernel
theorem dL_law_277 : decode cL_law 277 = .ok (.iaload, 1) := by decide +kernel
theorem dL_law_278 : decode cL_law 278 = .ok (.invokevirtual 39, 3) := by decide +kernel
theorem dL_law_281 : decode cL_law 281 = .ok (.if_icmp .eq 267, 3) := by decide +kernel
theorem dL_law_284 : decode cL_law 284 = .ok (.iconst 0, 1) := by decide +kernel
theorem dL_law_285 : decode cL_law 285 = .ok (.ireturn, 1) := by decide +kernel
theorem dL_law_286 : decode cL_law 286 = .ok (.aload_n 1, 1) := by decide +kernel
theorem dL_law_287 : decode cL_law 287 = .ok (.aload_n 0, 1) := by decide +kernel
theorem dL_law_288 : decode cL_law 288 = .ok (.iload_n 3, 1) := by decide +kernel
theorem dL_law_289 : decode cL_law 289 = .ok (.iconst 1, 1) := by decide +kernel
theorem dL_law_290 : decode cL_law 290 = .ok (.iadd, 1) := by decide +kernel
theorem dL_law_291 : decode cL_law 291 = .ok (.iaload, 1) := by decide +kernel
theorem dL_law_292 : decode cL_law 292 = .ok (.aload_n 0, 1) := by decide +kernel
theorem dL_law_293 : decode cL_law 293 = .ok (.iload_n 3, 1) := by decide +kernel
theorem dL_law_294 : decode cL_law 294 = .ok (.iconst 2, 1) := by decide +kernel
theorem dL_law_295 : decode cL_law 295 = .ok (.iadd, 1) := by decide +kernel
theorem dL_law_296 : decode cL_law 296 = .ok (.iaload, 1) := by decide +kernel
theorem dL_law_297 : decode cL_law 297 = .ok (.invokevirtual 40, 3) := by decide +kernel
theorem dL_law_300 : decode cL_law 300 = .ok (.aload_n 2, 1) := by decide +kernel
theorem dL_law_301 : decode cL_law 301 = .ok (.aload_n 0, 1) := by decide +kernel
theorem dL_law_302 : decode cL_law 302 = .ok (.iload_n 3, 1) := by decide +kernel
theorem dL_law_303 : decode cL_law 303 = .ok (.iconst 1, 1) := by decide +kernel
theorem dL_law_304 : decode cL_law 304 = .ok (.iadd, 1) := by decide +kernel
theorem dL_law_305 : decode cL_law 305 = .ok (.iaload, 1) := by decide +kernel
theorem dL_law_306 : decode cL_law 306 = .ok (.aload_n 0, 1) := by decide +kernel
theorem dL_law_307 : decode cL_law 307 = .ok (.iload_n 3, 1) := by decide +kernel
theorem dL_law_308 : decode cL_law 308 = .ok (.iconst 2, 1) := by decide +kernel
theorem dL_law_309 : decode cL_law 309 = .ok (.iadd, 1) := by decide +kernel
theorem dL_law_310 : decode cL_law 310 = .ok (.iaload, 1) := by decide +kernel
theorem dL_law_311 : decode cL_law 311 = .ok (.invokevirtual 43, 3) := by decide +kernel
theorem dL_law_314 : decode cL_law 314 = .ok (.if_icmp .eq 234, 3) := by decide +kernel
theorem dL_law_317 : decode cL_law 317 = .ok (.iconst 0, 1) := by decide +kernel
theorem dL_law_318 : decode cL_law 318 = .ok (.ireturn, 1) := by decide +kernel
theorem dL_law_319 : decode cL_law 319 = .ok (.aload_n 1, 1) := by decide +kernel
theorem dL_law_320 : decode cL_law 320 = .ok (.aload_n 0, 1) := by decide +kernel
theorem dL_law_321 : decode cL_law 321 = .ok (.iload_n 3, 1) := by decide +kernel
theorem dL_law_322 : decode cL_law 322 = .ok (.iconst 1, 1) := by decide +kernel
theorem dL_law_323 : decode cL_law 323 = .ok (.iadd, 1) := by decide +kernel
theorem dL_law_324 : decode cL_law 324 = .ok (.iaload, 1) := by decide +kernel
theorem dL_law_325 : decode cL_law 325 = .ok (.aload_n 0, 1) := by decide +kernel
theorem dL_law_326 : decode cL_law 326 = .ok (.iload_n 3, 1) := by decide +kernel
theorem dL_law_327 : decode cL_law 327 = .ok (.iconst 2, 1) := by decide +kernel
theorem dL_law_328 : decode cL_law 328 = .ok (.iadd, 1) := by decide +kernel
theorem dL_law_329 : decode cL_law 329 = .ok (.iaload, 1) := by decide +kernel
theorem dL_law_330 : decode cL_law 330 = .ok (.invokevirtual 44, 3) := by decide +kernel
theorem dL_law_333 : decode cL_law 333 = .ok (.aload_n 2, 1) := by decide +kernel
theorem dL_law_334 : decode cL_law 334 = .ok (.aload_n 0, 1) := by decide +kernel
theorem dL_law_335 : decode cL_law 335 = .ok (.iload_n 3, 1) := by decide +kernel
theorem dL_law_336 : decode cL_law 336 = .ok (.iconst 1, 1) := by decide +kernel
theorem dL_law_337 : decode cL_law 337 = .ok (.iadd, 1) := by decide +kernel
theorem dL_law_338 : decode cL_law 338 = .ok (.iaload, 1) := by decide +kernel
theorem dL_law_339 : decode cL_law 339 = .ok (.aload_n 0, 1) := by decide +kernel
theorem dL_law_340 : decode cL_law 340 = .ok (.iload_n 3, 1) := by decide +kernel
theorem dL_law_341 : decode cL_law 341 = .ok (.iconst 2, 1) := by decide +kernel
theorem dL_law_342 : decode cL_law 342 = .ok (.iadd, 1) := by decide +kernel
theorem dL_law_343 : decode cL_law 343 = .ok (.iaload, 1) := by decide +kernel
theorem dL_law_344 : decode cL_law 344 = .ok (.invokevirtual 47, 3) := by decide +kernel
theorem dL_law_347 : decode cL_law 347 = .ok (.if_icmp .eq 201, 3) := by decide +kernel
theorem dL_law_350 : decode cL_law 350 = .ok (.iconst 0, 1) := by decide +kernel
theorem dL_law_351 : decode cL_law 351 = .ok (.ireturn, 1) := by decide +kernel
theorem dL_law_352 : decode cL_law 352 = .ok (.aload_n 1, 1) := by decide +kernel
theorem dL_law_353 : decode cL_law 353 = .ok (.aload_n 0, 1) := by decide +kernel
theorem dL_law_354 : decode cL_law 354 = .ok (.iload_n 3, 1) := by decide +kernel
theorem dL_law_355 : decode cL_law 355 = .ok (.iconst 1, 1) := by decide +kernel
theorem dL_law_356 : decode cL_law 356 = .ok (.iadd, 1) := by decide +kernel
theorem dL_law_357 : decode cL_law 357 = .ok (.iaload, 1) := by decide +kernel
theorem dL_law_358 : decode cL_law 358 = .ok (.invokevirtual 48, 3) := by decide +kernel
theorem dL_law_361 : decode cL_law 361 = .ok (.aload_n 2, 1) := by decide +kernel
theorem dL_law_362 : decode cL_law 362 = .ok (.aload_n 0, 1) := by decide +kernel
theorem dL_law_363 : decode cL_law 363 = .ok (.iload_n 3, 1) := by decide +kernel
theorem dL_law_364 : decode cL_law 364 = .ok (.iconst 1, 1) := by decide +kernel
theorem dL_law_365 : decode cL_law 365 = .ok (.iadd, 1) := by decide +kernel
theorem dL_law_366 : decode cL_law 366 = .ok (.iaload, 1) := by decide +kernel
theorem dL_law_367 : decode cL_law 367 = .ok (.invokevirtual 51, 3) := by decide +kernel
theorem dL_law_370 : decode cL_law 370 = .ok (.goto 178, 3) := by decide +kernel
theorem dL_law_373 : decode cL_law 373 = .ok (.aload_n 1, 1) := by decide +kernel
theorem dL_law_374 : decode cL_law 374 = .ok (.aload_n 0, 1) := by decide +kernel
theorem dL_law_375 : decode cL_law 375 = .ok (.iload_n 3, 1) := by decide +kernel
theorem dL_law_376 : decode cL_law 376 = .ok (.iconst 1, 1) := by decide +kernel
theorem dL_law_377 : decode cL_law 377 = .ok (.iadd, 1) := by decide +kernel
theorem dL_law_378 : decode cL_law 378 = .ok (.iaload, 1) := by decide +kernel
theorem dL_law_379 : decode cL_law 379 = .ok (.aload_n 0, 1) := by decide +kernel
theorem dL_law_380 : decode cL_law 380 = .ok (.iload_n 3, 1) := by decide +kernel
theorem dL_law_381 : decode cL_law 381 = .ok (.iconst 2, 1) := by decide +kernel
theorem dL_law_382 : decode cL_law 382 = .ok (.iadd, 1) := by decide +kernel
theorem dL_law_383 : decode cL_law 383 = .ok (.iaload, 1) := by decide +kernel
theorem dL_law_384 : decode cL_law 384 = .ok (.invokevirtual 52, 3) := by decide +kernel
theorem dL_law_387 : decode cL_law 387 = .ok (.aload_n 2, 1) := by decide +kernel
theorem dL_law_388 : decode cL_law 388 = .ok (.aload_n 0, 1) := by decide +kernel
theorem dL_law_389 : decode cL_law 389 = .ok (.iload_n 3, 1) := by decide +kernel
end
section
set_option maxRecDepth 100000
theorem dL_law_390 : decode cL_law 390 = .ok (.iconst 1, 1) := by decide +kernel
theorem dL_law_391 : decode cL_law 391 = .ok (.iadd, 1) := by decide +kernel
theorem dL_law_392 : decode cL_law 392 = .ok (.iaload, 1) := by decide +kernel
theorem dL_law_393 : decode cL_law 393 = .ok (.aload_n 0, 1) := by decide +kernel
theorem dL_law_394 : decode cL_law 394 = .ok (.iload_n 3, 1) := by decide +kernel
theorem dL_law_395 : decode cL_law 395 = .ok (.iconst 2, 1) := by decide +kernel
theorem dL_law_396 : decode cL_law 396 = .ok (.iadd, 1) := by decide +kernel
theorem dL_law_397 : decode cL_law 397 = .ok (.iaload, 1) := by decide +kernel
theorem dL_law_398 : decode cL_law 398 = .ok (.invokevirtual 55, 3) := by decide +kernel
theorem dL_law_401 : decode cL_law 401 = .ok (.if_icmp .eq 147, 3) := by decide +kernel
theorem dL_law_404 : decode cL_law 404 = .ok (.iconst 0, 1) := by decide +kernel
theorem dL_law_405 : decode cL_law 405 = .ok (.ireturn, 1) := by decide +kernel
theorem dL_law_406 : decode cL_law 406 = .ok (.aload_n 1, 1) := by decide +kernel
theorem dL_law_407 : decode cL_law 407 = .ok (.aload_n 0, 1) := by decide +kernel
theorem dL_law_408 : decode cL_law 408 = .ok (.iload_n 3, 1) := by decide +kernel
theorem dL_law_409 : decode cL_law 409 = .ok (.iconst 1, 1) := by decide +kernel
theorem dL_law_410 : decode cL_law 410 = .ok (.iadd, 1) := by decide +kernel
theorem dL_law_411 : decode cL_law 411 = .ok (.iaload, 1) := by decide +kernel
theorem dL_law_412 : decode cL_law 412 = .ok (.aload_n 0, 1) := by decide +kernel
theorem dL_law_413 : decode cL_law 413 = .ok (.iload_n 3, 1) := by decide +kernel
theorem dL_law_414 : decode cL_law 414 = .ok (.iconst 2, 1) := by decide +kernel
theorem dL_law_415 : decode cL_law 415 = .ok (.iadd, 1) := by decide +kernel
theorem dL_law_416 : decode cL_law 416 = .ok (.iaload, 1) := by decide +kernel
theorem dL_law_417 : decode cL_law 417 = .ok (.invokevirtual 56, 3) := by decide +kernel
theorem dL_law_420 : decode cL_law 420 = .ok (.aload_n 2, 1) := by decide +kernel
theorem dL_law_421 : decode cL_law 421 = .ok (.aload_n 0, 1) := by decide +kernel
theorem dL_law_422 : decode cL_law 422 = .ok (.iload_n 3, 1) := by decide +kernel
theorem dL_law_423 : decode cL_law 423 = .ok (.iconst 1, 1) := by decide +kernel
theorem dL_law_424 : decode cL_law 424 = .ok (.iadd, 1) := by decide +kernel
theorem dL_law_425 : decode cL_law 425 = .ok (.iaload, 1) := by decide +kernel
theorem dL_law_426 : decode cL_law 426 = .ok (.aload_n 0, 1) := by decide +kernel
theorem dL_law_427 : decode cL_law 427 = .ok (.iload_n 3, 1) := by decide +kernel
theorem dL_law_428 : decode cL_law 428 = .ok (.iconst 2, 1) := by decide +kernel
theorem dL_law_429 : decode cL_law 429 = .ok (.iadd, 1) := by decide +kernel
theorem dL_law_430 : decode cL_law 430 = .ok (.iaload, 1) := by decide +kernel
theorem dL_law_431 : decode cL_law 431 = .ok (.invokevirtual 59, 3) := by decide +kernel
theorem dL_law_434 : decode cL_law 434 = .ok (.if_icmp .eq 114, 3) := by decide +kernel
theorem dL_law_437 : decode cL_law 437 = .ok (.iconst 0, 1) := by decide +kernel
theorem dL_law_438 : decode cL_law 438 = .ok (.ireturn, 1) := by decide +kernel
theorem dL_law_439 : decode cL_law 439 = .ok (.aload_n 1, 1) := by decide +kernel
theorem dL_law_440 : decode cL_law 440 = .ok (.aload_n 0, 1) := by decide +kernel
theorem dL_law_441 : decode cL_law 441 = .ok (.iload_n 3, 1) := by decide +kernel
theorem dL_law_442 : decode cL_law 442 = .ok (.iconst 1, 1) := by decide +kernel
theorem dL_law_443 : decode cL_law 443 = .ok (.iadd, 1) := by decide +kernel
theorem dL_law_444 : decode cL_law 444 = .ok (.iaload, 1) := by decide +kernel
theorem dL_law_445 : decode cL_law 445 = .ok (.aload_n 0, 1) := by decide +kernel
theorem dL_law_446 : decode cL_law 446 = .ok (.iload_n 3, 1) := by decide +kernel
theorem dL_law_447 : decode cL_law 447 = .ok (.iconst 2, 1) := by decide +kernel
theorem dL_law_448 : decode cL_law 448 = .ok (.iadd, 1) := by decide +kernel
theorem dL_law_449 : decode cL_law 449 = .ok (.iaload, 1) := by decide +kernel
theorem dL_law_450 : decode cL_law 450 = .ok (.aload_n 0, 1) := by decide +kernel
theorem dL_law_451 : decode cL_law 451 = .ok (.iload_n 3, 1) := by decide +kernel
theorem dL_law_452 : decode cL_law 452 = .ok (.iconst 3, 1) := by decide +kernel
theorem dL_law_453 : decode cL_law 453 = .ok (.iadd, 1) := by decide +kernel
theorem dL_law_454 : decode cL_law 454 = .ok (.iaload, 1) := by decide +kernel
theorem dL_law_455 : decode cL_law 455 = .ok (.aload_n 0, 1) := by decide +kernel
theorem dL_law_456 : decode cL_law 456 = .ok (.iload_n 3, 1) := by decide +kernel
theorem dL_law_457 : decode cL_law 457 = .ok (.iconst 4, 1) := by decide +kernel
theorem dL_law_458 : decode cL_law 458 = .ok (.iadd, 1) := by decide +kernel
theorem dL_law_459 : decode cL_law 459 = .ok (.iaload, 1) := by decide +kernel
theorem dL_law_460 : decode cL_law 460 = .ok (.invokevirtual 60, 3) := by decide +kernel
theorem dL_law_463 : decode cL_law 463 = .ok (.aload_n 2, 1) := by decide +kernel
theorem dL_law_464 : decode cL_law 464 = .ok (.aload_n 0, 1) := by decide +kernel
theorem dL_law_465 : decode cL_law 465 = .ok (.iload_n 3, 1) := by decide +kernel
theorem dL_law_466 : decode cL_law 466 = .ok (.iconst 1, 1) := by decide +kernel
theorem dL_law_467 : decode cL_law 467 = .ok (.iadd, 1) := by decide +kernel
theorem dL_law_468 : decode cL_law 468 = .ok (.iaload, 1) := by decide +kernel
theorem dL_law_469 : decode cL_law 469 = .ok (.aload_n 0, 1) := by decide +kernel
theorem dL_law_470 : decode cL_law 470 = .ok (.iload_n 3, 1) := by decide +kernel
theorem dL_law_471 : decode cL_law 471 = .ok (.iconst 2, 1) := by decide +kernel
theorem dL_law_472 : decode cL_law 472 = .ok (.iadd, 1) := by decide +kernel
theorem dL_law_473 : decode cL_law 473 = .ok (.iaload, 1) := by decide +kernel
theorem dL_law_474 : decode cL_law 474 = .ok (.aload_n 0, 1) := by decide +kernel
theorem dL_law_475 : decode cL_law 475 = .ok (.iload_n 3, 1) := by decide +kernel
theorem dL_law_476 : decode cL_law 476 = .ok (.iconst 3, 1) := by decide +kernel
theorem dL_law_477 : decode cL_law 477 = .ok (.iadd, 1) := by decide +kernel
theorem dL_law_478 : decode cL_law 478 = .ok (.iaload, 1) := by decide +kernel
theorem dL_law_479 : decode cL_law 479 = .ok (.aload_n 0, 1) := by decide +kernel
theorem dL_law_480 : decode cL_law 480 = .ok (.iload_n 3, 1) := by decide +kernel
theorem dL_law_481 : decode cL_law 481 = .ok (.iconst 4, 1) := by decide +kernel
theorem dL_law_482 : decode cL_law 482 = .ok (.iadd, 1) := by decide +kernel
theorem dL_law_483 : decode cL_law 483 = .ok (.iaload, 1) := by decide +kernel
theorem dL_law_484 : decode cL_law 484 = .ok (.invokevirtual 64, 3) := by decide +kernel
theorem dL_law_487 : decode cL_law 487 = .ok (.if_icmp .eq 61, 3) := by decide +kernel
theorem dL_law_490 : decode cL_law 490 = .ok (.iconst 0, 1) := by decide +kernel
theorem dL_law_491 : decode cL_law 491 = .ok (.ireturn, 1) := by decide +kernel
theorem dL_law_492 : decode cL_law 492 = .ok (.aload_n 1, 1) := by decide +kernel
theorem dL_law_493 : decode cL_law 493 = .ok (.aload_n 0, 1) := by decide +kernel
theorem dL_law_494 : decode cL_law 494 = .ok (.iload_n 3, 1) := by decide +kernel
theorem dL_law_495 : decode cL_law 495 = .ok (.iconst 1, 1) := by decide +kernel
theorem dL_law_496 : decode cL_law 496 = .ok (.iadd, 1) := by decide +kernel
theorem dL_law_497 : decode cL_law 497 = .ok (.iaload, 1) := by decide +kernel
theorem dL_law_498 : decode cL_law 498 = .ok (.invokevirtual 65, 3) := by decide +kernel
theorem dL_law_501 : decode cL_law 501 = .ok (.aload_n 2, 1) := by decide +kernel
theorem dL_law_502 : decode cL_law 502 = .ok (.aload_n 0, 1) := by decide +kernel
theorem dL_law_503 : decode cL_law 503 = .ok (.iload_n 3, 1) := by decide +kernel
theorem dL_law_504 : decode cL_law 504 = .ok (.iconst 1, 1) := by decide +kernel
theorem dL_law_505 : decode cL_law 505 = .ok (.iadd, 1) := by decide +kernel
theorem dL_law_506 : decode cL_law 506 = .ok (.iaload, 1) := by decide +kernel
theorem dL_law_507 : decode cL_law 507 = .ok (.invokevirtual 69, 3) := by decide +kernel
theorem dL_law_510 : decode cL_law 510 = .ok (.if_icmp .eq 38, 3) := by decide +kernel
theorem dL_law_513 : decode cL_law 513 = .ok (.iconst 0, 1) := by decide +kernel
theorem dL_law_514 : decode cL_law 514 = .ok (.ireturn, 1) := by decide +kernel
theorem dL_law_515 : decode cL_law 515 = .ok (.aload_n 1, 1) := by decide +kernel
theorem dL_law_516 : decode cL_law 516 = .ok (.aload_n 0, 1) := by decide +kernel
theorem dL_law_517 : decode cL_law 517 = .ok (.iload_n 3, 1) := by decide +kernel
theorem dL_law_518 : decode cL_law 518 = .ok (.iconst 1, 1) := by decide +kernel
theorem dL_law_519 : decode cL_law 519 = .ok (.iadd, 1) := by decide +kernel
theorem dL_law_520 : decode cL_law 520 = .ok (.iaload, 1) := by decide +kernel
theorem dL_law_521 : decode cL_law 521 = .ok (.aload_n 0, 1) := by decide +kernel
theorem dL_law_522 : decode cL_law 522 = .ok (.iload_n 3, 1) := by decide +kernel
theorem dL_law_523 : decode cL_law 523 = .ok (.iconst 2, 1) := by decide +kernel
theorem dL_law_524 : decode cL_law 524 = .ok (.iadd, 1) := by decide +kernel
theorem dL_law_525 : decode cL_law 525 = .ok (.iaload, 1) := by decide +kernel
theorem dL_law_526 : decode cL_law 526 = .ok (.invokevirtual 70, 3) := by decide +kernel
theorem dL_law_529 : decode cL_law 529 = .ok (.aload_n 2, 1) := by decide +kernel
theorem dL_law_530 : decode cL_law 530 = .ok (.aload_n 0, 1) := by decide +kernel
theorem dL_law_531 : decode cL_law 531 = .ok (.iload_n 3, 1) := by decide +kernel
theorem dL_law_532 : decode cL_law 532 = .ok (.iconst 1, 1) := by decide +kernel
theorem dL_law_533 : decode cL_law 533 = .ok (.iadd, 1) := by decide +kernel
theorem dL_law_534 : decode cL_law 534 = .ok (.iaload, 1) := by decide +kernel
theorem dL_law_535 : decode cL_law 535 = .ok (.aload_n 0, 1) := by decide +kernel
theorem dL_law_536 : decode cL_law 536 = .ok (.iload_n 3, 1) := by decide +kernel
theorem dL_law_537 : decode cL_law 537 = .ok (.iconst 2, 1) := by decide +kernel
theorem dL_law_538 : decode cL_law 538 = .ok (.iadd, 1) := by decide +kernel
theorem dL_law_539 : decode cL_law 539 = .ok (.iaload, 1) := by decide +kernel
theorem dL_law_540 : decode cL_law 540 = .ok (.invokevirtual 73, 3) := by decide +kernel
theorem dL_law_543 : decode cL_law 543 = .ok (.if_icmp .eq 5, 3) := by decide +kernel
theorem dL_law_546 : decode cL_law 546 = .ok (.iconst 0, 1) := by decide +kernel
theorem dL_law_547 : decode cL_law 547 = .ok (.ireturn, 1) := by decide +kernel
theorem dL_law_548 : decode cL_law 548 = .ok (.iinc 3 5, 3) := by decide +kernel
theorem dL_law_551 : decode cL_law 551 = .ok (.goto (-523), 3) := by decide +kernel
theorem dL_law_554 : decode cL_law 554 = .ok (.iconst 1, 1) := by decide +kernel
theorem dL_law_555 : decode cL_law 555 = .ok (.ireturn, 1) := by decide +kernel
end
section
set_option maxRecDepth 100000
theorem dX1_init_0 : decode cX1_init 0 = .ok (.aload_n 0, 1) := by decide +kernel
theorem dX1_init_1 : decode cX1_init 1 = .ok (.invokespecial 1, 3) := by decide +kernel
theorem dX1_init_4 : decode cX1_init 4 = .ok (.aload_n 0, 1) := by decide +kernel
theorem dX1_init_5 : decode cX1_init 5 = .ok (.bipush 24, 2) := by decide +kernel
theorem dX1_init_7 : decode cX1_init 7 = .ok (.newarray .int, 2) := by decide +kernel
theorem dX1_init_9 : decode cX1_init 9 = .ok (.putfield 7, 3) := by decide +kernel
theorem dX1_init_12 : decode cX1_init 12 = .ok (.aload_n 0, 1) := by decide +kernel
theorem dX1_init_13 : decode cX1_init 13 = .ok (.bipush 24, 2) := by decide +kernel
theorem dX1_init_15 : decode cX1_init 15 = .ok (.newarray .int, 2) := by decide +kernel
theorem dX1_init_17 : decode cX1_init 17 = .ok (.putfield 13, 3) := by decide +kernel
theorem dX1_init_20 : decode cX1_init 20 = .ok (.aload_n 0, 1) := by decide +kernel
theorem dX1_init_21 : decode cX1_init 21 = .ok (.bipush 64, 2) := by decide +kernel
theorem dX1_init_23 : decode cX1_init 23 = .ok (.newarray .int, 2) := by decide +kernel
theorem dX1_init_25 : decode cX1_init 25 = .ok (.putfield 16, 3) := by decide +kernel
theorem dX1_init_28 : decode cX1_init 28 = .ok (.aload_n 0, 1) := by decide +kernel
theorem dX1_init_29 : decode cX1_init 29 = .ok (.bipush 16, 2) := by decide +kernel
theorem dX1_init_31 : decode cX1_init 31 = .ok (.newarray .int, 2) := by decide +kernel
theorem dX1_init_33 : decode cX1_init 33 = .ok (.putfield 19, 3) := by decide +kernel
theorem dX1_init_36 : decode cX1_init 36 = .ok (.aload_n 0, 1) := by decide +kernel
theorem dX1_init_37 : decode cX1_init 37 = .ok (.bipush 16, 2) := by decide +kernel
theorem dX1_init_39 : decode cX1_init 39 = .ok (.newarray .boolean, 2) := by decide +kernel
theorem dX1_init_41 : decode cX1_init 41 = .ok (.putfield 22, 3) := by decide +kernel
theorem dX1_init_44 : decode cX1_init 44 = .ok (.aload_n 0, 1) := by decide +kernel
theorem dX1_init_45 : decode cX1_init 45 = .ok (.bipush 96, 2) := by decide +kernel
theorem dX1_init_47 : decode cX1_init 47 = .ok (.newarray .int, 2) := by decide +kernel
theorem dX1_init_49 : decode cX1_init 49 = .ok (.putfield 26, 3) := by decide +kernel
theorem dX1_init_52 : decode cX1_init 52 = .ok (.aload_n 0, 1) := by decide +kernel
theorem dX1_init_53 : decode cX1_init 53 = .ok (.bipush 24, 2) := by decide +kernel
theorem dX1_init_55 : decode cX1_init 55 = .ok (.newarray .int, 2) := by decide +kernel
theorem dX1_init_57 : decode cX1_init 57 = .ok (.putfield 29, 3) := by decide +kernel
theorem dX1_init_60 : decode cX1_init 60 = .ok (.aload_n 0, 1) := by decide +kernel
theorem dX1_init_61 : decode cX1_init 61 = .ok (.iconst 3, 1) := by decide +kernel
theorem dX1_init_62 : decode cX1_init 62 = .ok (.newarray .int, 2) := by decide +kernel
theorem dX1_init_64 : decode cX1_init 64 = .ok (.putfield 32, 3) := by decide +kernel
theorem dX1_init_67 : decode cX1_init 67 = .ok (.aload_n 0, 1) := by decide +kernel
theorem dX1_init_68 : decode cX1_init 68 = .ok (.iconst 3, 1) := by decide +kernel
theorem dX1_init_69 : decode cX1_init 69 = .ok (.newarray .int, 2) := by decide +kernel
theorem dX1_init_71 : decode cX1_init 71 = .ok (.putfield 35, 3) := by decide +kernel
theorem dX1_init_74 : decode cX1_init 74 = .ok (.aload_n 0, 1) := by decide +kernel
theorem dX1_init_75 : decode cX1_init 75 = .ok (.iconst 3, 1) := by decide +kernel
theorem dX1_init_76 : decode cX1_init 76 = .ok (.newarray .int, 2) := by decide +kernel
theorem dX1_init_78 : decode cX1_init 78 = .ok (.putfield 38, 3) := by decide +kernel
theorem dX1_init_81 : decode cX1_init 81 = .ok (.iload_n 1, 1) := by decide +kernel
theorem dX1_init_82 : decode cX1_init 82 = .ok (.istore_n 2, 1) := by decide +kernel
theorem dX1_init_83 : decode cX1_init 83 = .ok (.iload_n 2, 1) := by decide +kernel
theorem dX1_init_84 : decode cX1_init 84 = .ok (.iconst 3, 1) := by decide +kernel
theorem dX1_init_85 : decode cX1_init 85 = .ok (.if_icmp .ge 5, 3) := by decide +kernel
theorem dX1_init_88 : decode cX1_init 88 = .ok (.iconst 3, 1) := by decide +kernel
theorem dX1_init_89 : decode cX1_init 89 = .ok (.istore_n 2, 1) := by decide +kernel
theorem dX1_init_90 : decode cX1_init 90 = .ok (.iload_n 2, 1) := by decide +kernel
theorem dX1_init_91 : decode cX1_init 91 = .ok (.bipush 16, 2) := by decide +kernel
theorem dX1_init_93 : decode cX1_init 93 = .ok (.if_icmp .le 6, 3) := by decide +kernel
theorem dX1_init_96 : decode cX1_init 96 = .ok (.bipush 16, 2) := by decide +kernel
theorem dX1_init_98 : decode cX1_init 98 = .ok (.istore_n 2, 1) := by decide +kernel
theorem dX1_init_99 : decode cX1_init 99 = .ok (.aload_n 0, 1) := by decide +kernel
theorem dX1_init_100 : decode cX1_init 100 = .ok (.iload_n 2, 1) := by decide +kernel
theorem dX1_init_101 : decode cX1_init 101 = .ok (.putfield 41, 3) := by decide +kernel
theorem dX1_init_104 : decode cX1_init 104 = .ok (.iconst 0, 1) := by decide +kernel
theorem dX1_init_105 : decode cX1_init 105 = .ok (.istore_n 3, 1) := by decide +kernel
theorem dX1_init_106 : decode cX1_init 106 = .ok (.iload_n 3, 1) := by decide +kernel
theorem dX1_init_107 : decode cX1_init 107 = .ok (.bipush 24, 2) := by decide +kernel
theorem dX1_init_109 : decode cX1_init 109 = .ok (.if_icmp .ge 23, 3) := by decide +kernel
theorem dX1_init_112 : decode cX1_init 112 = .ok (.aload_n 0, 1) := by decide +kernel
theorem dX1_init_113 : decode cX1_init 113 = .ok (.getfield 7, 3) := by decide +kernel
theorem dX1_init_116 : decode cX1_init 116 = .ok (.iload_n 3, 1) := by decide +kernel
theorem dX1_init_117 : decode cX1_init 117 = .ok (.iconst (-1), 1) := by decide +kernel
theorem dX1_init_118 : decode cX1_init 118 = .ok (.iastore, 1) := by decide +kernel
theorem dX1_init_119 : decode cX1_init 119 = .ok (.aload_n 0, 1) := by decide +kernel
theorem dX1_init_120 : decode cX1_init 120 = .ok (.getfield 13, 3) := by decide +kernel
theorem dX1_init_123 : decode cX1_init 123 = .ok (.iload_n 3, 1) := by decide +kernel
theorem dX1_init_124 : decode cX1_init 124 = .ok (.iconst (-1), 1) := by decide +kernel
theorem dX1_init_125 : decode cX1_init 125 = .ok (.iastore, 1) := by decide +kernel
theorem dX1_init_126 : decode cX1_init 126 = .ok (.iinc 3 1, 3) := by decide +kernel
theorem dX1_init_129 : decode cX1_init 129 = .ok (.goto (-23), 3) := by decide +kernel
theorem dX1_init_132 : decode cX1_init 132 = .ok (.iconst 0, 1) := by decide +kernel
theorem dX1_init_133 : decode cX1_init 133 = .ok (.istore_n 3, 1) := by decide +kernel
theorem dX1_init_134 : decode cX1_init 134 = .ok (.iload_n 3, 1) := by decide +kernel
theorem dX1_init_135 : decode cX1_init 135 = .ok (.iconst 3, 1) := by decide +kernel
theorem dX1_init_136 : decode cX1_init 136 = .ok (.if_icmp .ge 16, 3) := by decide +kernel
theorem dX1_init_139 : decode cX1_init 139 = .ok (.aload_n 0, 1) := by decide +kernel
theorem dX1_init_140 : decode cX1_init 140 = .ok (.getfield 32, 3) := by decide +kernel
theorem dX1_init_143 : decode cX1_init 143 = .ok (.iload_n 3, 1) := by decide +kernel
theorem dX1_init_144 : decode cX1_init 144 = .ok (.iconst 1, 1) := by decide +kernel
theorem dX1_init_145 : decode cX1_init 145 = .ok (.iastore, 1) := by decide +kernel
theorem dX1_init_146 : decode cX1_init 146 = .ok (.iinc 3 1, 3) := by decide +kernel
theorem dX1_init_149 : decode cX1_init 149 = .ok (.goto (-15), 3) := by decide +kernel
theorem dX1_init_152 : decode cX1_init 152 = .ok (.return_, 1) := by decide +kernel
theorem dX1_write_0 : decode cX1_write 0 = .ok (.iload_n 1, 1) := by decide +kernel
theorem dX1_write_1 : decode cX1_write 1 = .ok (.invokestatic 75, 3) := by decide +kernel
theorem dX1_write_4 : decode cX1_write 4 = .ok (.ifCond .eq 5, 3) := by decide +kernel
theorem dX1_write_7 : decode cX1_write 7 = .ok (.iconst (-1), 1) := by decide +kernel
theorem dX1_write_8 : decode cX1_write 8 = .ok (.ireturn, 1) := by decide +kernel
theorem dX1_write_9 : decode cX1_write 9 = .ok (.iload_n 2, 1) := by decide +kernel
theorem dX1_write_10 : decode cX1_write 10 = .ok (.ifCond .lt 9, 3) := by decide +kernel
theorem dX1_write_13 : decode cX1_write 13 = .ok (.iload_n 2, 1) := by decide +kernel
theorem dX1_write_14 : decode cX1_write 14 = .ok (.bipush 31, 2) := by decide +kernel
theorem dX1_write_16 : decode cX1_write 16 = .ok (.if_icmp .le 6, 3) := by decide +kernel
theorem dX1_write_19 : decode cX1_write 19 = .ok (.bipush (-3), 2) := by decide +kernel
theorem dX1_write_21 : decode cX1_write 21 = .ok (.ireturn, 1) := by decide +kernel
theorem dX1_write_22 : decode cX1_write 22 = .ok (.iload_n 1, 1) := by decide +kernel
theorem dX1_write_23 : decode cX1_write 23 = .ok (.bipush 8, 2) := by decide +kernel
theorem dX1_write_25 : decode cX1_write 25 = .ok (.imul, 1) := by decide +kernel
theorem dX1_write_26 : decode cX1_write 26 = .ok (.iload_n 2, 1) := by decide +kernel
theorem dX1_write_27 : decode cX1_write 27 = .ok (.iconst 4, 1) := by decide +kernel
theorem dX1_write_28 : decode cX1_write 28 = .ok (.idiv, 1) := by decide +kernel
theorem dX1_write_29 : decode cX1_write 29 = .ok (.iadd, 1) := by decide +kernel
theorem dX1_write_30 : decode cX1_write 30 = .ok (.istore 4, 2) := by decide +kernel
theorem dX1_write_32 : decode cX1_write 32 = .ok (.aload_n 0, 1) := by decide +kernel
theorem dX1_write_33 : decode cX1_write 33 = .ok (.iload 4, 2) := by decide +kernel
theorem dX1_write_35 : decode cX1_write 35 = .ok (.invokevirtual 79, 3) := by decide +kernel
theorem dX1_write_38 : decode cX1_write 38 = .ok (.istore 5, 2) := by decide +kernel
theorem dX1_write_40 : decode cX1_write 40 = .ok (.aload_n 0, 1) := by decide +kernel
theorem dX1_write_41 : decode cX1_write 41 = .ok (.getfield 16, 3) := by decide +kernel
theorem dX1_write_44 : decode cX1_write 44 = .ok (.iload 5, 2) := by decide +kernel
theorem dX1_write_46 : decode cX1_write 46 = .ok (.iconst 4, 1) := by decide +kernel
theorem dX1_write_47 : decode cX1_write 47 = .ok (.imul, 1) := by decide +kernel
theorem dX1_write_48 : decode cX1_write 48 = .ok (.iload_n 2, 1) := by decide +kernel
theorem dX1_write_49 : decode cX1_write 49 = .ok (.iconst 4, 1) := by decide +kernel
theorem dX1_write_50 : decode cX1_write 50 = .ok (.irem, 1) := by decide +kernel
theorem dX1_write_51 : decode cX1_write 51 = .ok (.iadd, 1) := by decide +kernel
theorem dX1_write_52 : decode cX1_write 52 = .ok (.iload_n 3, 1) := by decide +kernel
theorem dX1_write_53 : decode cX1_write 53 = .ok (.iastore, 1) := by decide +kernel
theorem dX1_write_54 : decode cX1_write 54 = .ok (.iconst 0, 1) := by decide +kernel
theorem dX1_write_55 : decode cX1_write 55 = .ok (.ireturn, 1) := by decide +kernel
theorem dX1_badGuest_0 : decode cX1_badGuest 0 = .ok (.iload_n 0, 1) := by decide +kernel
theorem dX1_badGuest_1 : decode cX1_badGuest 1 = .ok (.ifCond .lt 8, 3) := by decide +kernel
theorem dX1_badGuest_4 : decode cX1_badGuest 4 = .ok (.iload_n 0, 1) := by decide +kernel
theorem dX1_badGuest_5 : decode cX1_badGuest 5 = .ok (.iconst 2, 1) := by decide +kernel
theorem dX1_badGuest_6 : decode cX1_badGuest 6 = .ok (.if_icmp .le 7, 3) := by decide +kernel
theorem dX1_badGuest_9 : decode cX1_badGuest 9 = .ok (.iconst 1, 1) := by decide +kernel
theorem dX1_badGuest_10 : decode cX1_badGuest 10 = .ok (.goto 4, 3) := by decide +kernel
theorem dX1_badGuest_13 : decode cX1_badGuest 13 = .ok (.iconst 0, 1) := by decide +kernel
theorem dX1_badGuest_14 : decode cX1_badGuest 14 = .ok (.ireturn, 1) := by decide +kernel
theorem dX1_ownFrame_0 : decode cX1_ownFrame 0 = .ok (.aload_n 0, 1) := by decide +kernel
theorem dX1_ownFrame_1 : decode cX1_ownFrame 1 = .ok (.getfield 7, 3) := by decide +kernel
theorem dX1_ownFrame_4 : decode cX1_ownFrame 4 = .ok (.iload_n 1, 1) := by decide +kernel
theorem dX1_ownFrame_5 : decode cX1_ownFrame 5 = .ok (.iaload, 1) := by decide +kernel
theorem dX1_ownFrame_6 : decode cX1_ownFrame 6 = .ok (.istore_n 2, 1) := by decide +kernel
theorem dX1_ownFrame_7 : decode cX1_ownFrame 7 = .ok (.iload_n 2, 1) := by decide +kernel
theorem dX1_ownFrame_8 : decode cX1_ownFrame 8 = .ok (.ifCond .lt 22, 3) := by decide +kernel
theorem dX1_ownFrame_11 : decode cX1_ownFrame 11 = .ok (.aload_n 0, 1) := by decide +kernel
theorem dX1_ownFrame_12 : decode cX1_ownFrame 12 = .ok (.getfield 19, 3) := by decide +kernel
theorem dX1_ownFrame_15 : decode cX1_ownFrame 15 = .ok (.iload_n 2, 1) := by decide +kernel
theorem dX1_ownFrame_16 : decode cX1_ownFrame 16 = .ok (.iaload, 1) := by decide +kernel
theorem dX1_ownFrame_17 : decode cX1_ownFrame 17 = .ok (.iconst 1, 1) := by decide +kernel
theorem dX1_ownFrame_18 : decode cX1_ownFrame 18 = .ok (.if_icmp .ne 12, 3) := by decide +kernel
theorem dX1_ownFrame_21 : decode cX1_ownFrame 21 = .ok (.aload_n 0, 1) := by decide +kernel
theorem dX1_ownFrame_22 : decode cX1_ownFrame 22 = .ok (.getfield 22, 3) := by decide +kernel
theorem dX1_ownFrame_25 : decode cX1_ownFrame 25 = .ok (.iload_n 2, 1) := by decide +kernel
theorem dX1_ownFrame_26 : decode cX1_ownFrame 26 = .ok (.iconst 1, 1) := by decide +kernel
theorem dX1_ownFrame_27 : decode cX1_ownFrame 27 = .ok (.bastore, 1) := by decide +kernel
theorem dX1_ownFrame_28 : decode cX1_ownFrame 28 = .ok (.iload_n 2, 1) := by decide +kernel
theorem dX1_ownFrame_29 : decode cX1_ownFrame 29 = .ok (.ireturn, 1) := by decide +kernel
theorem dX1_ownFrame_30 : decode cX1_ownFrame 30 = .ok (.aload_n 0, 1) := by decide +kernel
theorem dX1_ownFrame_31 : decode cX1_ownFrame 31 = .ok (.iload_n 2, 1) := by decide +kernel
theorem dX1_ownFrame_32 : decode cX1_ownFrame 32 = .ok (.invokevirtual 49, 3) := by decide +kernel
theorem dX1_ownFrame_35 : decode cX1_ownFrame 35 = .ok (.istore_n 3, 1) := by decide +kernel
theorem dX1_ownFrame_36 : decode cX1_ownFrame 36 = .ok (.iconst 0, 1) := by decide +kernel
theorem dX1_ownFrame_37 : decode cX1_ownFrame 37 = .ok (.istore 4, 2) := by decide +kernel
theorem dX1_ownFrame_39 : decode cX1_ownFrame 39 = .ok (.iload 4, 2) := by decide +kernel
theorem dX1_ownFrame_41 : decode cX1_ownFrame 41 = .ok (.iconst 4, 1) := by decide +kernel
theorem dX1_ownFrame_42 : decode cX1_ownFrame 42 = .ok (.if_icmp .ge 27, 3) := by decide +kernel
theorem dX1_ownFrame_45 : decode cX1_ownFrame 45 = .ok (.aload_n 0, 1) := by decide +kernel
theorem dX1_ownFrame_46 : decode cX1_ownFrame 46 = .ok (.getfield 16, 3) := by decide +kernel
theorem dX1_ownFrame_49 : decode cX1_ownFrame 49 = .ok (.iload_n 3, 1) := by decide +kernel
theorem dX1_ownFrame_50 : decode cX1_ownFrame 50 = .ok (.iconst 4, 1) := by decide +kernel
theorem dX1_ownFrame_51 : decode cX1_ownFrame 51 = .ok (.imul, 1) := by decide +kernel
theorem dX1_ownFrame_52 : decode cX1_ownFrame 52 = .ok (.iload 4, 2) := by decide +kernel
theorem dX1_ownFrame_54 : decode cX1_ownFrame 54 = .ok (.iadd, 1) := by decide +kernel
theorem dX1_ownFrame_55 : decode cX1_ownFrame 55 = .ok (.aload_n 0, 1) := by decide +kernel
theorem dX1_ownFrame_56 : decode cX1_ownFrame 56 = .ok (.iload_n 1, 1) := by decide +kernel
theorem dX1_ownFrame_57 : decode cX1_ownFrame 57 = .ok (.iload 4, 2) := by decide +kernel
theorem dX1_ownFrame_59 : decode cX1_ownFrame 59 = .ok (.invokevirtual 53, 3) := by decide +kernel
theorem dX1_ownFrame_62 : decode cX1_ownFrame 62 = .ok (.iastore, 1) := by decide +kernel
theorem dX1_ownFrame_63 : decode cX1_ownFrame 63 = .ok (.iinc 4 1, 3) := by decide +kernel
theorem dX1_ownFrame_66 : decode cX1_ownFrame 66 = .ok (.goto (-27), 3) := by decide +kernel
theorem dX1_ownFrame_69 : decode cX1_ownFrame 69 = .ok (.aload_n 0, 1) := by decide +kernel
theorem dX1_ownFrame_70 : decode cX1_ownFrame 70 = .ok (.iload_n 1, 1) := by decide +kernel
theorem dX1_ownFrame_71 : decode cX1_ownFrame 71 = .ok (.invokevirtual 45, 3) := by decide +kernel
theorem dX1_ownFrame_74 : decode cX1_ownFrame 74 = .ok (.aload_n 0, 1) := by decide +kernel
theorem dX1_ownFrame_75 : decode cX1_ownFrame 75 = .ok (.getfield 7, 3) := by decide +kernel
theorem dX1_ownFrame_78 : decode cX1_ownFrame 78 = .ok (.iload_n 1, 1) := by decide +kernel
theorem dX1_ownFrame_79 : decode cX1_ownFrame 79 = .ok (.iload_n 3, 1) := by decide +kernel
theorem dX1_ownFrame_80 : decode cX1_ownFrame 80 = .ok (.iastore, 1) := by decide +kernel
theorem dX1_ownFrame_81 : decode cX1_ownFrame 81 = .ok (.aload_n 0, 1) := by decide +kernel
theorem dX1_ownFrame_82 : decode cX1_ownFrame 82 = .ok (.getfield 19, 3) := by decide +kernel
theorem dX1_ownFrame_85 : decode cX1_ownFrame 85 = .ok (.iload_n 3, 1) := by decide +kernel
theorem dX1_ownFrame_86 : decode cX1_ownFrame 86 = .ok (.iconst 1, 1) := by decide +kernel
theorem dX1_ownFrame_87 : decode cX1_ownFrame 87 = .ok (.iastore, 1) := by decide +kernel
theorem dX1_ownFrame_88 : decode cX1_ownFrame 88 = .ok (.aload_n 0, 1) := by decide +kernel
theorem dX1_ownFrame_89 : decode cX1_ownFrame 89 = .ok (.getfield 22, 3) := by decide +kernel
theorem dX1_ownFrame_92 : decode cX1_ownFrame 92 = .ok (.iload_n 3, 1) := by decide +kernel
theorem dX1_ownFrame_93 : decode cX1_ownFrame 93 = .ok (.iconst 1, 1) := by decide +kernel
theorem dX1_ownFrame_94 : decode cX1_ownFrame 94 = .ok (.bastore, 1) := by decide +kernel
theorem dX1_ownFrame_95 : decode cX1_ownFrame 95 = .ok (.iload_n 3, 1) := by decide +kernel
theorem dX1_ownFrame_96 : decode cX1_ownFrame 96 = .ok (.ireturn, 1) := by decide +kernel
theorem dX1_freeFrame_0 : decode cX1_freeFrame 0 = .ok (.iconst 0, 1) := by decide +kernel
theorem dX1_freeFrame_1 : decode cX1_freeFrame 1 = .ok (.istore_n 2, 1) := by decide +kernel
theorem dX1_freeFrame_2 : decode cX1_freeFrame 2 = .ok (.iload_n 2, 1) := by decide +kernel
theorem dX1_freeFrame_3 : decode cX1_freeFrame 3 = .ok (.aload_n 0, 1) := by decide +kernel
theorem dX1_freeFrame_4 : decode cX1_freeFrame 4 = .ok (.getfield 41, 3) := by decide +kernel
theorem dX1_freeFrame_7 : decode cX1_freeFrame 7 = .ok (.if_icmp .ge 20, 3) := by decide +kernel
theorem dX1_freeFrame_10 : decode cX1_freeFrame 10 = .ok (.aload_n 0, 1) := by decide +kernel
theorem dX1_freeFrame_11 : decode cX1_freeFrame 11 = .ok (.getfield 19, 3) := by decide +kernel
theorem dX1_freeFrame_14 : decode cX1_freeFrame 14 = .ok (.iload_n 2, 1) := by decide +kernel
theorem dX1_freeFrame_15 : decode cX1_freeFrame 15 = .ok (.iaload, 1) := by decide +kernel
theorem dX1_freeFrame_16 : decode cX1_freeFrame 16 = .ok (.ifCond .ne 5, 3) := by decide +kernel
theorem dX1_freeFrame_19 : decode cX1_freeFrame 19 = .ok (.iload_n 2, 1) := by decide +kernel
theorem dX1_freeFrame_20 : decode cX1_freeFrame 20 = .ok (.ireturn, 1) := by decide +kernel
theorem dX1_freeFrame_21 : decode cX1_freeFrame 21 = .ok (.iinc 2 1, 3) := by decide +kernel
theorem dX1_freeFrame_24 : decode cX1_freeFrame 24 = .ok (.goto (-22), 3) := by decide +kernel
theorem dX1_freeFrame_27 : decode cX1_freeFrame 27 = .ok (.aload_n 0, 1) := by decide +kernel
theorem dX1_freeFrame_28 : decode cX1_freeFrame 28 = .ok (.invokevirtual 57, 3) := by decide +kernel
theorem dX1_freeFrame_31 : decode cX1_freeFrame 31 = .ok (.aload_n 0, 1) := by decide +kernel
theorem dX1_freeFrame_32 : decode cX1_freeFrame 32 = .ok (.iload_n 1, 1) := by decide +kernel
theorem dX1_freeFrame_33 : decode cX1_freeFrame 33 = .ok (.invokevirtual 60, 3) := by decide +kernel
theorem dX1_freeFrame_36 : decode cX1_freeFrame 36 = .ok (.istore_n 2, 1) := by decide +kernel
theorem dX1_freeFrame_37 : decode cX1_freeFrame 37 = .ok (.aload_n 0, 1) := by decide +kernel
theorem dX1_freeFrame_38 : decode cX1_freeFrame 38 = .ok (.iload_n 2, 1) := by decide +kernel
theorem dX1_freeFrame_39 : decode cX1_freeFrame 39 = .ok (.iload_n 1, 1) := by decide +kernel
theorem dX1_freeFrame_40 : decode cX1_freeFrame 40 = .ok (.invokevirtual 63, 3) := by decide +kernel
theorem dX1_freeFrame_43 : decode cX1_freeFrame 43 = .ok (.istore_n 3, 1) := by decide +kernel
theorem dX1_freeFrame_44 : decode cX1_freeFrame 44 = .ok (.aload_n 0, 1) := by decide +kernel
theorem dX1_freeFrame_45 : decode cX1_freeFrame 45 = .ok (.iload_n 3, 1) := by decide +kernel
theorem dX1_freeFrame_46 : decode cX1_freeFrame 46 = .ok (.invokevirtual 66, 3) := by decide +kernel
theorem dX1_freeFrame_49 : decode cX1_freeFrame 49 = .ok (.iload_n 3, 1) := by decide +kernel
theorem dX1_freeFrame_50 : decode cX1_freeFrame 50 = .ok (.ireturn, 1) := by decide +kernel
theorem dX1_charge_0 : decode cX1_charge 0 = .ok (.iconst 0, 1) := by decide +kernel
theorem dX1_charge_1 : decode cX1_charge 1 = .ok (.istore_n 1, 1) := by decide +kernel
theorem dX1_charge_2 : decode cX1_charge 2 = .ok (.iload_n 1, 1) := by decide +kernel
theorem dX1_charge_3 : decode cX1_charge 3 = .ok (.iconst 3, 1) := by decide +kernel
theorem dX1_charge_4 : decode cX1_charge 4 = .ok (.if_icmp .ge 23, 3) := by decide +kernel
theorem dX1_charge_7 : decode cX1_charge 7 = .ok (.aload_n 0, 1) := by decide +kernel
theorem dX1_charge_8 : decode cX1_charge 8 = .ok (.getfield 35, 3) := by decide +kernel
theorem dX1_charge_11 : decode cX1_charge 11 = .ok (.iload_n 1, 1) := by decide +kernel
theorem dX1_charge_12 : decode cX1_charge 12 = .ok (.iconst 0, 1) := by decide +kernel
theorem dX1_charge_13 : decode cX1_charge 13 = .ok (.iastore, 1) := by decide +kernel
theorem dX1_charge_14 : decode cX1_charge 14 = .ok (.aload_n 0, 1) := by decide +kernel
theorem dX1_charge_15 : decode cX1_charge 15 = .ok (.getfield 38, 3) := by decide +kernel
theorem dX1_charge_18 : decode cX1_charge 18 = .ok (.iload_n 1, 1) := by decide +kernel
theorem dX1_charge_19 : decode cX1_charge 19 = .ok (.iconst 0, 1) := by decide +kernel
theorem dX1_charge_20 : decode cX1_charge 20 = .ok (.iastore, 1) := by decide +kernel
theorem dX1_charge_21 : decode cX1_charge 21 = .ok (.iinc 1 1, 3) := by decide +kernel
theorem dX1_charge_24 : decode cX1_charge 24 = .ok (.goto (-22), 3) := by decide +kernel
theorem dX1_charge_27 : decode cX1_charge 27 = .ok (.iconst 0, 1) := by decide +kernel
theorem dX1_charge_28 : decode cX1_charge 28 = .ok (.istore_n 1, 1) := by decide +kernel
theorem dX1_charge_29 : decode cX1_charge 29 = .ok (.iload_n 1, 1) := by decide +kernel
theorem dX1_charge_30 : decode cX1_charge 30 = .ok (.aload_n 0, 1) := by decide +kernel
theorem dX1_charge_31 : decode cX1_charge 31 = .ok (.getfield 41, 3) := by decide +kernel
theorem dX1_charge_34 : decode cX1_charge 34 = .ok (.if_icmp .ge 47, 3) := by decide +kernel
theorem dX1_charge_37 : decode cX1_charge 37 = .ok (.aload_n 0, 1) := by decide +kernel
theorem dX1_charge_38 : decode cX1_charge 38 = .ok (.iload_n 1, 1) := by decide +kernel
theorem dX1_charge_39 : decode cX1_charge 39 = .ok (.invokevirtual 69, 3) := by decide +kernel
theorem dX1_charge_42 : decode cX1_charge 42 = .ok (.istore_n 2, 1) := by decide +kernel
theorem dX1_charge_43 : decode cX1_charge 43 = .ok (.aload_n 0, 1) := by decide +kernel
theorem dX1_charge_44 : decode cX1_charge 44 = .ok (.getfield 22, 3) := by decide +kernel
theorem dX1_charge_47 : decode cX1_charge 47 = .ok (.iload_n 1, 1) := by decide +kernel
theorem dX1_charge_48 : decode cX1_charge 48 = .ok (.baload, 1) := by decide +kernel
theorem dX1_charge_49 : decode cX1_charge 49 = .ok (.ifCond .eq 16, 3) := by decide +kernel
theorem dX1_charge_52 : decode cX1_charge 52 = .ok (.aload_n 0, 1) := by decide +kernel
theorem dX1_charge_53 : decode cX1_charge 53 = .ok (.getfield 35, 3) := by decide +kernel
theorem dX1_charge_56 : decode cX1_charge 56 = .ok (.iload_n 2, 1) := by decide +kernel
theorem dX1_charge_57 : decode cX1_charge 57 = .ok (.dup2, 1) := by decide +kernel
theorem dX1_charge_58 : decode cX1_charge 58 = .ok (.iaload, 1) := by decide +kernel
theorem dX1_charge_59 : decode cX1_charge 59 = .ok (.iconst 1, 1) := by decide +kernel
theorem dX1_charge_60 : decode cX1_charge 60 = .ok (.iadd, 1) := by decide +kernel
theorem dX1_charge_61 : decode cX1_charge 61 = .ok (.iastore, 1) := by decide +kernel
theorem dX1_charge_62 : decode cX1_charge 62 = .ok (.goto 13, 3) := by decide +kernel
theorem dX1_charge_65 : decode cX1_charge 65 = .ok (.aload_n 0, 1) := by decide +kernel
theorem dX1_charge_66 : decode cX1_charge 66 = .ok (.getfield 38, 3) := by decide +kernel
theorem dX1_charge_69 : decode cX1_charge 69 = .ok (.iload_n 2, 1) := by decide +kernel
theorem dX1_charge_70 : decode cX1_charge 70 = .ok (.dup2, 1) := by decide +kernel
theorem dX1_charge_71 : decode cX1_charge 71 = .ok (.iaload, 1) := by decide +kernel
theorem dX1_charge_72 : decode cX1_charge 72 = .ok (.iconst 1, 1) := by decide +kernel
theorem dX1_charge_73 : decode cX1_charge 73 = .ok (.iadd, 1) := by decide +kernel
theorem dX1_charge_74 : decode cX1_charge 74 = .ok (.iastore, 1) := by decide +kernel
theorem dX1_charge_75 : decode cX1_charge 75 = .ok (.iinc 1 1, 3) := by decide +kernel
theorem dX1_charge_78 : decode cX1_charge 78 = .ok (.goto (-49), 3) := by decide +kernel
theorem dX1_charge_81 : decode cX1_charge 81 = .ok (.return_, 1) := by decide +kernel
theorem dX1_payer_0 : decode cX1_payer 0 = .ok (.iconst 0, 1) := by decide +kernel
theorem dX1_payer_1 : decode cX1_payer 1 = .ok (.istore_n 2, 1) := by decide +kernel
theorem dX1_payer_2 : decode cX1_payer 2 = .ok (.iload_n 2, 1) := by decide +kernel
theorem dX1_payer_3 : decode cX1_payer 3 = .ok (.bipush 24, 2) := by decide +kernel
theorem dX1_payer_5 : decode cX1_payer 5 = .ok (.if_icmp .ge 24, 3) := by decide +kernel
theorem dX1_payer_8 : decode cX1_payer 8 = .ok (.aload_n 0, 1) := by decide +kernel
theorem dX1_payer_9 : decode cX1_payer 9 = .ok (.getfield 7, 3) := by decide +kernel
theorem dX1_payer_12 : decode cX1_payer 12 = .ok (.iload_n 2, 1) := by decide +kernel
theorem dX1_payer_13 : decode cX1_payer 13 = .ok (.iaload, 1) := by decide +kernel
theorem dX1_payer_14 : decode cX1_payer 14 = .ok (.iload_n 1, 1) := by decide +kernel
theorem dX1_payer_15 : decode cX1_payer 15 = .ok (.if_icmp .ne 8, 3) := by decide +kernel
theorem dX1_payer_18 : decode cX1_payer 18 = .ok (.iload_n 2, 1) := by decide +kernel
theorem dX1_payer_19 : decode cX1_payer 19 = .ok (.bipush 8, 2) := by decide +kernel
theorem dX1_payer_21 : decode cX1_payer 21 = .ok (.idiv, 1) := by decide +kernel
theorem dX1_payer_22 : decode cX1_payer 22 = .ok (.ireturn, 1) := by decide +kernel
theorem dX1_payer_23 : decode cX1_payer 23 = .ok (.iinc 2 1, 3) := by decide +kernel
theorem dX1_payer_26 : decode cX1_payer 26 = .ok (.goto (-24), 3) := by decide +kernel
theorem dX1_payer_29 : decode cX1_payer 29 = .ok (.iconst 0, 1) := by decide +kernel
theorem dX1_payer_30 : decode cX1_payer 30 = .ok (.ireturn, 1) := by decide +kernel
theorem dX1_poorest_0 : decode cX1_poorest 0 = .ok (.iconst (-1), 1) := by decide +kernel
theorem dX1_poorest_1 : decode cX1_poorest 1 = .ok (.istore_n 2, 1) := by decide +kernel
theorem dX1_poorest_2 : decode cX1_poorest 2 = .ok (.iconst 0, 1) := by decide +kernel
theorem dX1_poorest_3 : decode cX1_poorest 3 = .ok (.istore_n 3, 1) := by decide +kernel
theorem dX1_poorest_4 : decode cX1_poorest 4 = .ok (.iload_n 3, 1) := by decide +kernel
theorem dX1_poorest_5 : decode cX1_poorest 5 = .ok (.iconst 3, 1) := by decide +kernel
theorem dX1_poorest_6 : decode cX1_poorest 6 = .ok (.if_icmp .ge 111, 3) := by decide +kernel
theorem dX1_poorest_9 : decode cX1_poorest 9 = .ok (.aload_n 0, 1) := by decide +kernel
theorem dX1_poorest_10 : decode cX1_poorest 10 = .ok (.getfield 35, 3) := by decide +kernel
theorem dX1_poorest_13 : decode cX1_poorest 13 = .ok (.iload_n 3, 1) := by decide +kernel
theorem dX1_poorest_14 : decode cX1_poorest 14 = .ok (.iaload, 1) := by decide +kernel
theorem dX1_poorest_15 : decode cX1_poorest 15 = .ok (.iconst 4, 1) := by decide +kernel
theorem dX1_poorest_16 : decode cX1_poorest 16 = .ok (.aload_n 0, 1) := by decide +kernel
theorem dX1_poorest_17 : decode cX1_poorest 17 = .ok (.getfield 38, 3) := by decide +kernel
theorem dX1_poorest_20 : decode cX1_poorest 20 = .ok (.iload_n 3, 1) := by decide +kernel
theorem dX1_poorest_21 : decode cX1_poorest 21 = .ok (.iaload, 1) := by decide +kernel
theorem dX1_poorest_22 : decode cX1_poorest 22 = .ok (.imul, 1) := by decide +kernel
theorem dX1_poorest_23 : decode cX1_poorest 23 = .ok (.iadd, 1) := by decide +kernel
theorem dX1_poorest_24 : decode cX1_poorest 24 = .ok (.istore 4, 2) := by decide +kernel
theorem dX1_poorest_26 : decode cX1_poorest 26 = .ok (.aload_n 0, 1) := by decide +kernel
theorem dX1_poorest_27 : decode cX1_poorest 27 = .ok (.getfield 35, 3) := by decide +kernel
theorem dX1_poorest_30 : decode cX1_poorest 30 = .ok (.iload_n 3, 1) := by decide +kernel
theorem dX1_poorest_31 : decode cX1_poorest 31 = .ok (.iaload, 1) := by decide +kernel
theorem dX1_poorest_32 : decode cX1_poorest 32 = .ok (.aload_n 0, 1) := by decide +kernel
theorem dX1_poorest_33 : decode cX1_poorest 33 = .ok (.getfield 38, 3) := by decide +kernel
theorem dX1_poorest_36 : decode cX1_poorest 36 = .ok (.iload_n 3, 1) := by decide +kernel
theorem dX1_poorest_37 : decode cX1_poorest 37 = .ok (.iaload, 1) := by decide +kernel
theorem dX1_poorest_38 : decode cX1_poorest 38 = .ok (.iadd, 1) := by decide +kernel
theorem dX1_poorest_39 : decode cX1_poorest 39 = .ok (.istore 5, 2) := by decide +kernel
theorem dX1_poorest_41 : decode cX1_poorest 41 = .ok (.iload_n 1, 1) := by decide +kernel
theorem dX1_poorest_42 : decode cX1_poorest 42 = .ok (.ifCond .lt 19, 3) := by decide +kernel
theorem dX1_poorest_45 : decode cX1_poorest 45 = .ok (.aload_n 0, 1) := by decide +kernel
theorem dX1_poorest_46 : decode cX1_poorest 46 = .ok (.iload_n 1, 1) := by decide +kernel
theorem dX1_poorest_47 : decode cX1_poorest 47 = .ok (.invokevirtual 69, 3) := by decide +kernel
theorem dX1_poorest_50 : decode cX1_poorest 50 = .ok (.istore 6, 2) := by decide +kernel
theorem dX1_poorest_52 : decode cX1_poorest 52 = .ok (.iload 6, 2) := by decide +kernel
theorem dX1_poorest_54 : decode cX1_poorest 54 = .ok (.iload_n 3, 1) := by decide +kernel
theorem dX1_poorest_55 : decode cX1_poorest 55 = .ok (.if_icmp .ne 6, 3) := by decide +kernel
theorem dX1_poorest_58 : decode cX1_poorest 58 = .ok (.iinc 5 (-1), 3) := by decide +kernel
theorem dX1_poorest_61 : decode cX1_poorest 61 = .ok (.iload 5, 2) := by decide +kernel
theorem dX1_poorest_63 : decode cX1_poorest 63 = .ok (.ifCond .le 48, 3) := by decide +kernel
theorem dX1_poorest_66 : decode cX1_poorest 66 = .ok (.iload_n 2, 1) := by decide +kernel
theorem dX1_poorest_67 : decode cX1_poorest 67 = .ok (.ifCond .ge 8, 3) := by decide +kernel
theorem dX1_poorest_70 : decode cX1_poorest 70 = .ok (.iload_n 3, 1) := by decide +kernel
theorem dX1_poorest_71 : decode cX1_poorest 71 = .ok (.istore_n 2, 1) := by decide +kernel
theorem dX1_poorest_72 : decode cX1_poorest 72 = .ok (.goto 39, 3) := by decide +kernel
theorem dX1_poorest_75 : decode cX1_poorest 75 = .ok (.aload_n 0, 1) := by decide +kernel
theorem dX1_poorest_76 : decode cX1_poorest 76 = .ok (.getfield 32, 3) := by decide +kernel
theorem dX1_poorest_79 : decode cX1_poorest 79 = .ok (.iload_n 3, 1) := by decide +kernel
theorem dX1_poorest_80 : decode cX1_poorest 80 = .ok (.iaload, 1) := by decide +kernel
theorem dX1_poorest_81 : decode cX1_poorest 81 = .ok (.aload_n 0, 1) := by decide +kernel
theorem dX1_poorest_82 : decode cX1_poorest 82 = .ok (.getfield 35, 3) := by decide +kernel
theorem dX1_poorest_85 : decode cX1_poorest 85 = .ok (.iload_n 2, 1) := by decide +kernel
theorem dX1_poorest_86 : decode cX1_poorest 86 = .ok (.iaload, 1) := by decide +kernel
theorem dX1_poorest_87 : decode cX1_poorest 87 = .ok (.iconst 4, 1) := by decide +kernel
theorem dX1_poorest_88 : decode cX1_poorest 88 = .ok (.aload_n 0, 1) := by decide +kernel
theorem dX1_poorest_89 : decode cX1_poorest 89 = .ok (.getfield 38, 3) := by decide +kernel
theorem dX1_poorest_92 : decode cX1_poorest 92 = .ok (.iload_n 2, 1) := by decide +kernel
theorem dX1_poorest_93 : decode cX1_poorest 93 = .ok (.iaload, 1) := by decide +kernel
theorem dX1_poorest_94 : decode cX1_poorest 94 = .ok (.imul, 1) := by decide +kernel
theorem dX1_poorest_95 : decode cX1_poorest 95 = .ok (.iadd, 1) := by decide +kernel
theorem dX1_poorest_96 : decode cX1_poorest 96 = .ok (.imul, 1) := by decide +kernel
theorem dX1_poorest_97 : decode cX1_poorest 97 = .ok (.aload_n 0, 1) := by decide +kernel
theorem dX1_poorest_98 : decode cX1_poorest 98 = .ok (.getfield 32, 3) := by decide +kernel
theorem dX1_poorest_101 : decode cX1_poorest 101 = .ok (.iload_n 2, 1) := by decide +kernel
theorem dX1_poorest_102 : decode cX1_poorest 102 = .ok (.iaload, 1) := by decide +kernel
theorem dX1_poorest_103 : decode cX1_poorest 103 = .ok (.iload 4, 2) := by decide +kernel
theorem dX1_poorest_105 : decode cX1_poorest 105 = .ok (.imul, 1) := by decide +kernel
theorem dX1_poorest_106 : decode cX1_poorest 106 = .ok (.if_icmp .ge 5, 3) := by decide +kernel
theorem dX1_poorest_109 : decode cX1_poorest 109 = .ok (.iload_n 3, 1) := by decide +kernel
theorem dX1_poorest_110 : decode cX1_poorest 110 = .ok (.istore_n 2, 1) := by decide +kernel
theorem dX1_poorest_111 : decode cX1_poorest 111 = .ok (.iinc 3 1, 3) := by decide +kernel
theorem dX1_poorest_114 : decode cX1_poorest 114 = .ok (.goto (-110), 3) := by decide +kernel
theorem dX1_poorest_117 : decode cX1_poorest 117 = .ok (.iload_n 2, 1) := by decide +kernel
theorem dX1_poorest_118 : decode cX1_poorest 118 = .ok (.ifCond .ge 7, 3) := by decide +kernel
theorem dX1_poorest_121 : decode cX1_poorest 121 = .ok (.iconst 0, 1) := by decide +kernel
theorem dX1_poorest_122 : decode cX1_poorest 122 = .ok (.goto 4, 3) := by decide +kernel
theorem dX1_poorest_125 : decode cX1_poorest 125 = .ok (.iload_n 2, 1) := by decide +kernel
theorem dX1_poorest_126 : decode cX1_poorest 126 = .ok (.ireturn, 1) := by decide +kernel
theorem dX1_victim_0 : decode cX1_victim 0 = .ok (.iload_n 2, 1) := by decide +kernel
theorem dX1_victim_1 : decode cX1_victim 1 = .ok (.ifCond .ne 7, 3) := by decide +kernel
theorem dX1_victim_4 : decode cX1_victim 4 = .ok (.iconst 1, 1) := by decide +kernel
theorem dX1_victim_5 : decode cX1_victim 5 = .ok (.goto 4, 3) := by decide +kernel
theorem dX1_victim_8 : decode cX1_victim 8 = .ok (.iconst 0, 1) := by decide +kernel
theorem dX1_victim_9 : decode cX1_victim 9 = .ok (.istore_n 3, 1) := by decide +kernel
theorem dX1_victim_10 : decode cX1_victim 10 = .ok (.iconst 0, 1) := by decide +kernel
theorem dX1_victim_11 : decode cX1_victim 11 = .ok (.istore 4, 2) := by decide +kernel
theorem dX1_victim_13 : decode cX1_victim 13 = .ok (.iload 4, 2) := by decide +kernel
theorem dX1_victim_15 : decode cX1_victim 15 = .ok (.iconst 2, 1) := by decide +kernel
theorem dX1_victim_16 : decode cX1_victim 16 = .ok (.aload_n 0, 1) := by decide +kernel
theorem dX1_victim_17 : decode cX1_victim 17 = .ok (.getfield 41, 3) := by decide +kernel
theorem dX1_victim_20 : decode cX1_victim 20 = .ok (.imul, 1) := by decide +kernel
theorem dX1_victim_21 : decode cX1_victim 21 = .ok (.if_icmp .ge 92, 3) := by decide +kernel
theorem dX1_victim_24 : decode cX1_victim 24 = .ok (.aload_n 0, 1) := by decide +kernel
theorem dX1_victim_25 : decode cX1_victim 25 = .ok (.aload_n 0, 1) := by decide +kernel
theorem dX1_victim_26 : decode cX1_victim 26 = .ok (.getfield 72, 3) := by decide +kernel
theorem dX1_victim_29 : decode cX1_victim 29 = .ok (.iconst 1, 1) := by decide +kernel
theorem dX1_victim_30 : decode cX1_victim 30 = .ok (.iadd, 1) := by decide +kernel
theorem dX1_victim_31 : decode cX1_victim 31 = .ok (.aload_n 0, 1) := by decide +kernel
theorem dX1_victim_32 : decode cX1_victim 32 = .ok (.getfield 41, 3) := by decide +kernel
theorem dX1_victim_35 : decode cX1_victim 35 = .ok (.if_icmp .lt 7, 3) := by decide +kernel
theorem dX1_victim_38 : decode cX1_victim 38 = .ok (.iconst 0, 1) := by decide +kernel
end
section
set_option maxRecDepth 100000
theorem dX1_victim_39 : decode cX1_victim 39 = .ok (.goto 9, 3) := by decide +kernel
theorem dX1_victim_42 : decode cX1_victim 42 = .ok (.aload_n 0, 1) := by decide +kernel
theorem dX1_victim_43 : decode cX1_victim 43 = .ok (.getfield 72, 3) := by decide +kernel
theorem dX1_victim_46 : decode cX1_victim 46 = .ok (.iconst 1, 1) := by decide +kernel
theorem dX1_victim_47 : decode cX1_victim 47 = .ok (.iadd, 1) := by decide +kernel
theorem dX1_victim_48 : decode cX1_victim 48 = .ok (.putfield 72, 3) := by decide +kernel
theorem dX1_victim_51 : decode cX1_victim 51 = .ok (.aload_n 0, 1) := by decide +kernel
theorem dX1_victim_52 : decode cX1_victim 52 = .ok (.aload_n 0, 1) := by decide +kernel
theorem dX1_victim_53 : decode cX1_victim 53 = .ok (.getfield 72, 3) := by decide +kernel
theorem dX1_victim_56 : decode cX1_victim 56 = .ok (.invokevirtual 69, 3) := by decide +kernel
theorem dX1_victim_59 : decode cX1_victim 59 = .ok (.istore 5, 2) := by decide +kernel
theorem dX1_victim_61 : decode cX1_victim 61 = .ok (.aload_n 0, 1) := by decide +kernel
theorem dX1_victim_62 : decode cX1_victim 62 = .ok (.getfield 72, 3) := by decide +kernel
theorem dX1_victim_65 : decode cX1_victim 65 = .ok (.iload_n 2, 1) := by decide +kernel
theorem dX1_victim_66 : decode cX1_victim 66 = .ok (.if_icmp .eq 41, 3) := by decide +kernel
theorem dX1_victim_69 : decode cX1_victim 69 = .ok (.iload 5, 2) := by decide +kernel
theorem dX1_victim_71 : decode cX1_victim 71 = .ok (.iload_n 1, 1) := by decide +kernel
theorem dX1_victim_72 : decode cX1_victim 72 = .ok (.if_icmp .ne 35, 3) := by decide +kernel
theorem dX1_victim_75 : decode cX1_victim 75 = .ok (.aload_n 0, 1) := by decide +kernel
theorem dX1_victim_76 : decode cX1_victim 76 = .ok (.getfield 22, 3) := by decide +kernel
theorem dX1_victim_79 : decode cX1_victim 79 = .ok (.aload_n 0, 1) := by decide +kernel
theorem dX1_victim_80 : decode cX1_victim 80 = .ok (.getfield 72, 3) := by decide +kernel
theorem dX1_victim_83 : decode cX1_victim 83 = .ok (.baload, 1) := by decide +kernel
theorem dX1_victim_84 : decode cX1_victim 84 = .ok (.ifCond .ne 8, 3) := by decide +kernel
theorem dX1_victim_87 : decode cX1_victim 87 = .ok (.aload_n 0, 1) := by decide +kernel
theorem dX1_victim_88 : decode cX1_victim 88 = .ok (.getfield 72, 3) := by decide +kernel
theorem dX1_victim_91 : decode cX1_victim 91 = .ok (.ireturn, 1) := by decide +kernel
theorem dX1_victim_92 : decode cX1_victim 92 = .ok (.aload_n 0, 1) := by decide +kernel
theorem dX1_victim_93 : decode cX1_victim 93 = .ok (.getfield 22, 3) := by decide +kernel
theorem dX1_victim_96 : decode cX1_victim 96 = .ok (.aload_n 0, 1) := by decide +kernel
theorem dX1_victim_97 : decode cX1_victim 97 = .ok (.getfield 72, 3) := by decide +kernel
theorem dX1_victim_100 : decode cX1_victim 100 = .ok (.iconst 0, 1) := by decide +kernel
theorem dX1_victim_101 : decode cX1_victim 101 = .ok (.bastore, 1) := by decide +kernel
theorem dX1_victim_102 : decode cX1_victim 102 = .ok (.aload_n 0, 1) := by decide +kernel
theorem dX1_victim_103 : decode cX1_victim 103 = .ok (.getfield 72, 3) := by decide +kernel
theorem dX1_victim_106 : decode cX1_victim 106 = .ok (.istore_n 3, 1) := by decide +kernel
theorem dX1_victim_107 : decode cX1_victim 107 = .ok (.iinc 4 1, 3) := by decide +kernel
theorem dX1_victim_110 : decode cX1_victim 110 = .ok (.goto (-97), 3) := by decide +kernel
theorem dX1_victim_113 : decode cX1_victim 113 = .ok (.iload_n 3, 1) := by decide +kernel
theorem dX1_victim_114 : decode cX1_victim 114 = .ok (.ireturn, 1) := by decide +kernel
theorem dX1_swapOut_0 : decode cX1_swapOut 0 = .ok (.iconst 1, 1) := by decide +kernel
theorem dX1_swapOut_1 : decode cX1_swapOut 1 = .ok (.istore_n 2, 1) := by decide +kernel
theorem dX1_swapOut_2 : decode cX1_swapOut 2 = .ok (.iconst 0, 1) := by decide +kernel
theorem dX1_swapOut_3 : decode cX1_swapOut 3 = .ok (.istore_n 3, 1) := by decide +kernel
theorem dX1_swapOut_4 : decode cX1_swapOut 4 = .ok (.iload_n 3, 1) := by decide +kernel
theorem dX1_swapOut_5 : decode cX1_swapOut 5 = .ok (.iconst 4, 1) := by decide +kernel
theorem dX1_swapOut_6 : decode cX1_swapOut 6 = .ok (.if_icmp .ge 32, 3) := by decide +kernel
theorem dX1_swapOut_9 : decode cX1_swapOut 9 = .ok (.iload_n 2, 1) := by decide +kernel
theorem dX1_swapOut_10 : decode cX1_swapOut 10 = .ok (.ifCond .eq 20, 3) := by decide +kernel
theorem dX1_swapOut_13 : decode cX1_swapOut 13 = .ok (.aload_n 0, 1) := by decide +kernel
theorem dX1_swapOut_14 : decode cX1_swapOut 14 = .ok (.getfield 16, 3) := by decide +kernel
theorem dX1_swapOut_17 : decode cX1_swapOut 17 = .ok (.iload_n 1, 1) := by decide +kernel
theorem dX1_swapOut_18 : decode cX1_swapOut 18 = .ok (.iconst 4, 1) := by decide +kernel
theorem dX1_swapOut_19 : decode cX1_swapOut 19 = .ok (.imul, 1) := by decide +kernel
theorem dX1_swapOut_20 : decode cX1_swapOut 20 = .ok (.iload_n 3, 1) := by decide +kernel
theorem dX1_swapOut_21 : decode cX1_swapOut 21 = .ok (.iadd, 1) := by decide +kernel
theorem dX1_swapOut_22 : decode cX1_swapOut 22 = .ok (.iaload, 1) := by decide +kernel
theorem dX1_swapOut_23 : decode cX1_swapOut 23 = .ok (.ifCond .ne 7, 3) := by decide +kernel
theorem dX1_swapOut_26 : decode cX1_swapOut 26 = .ok (.iconst 1, 1) := by decide +kernel
theorem dX1_swapOut_27 : decode cX1_swapOut 27 = .ok (.goto 4, 3) := by decide +kernel
theorem dX1_swapOut_30 : decode cX1_swapOut 30 = .ok (.iconst 0, 1) := by decide +kernel
theorem dX1_swapOut_31 : decode cX1_swapOut 31 = .ok (.istore_n 2, 1) := by decide +kernel
theorem dX1_swapOut_32 : decode cX1_swapOut 32 = .ok (.iinc 3 1, 3) := by decide +kernel
theorem dX1_swapOut_35 : decode cX1_swapOut 35 = .ok (.goto (-31), 3) := by decide +kernel
theorem dX1_swapOut_38 : decode cX1_swapOut 38 = .ok (.iconst (-1), 1) := by decide +kernel
theorem dX1_swapOut_39 : decode cX1_swapOut 39 = .ok (.istore_n 3, 1) := by decide +kernel
theorem dX1_swapOut_40 : decode cX1_swapOut 40 = .ok (.iload_n 2, 1) := by decide +kernel
theorem dX1_swapOut_41 : decode cX1_swapOut 41 = .ok (.ifCond .ne 63, 3) := by decide +kernel
theorem dX1_swapOut_44 : decode cX1_swapOut 44 = .ok (.iconst 0, 1) := by decide +kernel
theorem dX1_swapOut_45 : decode cX1_swapOut 45 = .ok (.istore_n 3, 1) := by decide +kernel
theorem dX1_swapOut_46 : decode cX1_swapOut 46 = .ok (.iload_n 3, 1) := by decide +kernel
theorem dX1_swapOut_47 : decode cX1_swapOut 47 = .ok (.bipush 23, 2) := by decide +kernel
theorem dX1_swapOut_49 : decode cX1_swapOut 49 = .ok (.if_icmp .ge 18, 3) := by decide +kernel
theorem dX1_swapOut_52 : decode cX1_swapOut 52 = .ok (.aload_n 0, 1) := by decide +kernel
theorem dX1_swapOut_53 : decode cX1_swapOut 53 = .ok (.getfield 29, 3) := by decide +kernel
theorem dX1_swapOut_56 : decode cX1_swapOut 56 = .ok (.iload_n 3, 1) := by decide +kernel
theorem dX1_swapOut_57 : decode cX1_swapOut 57 = .ok (.iaload, 1) := by decide +kernel
theorem dX1_swapOut_58 : decode cX1_swapOut 58 = .ok (.ifCond .le 9, 3) := by decide +kernel
theorem dX1_swapOut_61 : decode cX1_swapOut 61 = .ok (.iinc 3 1, 3) := by decide +kernel
theorem dX1_swapOut_64 : decode cX1_swapOut 64 = .ok (.goto (-18), 3) := by decide +kernel
theorem dX1_swapOut_67 : decode cX1_swapOut 67 = .ok (.iconst 0, 1) := by decide +kernel
theorem dX1_swapOut_68 : decode cX1_swapOut 68 = .ok (.istore 4, 2) := by decide +kernel
theorem dX1_swapOut_70 : decode cX1_swapOut 70 = .ok (.iload 4, 2) := by decide +kernel
theorem dX1_swapOut_72 : decode cX1_swapOut 72 = .ok (.iconst 4, 1) := by decide +kernel
theorem dX1_swapOut_73 : decode cX1_swapOut 73 = .ok (.if_icmp .ge 31, 3) := by decide +kernel
theorem dX1_swapOut_76 : decode cX1_swapOut 76 = .ok (.aload_n 0, 1) := by decide +kernel
theorem dX1_swapOut_77 : decode cX1_swapOut 77 = .ok (.getfield 26, 3) := by decide +kernel
theorem dX1_swapOut_80 : decode cX1_swapOut 80 = .ok (.iload_n 3, 1) := by decide +kernel
theorem dX1_swapOut_81 : decode cX1_swapOut 81 = .ok (.iconst 4, 1) := by decide +kernel
theorem dX1_swapOut_82 : decode cX1_swapOut 82 = .ok (.imul, 1) := by decide +kernel
theorem dX1_swapOut_83 : decode cX1_swapOut 83 = .ok (.iload 4, 2) := by decide +kernel
theorem dX1_swapOut_85 : decode cX1_swapOut 85 = .ok (.iadd, 1) := by decide +kernel
theorem dX1_swapOut_86 : decode cX1_swapOut 86 = .ok (.aload_n 0, 1) := by decide +kernel
theorem dX1_swapOut_87 : decode cX1_swapOut 87 = .ok (.getfield 16, 3) := by decide +kernel
theorem dX1_swapOut_90 : decode cX1_swapOut 90 = .ok (.iload_n 1, 1) := by decide +kernel
theorem dX1_swapOut_91 : decode cX1_swapOut 91 = .ok (.iconst 4, 1) := by decide +kernel
theorem dX1_swapOut_92 : decode cX1_swapOut 92 = .ok (.imul, 1) := by decide +kernel
theorem dX1_swapOut_93 : decode cX1_swapOut 93 = .ok (.iload 4, 2) := by decide +kernel
theorem dX1_swapOut_95 : decode cX1_swapOut 95 = .ok (.iadd, 1) := by decide +kernel
theorem dX1_swapOut_96 : decode cX1_swapOut 96 = .ok (.iaload, 1) := by decide +kernel
theorem dX1_swapOut_97 : decode cX1_swapOut 97 = .ok (.iastore, 1) := by decide +kernel
theorem dX1_swapOut_98 : decode cX1_swapOut 98 = .ok (.iinc 4 1, 3) := by decide +kernel
theorem dX1_swapOut_101 : decode cX1_swapOut 101 = .ok (.goto (-31), 3) := by decide +kernel
theorem dX1_swapOut_104 : decode cX1_swapOut 104 = .ok (.iconst 0, 1) := by decide +kernel
theorem dX1_swapOut_105 : decode cX1_swapOut 105 = .ok (.istore 4, 2) := by decide +kernel
theorem dX1_swapOut_107 : decode cX1_swapOut 107 = .ok (.iload 4, 2) := by decide +kernel
theorem dX1_swapOut_109 : decode cX1_swapOut 109 = .ok (.bipush 24, 2) := by decide +kernel
theorem dX1_swapOut_111 : decode cX1_swapOut 111 = .ok (.if_icmp .ge 48, 3) := by decide +kernel
theorem dX1_swapOut_114 : decode cX1_swapOut 114 = .ok (.aload_n 0, 1) := by decide +kernel
theorem dX1_swapOut_115 : decode cX1_swapOut 115 = .ok (.getfield 7, 3) := by decide +kernel
theorem dX1_swapOut_118 : decode cX1_swapOut 118 = .ok (.iload 4, 2) := by decide +kernel
theorem dX1_swapOut_120 : decode cX1_swapOut 120 = .ok (.iaload, 1) := by decide +kernel
theorem dX1_swapOut_121 : decode cX1_swapOut 121 = .ok (.iload_n 1, 1) := by decide +kernel
theorem dX1_swapOut_122 : decode cX1_swapOut 122 = .ok (.if_icmp .ne 31, 3) := by decide +kernel
theorem dX1_swapOut_125 : decode cX1_swapOut 125 = .ok (.aload_n 0, 1) := by decide +kernel
theorem dX1_swapOut_126 : decode cX1_swapOut 126 = .ok (.iload 4, 2) := by decide +kernel
theorem dX1_swapOut_128 : decode cX1_swapOut 128 = .ok (.invokevirtual 45, 3) := by decide +kernel
theorem dX1_swapOut_131 : decode cX1_swapOut 131 = .ok (.aload_n 0, 1) := by decide +kernel
theorem dX1_swapOut_132 : decode cX1_swapOut 132 = .ok (.getfield 13, 3) := by decide +kernel
theorem dX1_swapOut_135 : decode cX1_swapOut 135 = .ok (.iload 4, 2) := by decide +kernel
theorem dX1_swapOut_137 : decode cX1_swapOut 137 = .ok (.iload_n 3, 1) := by decide +kernel
theorem dX1_swapOut_138 : decode cX1_swapOut 138 = .ok (.iastore, 1) := by decide +kernel
theorem dX1_swapOut_139 : decode cX1_swapOut 139 = .ok (.iload_n 3, 1) := by decide +kernel
theorem dX1_swapOut_140 : decode cX1_swapOut 140 = .ok (.ifCond .lt 13, 3) := by decide +kernel
theorem dX1_swapOut_143 : decode cX1_swapOut 143 = .ok (.aload_n 0, 1) := by decide +kernel
theorem dX1_swapOut_144 : decode cX1_swapOut 144 = .ok (.getfield 29, 3) := by decide +kernel
theorem dX1_swapOut_147 : decode cX1_swapOut 147 = .ok (.iload_n 3, 1) := by decide +kernel
theorem dX1_swapOut_148 : decode cX1_swapOut 148 = .ok (.dup2, 1) := by decide +kernel
theorem dX1_swapOut_149 : decode cX1_swapOut 149 = .ok (.iaload, 1) := by decide +kernel
theorem dX1_swapOut_150 : decode cX1_swapOut 150 = .ok (.iconst 1, 1) := by decide +kernel
theorem dX1_swapOut_151 : decode cX1_swapOut 151 = .ok (.iadd, 1) := by decide +kernel
theorem dX1_swapOut_152 : decode cX1_swapOut 152 = .ok (.iastore, 1) := by decide +kernel
theorem dX1_swapOut_153 : decode cX1_swapOut 153 = .ok (.iinc 4 1, 3) := by decide +kernel
theorem dX1_swapOut_156 : decode cX1_swapOut 156 = .ok (.goto (-49), 3) := by decide +kernel
theorem dX1_swapOut_159 : decode cX1_swapOut 159 = .ok (.aload_n 0, 1) := by decide +kernel
theorem dX1_swapOut_160 : decode cX1_swapOut 160 = .ok (.getfield 22, 3) := by decide +kernel
theorem dX1_swapOut_163 : decode cX1_swapOut 163 = .ok (.iload_n 1, 1) := by decide +kernel
theorem dX1_swapOut_164 : decode cX1_swapOut 164 = .ok (.iconst 0, 1) := by decide +kernel
theorem dX1_swapOut_165 : decode cX1_swapOut 165 = .ok (.bastore, 1) := by decide +kernel
theorem dX1_swapOut_166 : decode cX1_swapOut 166 = .ok (.return_, 1) := by decide +kernel
theorem dX1_detach_0 : decode cX1_detach 0 = .ok (.aload_n 0, 1) := by decide +kernel
theorem dX1_detach_1 : decode cX1_detach 1 = .ok (.getfield 7, 3) := by decide +kernel
theorem dX1_detach_4 : decode cX1_detach 4 = .ok (.iload_n 1, 1) := by decide +kernel
theorem dX1_detach_5 : decode cX1_detach 5 = .ok (.iaload, 1) := by decide +kernel
theorem dX1_detach_6 : decode cX1_detach 6 = .ok (.ifCond .lt 18, 3) := by decide +kernel
theorem dX1_detach_9 : decode cX1_detach 9 = .ok (.aload_n 0, 1) := by decide +kernel
theorem dX1_detach_10 : decode cX1_detach 10 = .ok (.getfield 19, 3) := by decide +kernel
theorem dX1_detach_13 : decode cX1_detach 13 = .ok (.aload_n 0, 1) := by decide +kernel
theorem dX1_detach_14 : decode cX1_detach 14 = .ok (.getfield 7, 3) := by decide +kernel
theorem dX1_detach_17 : decode cX1_detach 17 = .ok (.iload_n 1, 1) := by decide +kernel
theorem dX1_detach_18 : decode cX1_detach 18 = .ok (.iaload, 1) := by decide +kernel
theorem dX1_detach_19 : decode cX1_detach 19 = .ok (.dup2, 1) := by decide +kernel
theorem dX1_detach_20 : decode cX1_detach 20 = .ok (.iaload, 1) := by decide +kernel
theorem dX1_detach_21 : decode cX1_detach 21 = .ok (.iconst 1, 1) := by decide +kernel
theorem dX1_detach_22 : decode cX1_detach 22 = .ok (.isub, 1) := by decide +kernel
theorem dX1_detach_23 : decode cX1_detach 23 = .ok (.iastore, 1) := by decide +kernel
theorem dX1_detach_24 : decode cX1_detach 24 = .ok (.aload_n 0, 1) := by decide +kernel
theorem dX1_detach_25 : decode cX1_detach 25 = .ok (.getfield 13, 3) := by decide +kernel
theorem dX1_detach_28 : decode cX1_detach 28 = .ok (.iload_n 1, 1) := by decide +kernel
theorem dX1_detach_29 : decode cX1_detach 29 = .ok (.iaload, 1) := by decide +kernel
theorem dX1_detach_30 : decode cX1_detach 30 = .ok (.ifCond .lt 18, 3) := by decide +kernel
theorem dX1_detach_33 : decode cX1_detach 33 = .ok (.aload_n 0, 1) := by decide +kernel
theorem dX1_detach_34 : decode cX1_detach 34 = .ok (.getfield 29, 3) := by decide +kernel
theorem dX1_detach_37 : decode cX1_detach 37 = .ok (.aload_n 0, 1) := by decide +kernel
theorem dX1_detach_38 : decode cX1_detach 38 = .ok (.getfield 13, 3) := by decide +kernel
theorem dX1_detach_41 : decode cX1_detach 41 = .ok (.iload_n 1, 1) := by decide +kernel
theorem dX1_detach_42 : decode cX1_detach 42 = .ok (.iaload, 1) := by decide +kernel
theorem dX1_detach_43 : decode cX1_detach 43 = .ok (.dup2, 1) := by decide +kernel
theorem dX1_detach_44 : decode cX1_detach 44 = .ok (.iaload, 1) := by decide +kernel
theorem dX1_detach_45 : decode cX1_detach 45 = .ok (.iconst 1, 1) := by decide +kernel
theorem dX1_detach_46 : decode cX1_detach 46 = .ok (.isub, 1) := by decide +kernel
theorem dX1_detach_47 : decode cX1_detach 47 = .ok (.iastore, 1) := by decide +kernel
theorem dX1_detach_48 : decode cX1_detach 48 = .ok (.aload_n 0, 1) := by decide +kernel
theorem dX1_detach_49 : decode cX1_detach 49 = .ok (.getfield 7, 3) := by decide +kernel
theorem dX1_detach_52 : decode cX1_detach 52 = .ok (.iload_n 1, 1) := by decide +kernel
theorem dX1_detach_53 : decode cX1_detach 53 = .ok (.iconst (-1), 1) := by decide +kernel
theorem dX1_detach_54 : decode cX1_detach 54 = .ok (.iastore, 1) := by decide +kernel
theorem dX1_detach_55 : decode cX1_detach 55 = .ok (.aload_n 0, 1) := by decide +kernel
theorem dX1_detach_56 : decode cX1_detach 56 = .ok (.getfield 13, 3) := by decide +kernel
theorem dX1_detach_59 : decode cX1_detach 59 = .ok (.iload_n 1, 1) := by decide +kernel
theorem dX1_detach_60 : decode cX1_detach 60 = .ok (.iconst (-1), 1) := by decide +kernel
theorem dX1_detach_61 : decode cX1_detach 61 = .ok (.iastore, 1) := by decide +kernel
theorem dX1_detach_62 : decode cX1_detach 62 = .ok (.return_, 1) := by decide +kernel
theorem dX1_wordOf_0 : decode cX1_wordOf 0 = .ok (.aload_n 0, 1) := by decide +kernel
theorem dX1_wordOf_1 : decode cX1_wordOf 1 = .ok (.getfield 7, 3) := by decide +kernel
theorem dX1_wordOf_4 : decode cX1_wordOf 4 = .ok (.iload_n 1, 1) := by decide +kernel
theorem dX1_wordOf_5 : decode cX1_wordOf 5 = .ok (.iaload, 1) := by decide +kernel
theorem dX1_wordOf_6 : decode cX1_wordOf 6 = .ok (.ifCond .lt 19, 3) := by decide +kernel
theorem dX1_wordOf_9 : decode cX1_wordOf 9 = .ok (.aload_n 0, 1) := by decide +kernel
theorem dX1_wordOf_10 : decode cX1_wordOf 10 = .ok (.getfield 16, 3) := by decide +kernel
theorem dX1_wordOf_13 : decode cX1_wordOf 13 = .ok (.aload_n 0, 1) := by decide +kernel
theorem dX1_wordOf_14 : decode cX1_wordOf 14 = .ok (.getfield 7, 3) := by decide +kernel
theorem dX1_wordOf_17 : decode cX1_wordOf 17 = .ok (.iload_n 1, 1) := by decide +kernel
theorem dX1_wordOf_18 : decode cX1_wordOf 18 = .ok (.iaload, 1) := by decide +kernel
theorem dX1_wordOf_19 : decode cX1_wordOf 19 = .ok (.iconst 4, 1) := by decide +kernel
theorem dX1_wordOf_20 : decode cX1_wordOf 20 = .ok (.imul, 1) := by decide +kernel
theorem dX1_wordOf_21 : decode cX1_wordOf 21 = .ok (.iload_n 2, 1) := by decide +kernel
theorem dX1_wordOf_22 : decode cX1_wordOf 22 = .ok (.iadd, 1) := by decide +kernel
theorem dX1_wordOf_23 : decode cX1_wordOf 23 = .ok (.iaload, 1) := by decide +kernel
theorem dX1_wordOf_24 : decode cX1_wordOf 24 = .ok (.ireturn, 1) := by decide +kernel
theorem dX1_wordOf_25 : decode cX1_wordOf 25 = .ok (.aload_n 0, 1) := by decide +kernel
theorem dX1_wordOf_26 : decode cX1_wordOf 26 = .ok (.getfield 13, 3) := by decide +kernel
theorem dX1_wordOf_29 : decode cX1_wordOf 29 = .ok (.iload_n 1, 1) := by decide +kernel
theorem dX1_wordOf_30 : decode cX1_wordOf 30 = .ok (.iaload, 1) := by decide +kernel
theorem dX1_wordOf_31 : decode cX1_wordOf 31 = .ok (.ifCond .lt 19, 3) := by decide +kernel
theorem dX1_wordOf_34 : decode cX1_wordOf 34 = .ok (.aload_n 0, 1) := by decide +kernel
theorem dX1_wordOf_35 : decode cX1_wordOf 35 = .ok (.getfield 26, 3) := by decide +kernel
theorem dX1_wordOf_38 : decode cX1_wordOf 38 = .ok (.aload_n 0, 1) := by decide +kernel
theorem dX1_wordOf_39 : decode cX1_wordOf 39 = .ok (.getfield 13, 3) := by decide +kernel
theorem dX1_wordOf_42 : decode cX1_wordOf 42 = .ok (.iload_n 1, 1) := by decide +kernel
theorem dX1_wordOf_43 : decode cX1_wordOf 43 = .ok (.iaload, 1) := by decide +kernel
theorem dX1_wordOf_44 : decode cX1_wordOf 44 = .ok (.iconst 4, 1) := by decide +kernel
theorem dX1_wordOf_45 : decode cX1_wordOf 45 = .ok (.imul, 1) := by decide +kernel
theorem dX1_wordOf_46 : decode cX1_wordOf 46 = .ok (.iload_n 2, 1) := by decide +kernel
theorem dX1_wordOf_47 : decode cX1_wordOf 47 = .ok (.iadd, 1) := by decide +kernel
theorem dX1_wordOf_48 : decode cX1_wordOf 48 = .ok (.iaload, 1) := by decide +kernel
theorem dX1_wordOf_49 : decode cX1_wordOf 49 = .ok (.ireturn, 1) := by decide +kernel
theorem dX1_wordOf_50 : decode cX1_wordOf 50 = .ok (.iconst 0, 1) := by decide +kernel
theorem dX1_wordOf_51 : decode cX1_wordOf 51 = .ok (.ireturn, 1) := by decide +kernel
theorem dX1_fill_0 : decode cX1_fill 0 = .ok (.iload_n 1, 1) := by decide +kernel
theorem dX1_fill_1 : decode cX1_fill 1 = .ok (.invokestatic 75, 3) := by decide +kernel
theorem dX1_fill_4 : decode cX1_fill 4 = .ok (.ifCond .eq 5, 3) := by decide +kernel
theorem dX1_fill_7 : decode cX1_fill 7 = .ok (.iconst (-1), 1) := by decide +kernel
theorem dX1_fill_8 : decode cX1_fill 8 = .ok (.ireturn, 1) := by decide +kernel
theorem dX1_fill_9 : decode cX1_fill 9 = .ok (.iload_n 2, 1) := by decide +kernel
theorem dX1_fill_10 : decode cX1_fill 10 = .ok (.invokestatic 82, 3) := by decide +kernel
theorem dX1_fill_13 : decode cX1_fill 13 = .ok (.ifCond .eq 6, 3) := by decide +kernel
theorem dX1_fill_16 : decode cX1_fill 16 = .ok (.bipush (-2), 2) := by decide +kernel
theorem dX1_fill_18 : decode cX1_fill 18 = .ok (.ireturn, 1) := by decide +kernel
theorem dX1_fill_19 : decode cX1_fill 19 = .ok (.aload_n 0, 1) := by decide +kernel
theorem dX1_fill_20 : decode cX1_fill 20 = .ok (.iload_n 1, 1) := by decide +kernel
theorem dX1_fill_21 : decode cX1_fill 21 = .ok (.bipush 8, 2) := by decide +kernel
theorem dX1_fill_23 : decode cX1_fill 23 = .ok (.imul, 1) := by decide +kernel
theorem dX1_fill_24 : decode cX1_fill 24 = .ok (.iload_n 2, 1) := by decide +kernel
theorem dX1_fill_25 : decode cX1_fill 25 = .ok (.iadd, 1) := by decide +kernel
theorem dX1_fill_26 : decode cX1_fill 26 = .ok (.invokevirtual 79, 3) := by decide +kernel
theorem dX1_fill_29 : decode cX1_fill 29 = .ok (.istore 5, 2) := by decide +kernel
theorem dX1_fill_31 : decode cX1_fill 31 = .ok (.iconst 0, 1) := by decide +kernel
theorem dX1_fill_32 : decode cX1_fill 32 = .ok (.istore 6, 2) := by decide +kernel
theorem dX1_fill_34 : decode cX1_fill 34 = .ok (.iload 6, 2) := by decide +kernel
theorem dX1_fill_36 : decode cX1_fill 36 = .ok (.iconst 4, 1) := by decide +kernel
theorem dX1_fill_37 : decode cX1_fill 37 = .ok (.if_icmp .ge 28, 3) := by decide +kernel
theorem dX1_fill_40 : decode cX1_fill 40 = .ok (.aload_n 0, 1) := by decide +kernel
theorem dX1_fill_41 : decode cX1_fill 41 = .ok (.getfield 16, 3) := by decide +kernel
theorem dX1_fill_44 : decode cX1_fill 44 = .ok (.iload 5, 2) := by decide +kernel
theorem dX1_fill_46 : decode cX1_fill 46 = .ok (.iconst 4, 1) := by decide +kernel
theorem dX1_fill_47 : decode cX1_fill 47 = .ok (.imul, 1) := by decide +kernel
theorem dX1_fill_48 : decode cX1_fill 48 = .ok (.iload 6, 2) := by decide +kernel
theorem dX1_fill_50 : decode cX1_fill 50 = .ok (.iadd, 1) := by decide +kernel
theorem dX1_fill_51 : decode cX1_fill 51 = .ok (.iload_n 3, 1) := by decide +kernel
theorem dX1_fill_52 : decode cX1_fill 52 = .ok (.iload 6, 2) := by decide +kernel
theorem dX1_fill_54 : decode cX1_fill 54 = .ok (.iload 4, 2) := by decide +kernel
theorem dX1_fill_56 : decode cX1_fill 56 = .ok (.imul, 1) := by decide +kernel
theorem dX1_fill_57 : decode cX1_fill 57 = .ok (.iadd, 1) := by decide +kernel
theorem dX1_fill_58 : decode cX1_fill 58 = .ok (.iastore, 1) := by decide +kernel
theorem dX1_fill_59 : decode cX1_fill 59 = .ok (.iinc 6 1, 3) := by decide +kernel
theorem dX1_fill_62 : decode cX1_fill 62 = .ok (.goto (-28), 3) := by decide +kernel
theorem dX1_fill_65 : decode cX1_fill 65 = .ok (.iconst 0, 1) := by decide +kernel
theorem dX1_fill_66 : decode cX1_fill 66 = .ok (.ireturn, 1) := by decide +kernel
theorem dX1_badPage_0 : decode cX1_badPage 0 = .ok (.iload_n 0, 1) := by decide +kernel
theorem dX1_badPage_1 : decode cX1_badPage 1 = .ok (.ifCond .lt 9, 3) := by decide +kernel
theorem dX1_badPage_4 : decode cX1_badPage 4 = .ok (.iload_n 0, 1) := by decide +kernel
theorem dX1_badPage_5 : decode cX1_badPage 5 = .ok (.bipush 7, 2) := by decide +kernel
theorem dX1_badPage_7 : decode cX1_badPage 7 = .ok (.if_icmp .le 7, 3) := by decide +kernel
theorem dX1_badPage_10 : decode cX1_badPage 10 = .ok (.iconst 1, 1) := by decide +kernel
theorem dX1_badPage_11 : decode cX1_badPage 11 = .ok (.goto 4, 3) := by decide +kernel
theorem dX1_badPage_14 : decode cX1_badPage 14 = .ok (.iconst 0, 1) := by decide +kernel
theorem dX1_badPage_15 : decode cX1_badPage 15 = .ok (.ireturn, 1) := by decide +kernel
theorem dX1_copy_0 : decode cX1_copy 0 = .ok (.iload_n 1, 1) := by decide +kernel
theorem dX1_copy_1 : decode cX1_copy 1 = .ok (.invokestatic 75, 3) := by decide +kernel
theorem dX1_copy_4 : decode cX1_copy 4 = .ok (.ifCond .ne 10, 3) := by decide +kernel
theorem dX1_copy_7 : decode cX1_copy 7 = .ok (.iload_n 3, 1) := by decide +kernel
theorem dX1_copy_8 : decode cX1_copy 8 = .ok (.invokestatic 75, 3) := by decide +kernel
theorem dX1_copy_11 : decode cX1_copy 11 = .ok (.ifCond .eq 5, 3) := by decide +kernel
theorem dX1_copy_14 : decode cX1_copy 14 = .ok (.iconst (-1), 1) := by decide +kernel
theorem dX1_copy_15 : decode cX1_copy 15 = .ok (.ireturn, 1) := by decide +kernel
theorem dX1_copy_16 : decode cX1_copy 16 = .ok (.iload_n 2, 1) := by decide +kernel
theorem dX1_copy_17 : decode cX1_copy 17 = .ok (.invokestatic 82, 3) := by decide +kernel
theorem dX1_copy_20 : decode cX1_copy 20 = .ok (.ifCond .ne 11, 3) := by decide +kernel
theorem dX1_copy_23 : decode cX1_copy 23 = .ok (.iload 4, 2) := by decide +kernel
theorem dX1_copy_25 : decode cX1_copy 25 = .ok (.invokestatic 82, 3) := by decide +kernel
theorem dX1_copy_28 : decode cX1_copy 28 = .ok (.ifCond .eq 6, 3) := by decide +kernel
theorem dX1_copy_31 : decode cX1_copy 31 = .ok (.bipush (-2), 2) := by decide +kernel
theorem dX1_copy_33 : decode cX1_copy 33 = .ok (.ireturn, 1) := by decide +kernel
theorem dX1_copy_34 : decode cX1_copy 34 = .ok (.aload_n 0, 1) := by decide +kernel
theorem dX1_copy_35 : decode cX1_copy 35 = .ok (.iload_n 3, 1) := by decide +kernel
theorem dX1_copy_36 : decode cX1_copy 36 = .ok (.bipush 8, 2) := by decide +kernel
theorem dX1_copy_38 : decode cX1_copy 38 = .ok (.imul, 1) := by decide +kernel
theorem dX1_copy_39 : decode cX1_copy 39 = .ok (.iload 4, 2) := by decide +kernel
theorem dX1_copy_41 : decode cX1_copy 41 = .ok (.iadd, 1) := by decide +kernel
theorem dX1_copy_42 : decode cX1_copy 42 = .ok (.iload_n 1, 1) := by decide +kernel
theorem dX1_copy_43 : decode cX1_copy 43 = .ok (.bipush 8, 2) := by decide +kernel
theorem dX1_copy_45 : decode cX1_copy 45 = .ok (.imul, 1) := by decide +kernel
theorem dX1_copy_46 : decode cX1_copy 46 = .ok (.iload_n 2, 1) := by decide +kernel
theorem dX1_copy_47 : decode cX1_copy 47 = .ok (.iadd, 1) := by decide +kernel
theorem dX1_copy_48 : decode cX1_copy 48 = .ok (.invokevirtual 85, 3) := by decide +kernel
theorem dX1_copy_51 : decode cX1_copy 51 = .ok (.iconst 0, 1) := by decide +kernel
theorem dX1_copy_52 : decode cX1_copy 52 = .ok (.ireturn, 1) := by decide +kernel
theorem dX1_attachLike_0 : decode cX1_attachLike 0 = .ok (.iload_n 1, 1) := by decide +kernel
theorem dX1_attachLike_1 : decode cX1_attachLike 1 = .ok (.iload_n 2, 1) := by decide +kernel
theorem dX1_attachLike_2 : decode cX1_attachLike 2 = .ok (.if_icmp .ne 4, 3) := by decide +kernel
theorem dX1_attachLike_5 : decode cX1_attachLike 5 = .ok (.return_, 1) := by decide +kernel
theorem dX1_attachLike_6 : decode cX1_attachLike 6 = .ok (.aload_n 0, 1) := by decide +kernel
theorem dX1_attachLike_7 : decode cX1_attachLike 7 = .ok (.iload_n 1, 1) := by decide +kernel
theorem dX1_attachLike_8 : decode cX1_attachLike 8 = .ok (.invokevirtual 45, 3) := by decide +kernel
theorem dX1_attachLike_11 : decode cX1_attachLike 11 = .ok (.aload_n 0, 1) := by decide +kernel
theorem dX1_attachLike_12 : decode cX1_attachLike 12 = .ok (.getfield 7, 3) := by decide +kernel
theorem dX1_attachLike_15 : decode cX1_attachLike 15 = .ok (.iload_n 1, 1) := by decide +kernel
theorem dX1_attachLike_16 : decode cX1_attachLike 16 = .ok (.aload_n 0, 1) := by decide +kernel
theorem dX1_attachLike_17 : decode cX1_attachLike 17 = .ok (.getfield 7, 3) := by decide +kernel
theorem dX1_attachLike_20 : decode cX1_attachLike 20 = .ok (.iload_n 2, 1) := by decide +kernel
theorem dX1_attachLike_21 : decode cX1_attachLike 21 = .ok (.iaload, 1) := by decide +kernel
theorem dX1_attachLike_22 : decode cX1_attachLike 22 = .ok (.iastore, 1) := by decide +kernel
theorem dX1_attachLike_23 : decode cX1_attachLike 23 = .ok (.aload_n 0, 1) := by decide +kernel
theorem dX1_attachLike_24 : decode cX1_attachLike 24 = .ok (.getfield 13, 3) := by decide +kernel
theorem dX1_attachLike_27 : decode cX1_attachLike 27 = .ok (.iload_n 1, 1) := by decide +kernel
theorem dX1_attachLike_28 : decode cX1_attachLike 28 = .ok (.aload_n 0, 1) := by decide +kernel
theorem dX1_attachLike_29 : decode cX1_attachLike 29 = .ok (.getfield 13, 3) := by decide +kernel
theorem dX1_attachLike_32 : decode cX1_attachLike 32 = .ok (.iload_n 2, 1) := by decide +kernel
theorem dX1_attachLike_33 : decode cX1_attachLike 33 = .ok (.iaload, 1) := by decide +kernel
theorem dX1_attachLike_34 : decode cX1_attachLike 34 = .ok (.iastore, 1) := by decide +kernel
theorem dX1_attachLike_35 : decode cX1_attachLike 35 = .ok (.aload_n 0, 1) := by decide +kernel
theorem dX1_attachLike_36 : decode cX1_attachLike 36 = .ok (.getfield 7, 3) := by decide +kernel
theorem dX1_attachLike_39 : decode cX1_attachLike 39 = .ok (.iload_n 1, 1) := by decide +kernel
theorem dX1_attachLike_40 : decode cX1_attachLike 40 = .ok (.iaload, 1) := by decide +kernel
theorem dX1_attachLike_41 : decode cX1_attachLike 41 = .ok (.ifCond .lt 18, 3) := by decide +kernel
theorem dX1_attachLike_44 : decode cX1_attachLike 44 = .ok (.aload_n 0, 1) := by decide +kernel
theorem dX1_attachLike_45 : decode cX1_attachLike 45 = .ok (.getfield 19, 3) := by decide +kernel
theorem dX1_attachLike_48 : decode cX1_attachLike 48 = .ok (.aload_n 0, 1) := by decide +kernel
theorem dX1_attachLike_49 : decode cX1_attachLike 49 = .ok (.getfield 7, 3) := by decide +kernel
theorem dX1_attachLike_52 : decode cX1_attachLike 52 = .ok (.iload_n 1, 1) := by decide +kernel
theorem dX1_attachLike_53 : decode cX1_attachLike 53 = .ok (.iaload, 1) := by decide +kernel
theorem dX1_attachLike_54 : decode cX1_attachLike 54 = .ok (.dup2, 1) := by decide +kernel
theorem dX1_attachLike_55 : decode cX1_attachLike 55 = .ok (.iaload, 1) := by decide +kernel
theorem dX1_attachLike_56 : decode cX1_attachLike 56 = .ok (.iconst 1, 1) := by decide +kernel
theorem dX1_attachLike_57 : decode cX1_attachLike 57 = .ok (.iadd, 1) := by decide +kernel
theorem dX1_attachLike_58 : decode cX1_attachLike 58 = .ok (.iastore, 1) := by decide +kernel
theorem dX1_attachLike_59 : decode cX1_attachLike 59 = .ok (.aload_n 0, 1) := by decide +kernel
theorem dX1_attachLike_60 : decode cX1_attachLike 60 = .ok (.getfield 13, 3) := by decide +kernel
theorem dX1_attachLike_63 : decode cX1_attachLike 63 = .ok (.iload_n 1, 1) := by decide +kernel
theorem dX1_attachLike_64 : decode cX1_attachLike 64 = .ok (.iaload, 1) := by decide +kernel
theorem dX1_attachLike_65 : decode cX1_attachLike 65 = .ok (.ifCond .lt 18, 3) := by decide +kernel
theorem dX1_attachLike_68 : decode cX1_attachLike 68 = .ok (.aload_n 0, 1) := by decide +kernel
theorem dX1_attachLike_69 : decode cX1_attachLike 69 = .ok (.getfield 29, 3) := by decide +kernel
theorem dX1_attachLike_72 : decode cX1_attachLike 72 = .ok (.aload_n 0, 1) := by decide +kernel
theorem dX1_attachLike_73 : decode cX1_attachLike 73 = .ok (.getfield 13, 3) := by decide +kernel
theorem dX1_attachLike_76 : decode cX1_attachLike 76 = .ok (.iload_n 1, 1) := by decide +kernel
theorem dX1_attachLike_77 : decode cX1_attachLike 77 = .ok (.iaload, 1) := by decide +kernel
theorem dX1_attachLike_78 : decode cX1_attachLike 78 = .ok (.dup2, 1) := by decide +kernel
theorem dX1_attachLike_79 : decode cX1_attachLike 79 = .ok (.iaload, 1) := by decide +kernel
theorem dX1_attachLike_80 : decode cX1_attachLike 80 = .ok (.iconst 1, 1) := by decide +kernel
theorem dX1_attachLike_81 : decode cX1_attachLike 81 = .ok (.iadd, 1) := by decide +kernel
theorem dX1_attachLike_82 : decode cX1_attachLike 82 = .ok (.iastore, 1) := by decide +kernel
theorem dX1_attachLike_83 : decode cX1_attachLike 83 = .ok (.return_, 1) := by decide +kernel
theorem dX1_release_0 : decode cX1_release 0 = .ok (.iload_n 1, 1) := by decide +kernel
theorem dX1_release_1 : decode cX1_release 1 = .ok (.invokestatic 75, 3) := by decide +kernel
theorem dX1_release_4 : decode cX1_release 4 = .ok (.ifCond .eq 5, 3) := by decide +kernel
theorem dX1_release_7 : decode cX1_release 7 = .ok (.iconst (-1), 1) := by decide +kernel
theorem dX1_release_8 : decode cX1_release 8 = .ok (.ireturn, 1) := by decide +kernel
theorem dX1_release_9 : decode cX1_release 9 = .ok (.iload_n 2, 1) := by decide +kernel
theorem dX1_release_10 : decode cX1_release 10 = .ok (.invokestatic 82, 3) := by decide +kernel
theorem dX1_release_13 : decode cX1_release 13 = .ok (.ifCond .eq 6, 3) := by decide +kernel
theorem dX1_release_16 : decode cX1_release 16 = .ok (.bipush (-2), 2) := by decide +kernel
theorem dX1_release_18 : decode cX1_release 18 = .ok (.ireturn, 1) := by decide +kernel
theorem dX1_release_19 : decode cX1_release 19 = .ok (.aload_n 0, 1) := by decide +kernel
theorem dX1_release_20 : decode cX1_release 20 = .ok (.iload_n 1, 1) := by decide +kernel
theorem dX1_release_21 : decode cX1_release 21 = .ok (.bipush 8, 2) := by decide +kernel
theorem dX1_release_23 : decode cX1_release 23 = .ok (.imul, 1) := by decide +kernel
theorem dX1_release_24 : decode cX1_release 24 = .ok (.iload_n 2, 1) := by decide +kernel
theorem dX1_release_25 : decode cX1_release 25 = .ok (.iadd, 1) := by decide +kernel
theorem dX1_release_26 : decode cX1_release 26 = .ok (.invokevirtual 45, 3) := by decide +kernel
theorem dX1_release_29 : decode cX1_release 29 = .ok (.iconst 0, 1) := by decide +kernel
theorem dX1_release_30 : decode cX1_release 30 = .ok (.ireturn, 1) := by decide +kernel
theorem dX1_cloneGuest_0 : decode cX1_cloneGuest 0 = .ok (.iload_n 1, 1) := by decide +kernel
theorem dX1_cloneGuest_1 : decode cX1_cloneGuest 1 = .ok (.invokestatic 75, 3) := by decide +kernel
theorem dX1_cloneGuest_4 : decode cX1_cloneGuest 4 = .ok (.ifCond .ne 10, 3) := by decide +kernel
theorem dX1_cloneGuest_7 : decode cX1_cloneGuest 7 = .ok (.iload_n 2, 1) := by decide +kernel
theorem dX1_cloneGuest_8 : decode cX1_cloneGuest 8 = .ok (.invokestatic 75, 3) := by decide +kernel
theorem dX1_cloneGuest_11 : decode cX1_cloneGuest 11 = .ok (.ifCond .eq 5, 3) := by decide +kernel
theorem dX1_cloneGuest_14 : decode cX1_cloneGuest 14 = .ok (.iconst (-1), 1) := by decide +kernel
theorem dX1_cloneGuest_15 : decode cX1_cloneGuest 15 = .ok (.ireturn, 1) := by decide +kernel
theorem dX1_cloneGuest_16 : decode cX1_cloneGuest 16 = .ok (.iconst 0, 1) := by decide +kernel
theorem dX1_cloneGuest_17 : decode cX1_cloneGuest 17 = .ok (.istore_n 3, 1) := by decide +kernel
theorem dX1_cloneGuest_18 : decode cX1_cloneGuest 18 = .ok (.iload_n 3, 1) := by decide +kernel
theorem dX1_cloneGuest_19 : decode cX1_cloneGuest 19 = .ok (.bipush 8, 2) := by decide +kernel
theorem dX1_cloneGuest_21 : decode cX1_cloneGuest 21 = .ok (.if_icmp .ge 25, 3) := by decide +kernel
theorem dX1_cloneGuest_24 : decode cX1_cloneGuest 24 = .ok (.aload_n 0, 1) := by decide +kernel
theorem dX1_cloneGuest_25 : decode cX1_cloneGuest 25 = .ok (.iload_n 2, 1) := by decide +kernel
theorem dX1_cloneGuest_26 : decode cX1_cloneGuest 26 = .ok (.bipush 8, 2) := by decide +kernel
theorem dX1_cloneGuest_28 : decode cX1_cloneGuest 28 = .ok (.imul, 1) := by decide +kernel
theorem dX1_cloneGuest_29 : decode cX1_cloneGuest 29 = .ok (.iload_n 3, 1) := by decide +kernel
theorem dX1_cloneGuest_30 : decode cX1_cloneGuest 30 = .ok (.iadd, 1) := by decide +kernel
theorem dX1_cloneGuest_31 : decode cX1_cloneGuest 31 = .ok (.iload_n 1, 1) := by decide +kernel
theorem dX1_cloneGuest_32 : decode cX1_cloneGuest 32 = .ok (.bipush 8, 2) := by decide +kernel
theorem dX1_cloneGuest_34 : decode cX1_cloneGuest 34 = .ok (.imul, 1) := by decide +kernel
theorem dX1_cloneGuest_35 : decode cX1_cloneGuest 35 = .ok (.iload_n 3, 1) := by decide +kernel
theorem dX1_cloneGuest_36 : decode cX1_cloneGuest 36 = .ok (.iadd, 1) := by decide +kernel
theorem dX1_cloneGuest_37 : decode cX1_cloneGuest 37 = .ok (.invokevirtual 85, 3) := by decide +kernel
theorem dX1_cloneGuest_40 : decode cX1_cloneGuest 40 = .ok (.iinc 3 1, 3) := by decide +kernel
theorem dX1_cloneGuest_43 : decode cX1_cloneGuest 43 = .ok (.goto (-25), 3) := by decide +kernel
end
section
set_option maxRecDepth 100000
theorem dX1_cloneGuest_46 : decode cX1_cloneGuest 46 = .ok (.iconst 0, 1) := by decide +kernel
theorem dX1_cloneGuest_47 : decode cX1_cloneGuest 47 = .ok (.ireturn, 1) := by decide +kernel
theorem dX1_shares_0 : decode cX1_shares 0 = .ok (.iload_n 1, 1) := by decide +kernel
theorem dX1_shares_1 : decode cX1_shares 1 = .ok (.invokestatic 75, 3) := by decide +kernel
theorem dX1_shares_4 : decode cX1_shares 4 = .ok (.ifCond .eq 5, 3) := by decide +kernel
theorem dX1_shares_7 : decode cX1_shares 7 = .ok (.iconst (-1), 1) := by decide +kernel
theorem dX1_shares_8 : decode cX1_shares 8 = .ok (.ireturn, 1) := by decide +kernel
theorem dX1_shares_9 : decode cX1_shares 9 = .ok (.iload_n 2, 1) := by decide +kernel
theorem dX1_shares_10 : decode cX1_shares 10 = .ok (.iconst 1, 1) := by decide +kernel
theorem dX1_shares_11 : decode cX1_shares 11 = .ok (.if_icmp .lt 9, 3) := by decide +kernel
theorem dX1_shares_14 : decode cX1_shares 14 = .ok (.iload_n 2, 1) := by decide +kernel
theorem dX1_shares_15 : decode cX1_shares 15 = .ok (.bipush 100, 2) := by decide +kernel
theorem dX1_shares_17 : decode cX1_shares 17 = .ok (.if_icmp .le 6, 3) := by decide +kernel
theorem dX1_shares_20 : decode cX1_shares 20 = .ok (.bipush (-4), 2) := by decide +kernel
theorem dX1_shares_22 : decode cX1_shares 22 = .ok (.ireturn, 1) := by decide +kernel
theorem dX1_shares_23 : decode cX1_shares 23 = .ok (.aload_n 0, 1) := by decide +kernel
theorem dX1_shares_24 : decode cX1_shares 24 = .ok (.getfield 32, 3) := by decide +kernel
theorem dX1_shares_27 : decode cX1_shares 27 = .ok (.iload_n 1, 1) := by decide +kernel
theorem dX1_shares_28 : decode cX1_shares 28 = .ok (.iaload, 1) := by decide +kernel
theorem dX1_shares_29 : decode cX1_shares 29 = .ok (.istore_n 3, 1) := by decide +kernel
theorem dX1_shares_30 : decode cX1_shares 30 = .ok (.aload_n 0, 1) := by decide +kernel
theorem dX1_shares_31 : decode cX1_shares 31 = .ok (.getfield 32, 3) := by decide +kernel
theorem dX1_shares_34 : decode cX1_shares 34 = .ok (.iload_n 1, 1) := by decide +kernel
theorem dX1_shares_35 : decode cX1_shares 35 = .ok (.iload_n 2, 1) := by decide +kernel
theorem dX1_shares_36 : decode cX1_shares 36 = .ok (.iastore, 1) := by decide +kernel
theorem dX1_shares_37 : decode cX1_shares 37 = .ok (.iload_n 3, 1) := by decide +kernel
theorem dX1_shares_38 : decode cX1_shares 38 = .ok (.ireturn, 1) := by decide +kernel
theorem dX1_tidy_0 : decode cX1_tidy 0 = .ok (.iload_n 1, 1) := by decide +kernel
theorem dX1_tidy_1 : decode cX1_tidy 1 = .ok (.bipush 7, 2) := by decide +kernel
theorem dX1_tidy_3 : decode cX1_tidy 3 = .ok (.iand, 1) := by decide +kernel
theorem dX1_tidy_4 : decode cX1_tidy 4 = .ok (.istore_n 2, 1) := by decide +kernel
theorem dX1_tidy_5 : decode cX1_tidy 5 = .ok (.iconst 0, 1) := by decide +kernel
theorem dX1_tidy_6 : decode cX1_tidy 6 = .ok (.istore_n 3, 1) := by decide +kernel
theorem dX1_tidy_7 : decode cX1_tidy 7 = .ok (.iload_n 3, 1) := by decide +kernel
theorem dX1_tidy_8 : decode cX1_tidy 8 = .ok (.bipush 24, 2) := by decide +kernel
theorem dX1_tidy_10 : decode cX1_tidy 10 = .ok (.if_icmp .ge 56, 3) := by decide +kernel
theorem dX1_tidy_13 : decode cX1_tidy 13 = .ok (.iload_n 2, 1) := by decide +kernel
theorem dX1_tidy_14 : decode cX1_tidy 14 = .ok (.iload_n 3, 1) := by decide +kernel
theorem dX1_tidy_15 : decode cX1_tidy 15 = .ok (.iadd, 1) := by decide +kernel
theorem dX1_tidy_16 : decode cX1_tidy 16 = .ok (.bipush 24, 2) := by decide +kernel
theorem dX1_tidy_18 : decode cX1_tidy 18 = .ok (.irem, 1) := by decide +kernel
theorem dX1_tidy_19 : decode cX1_tidy 19 = .ok (.istore 4, 2) := by decide +kernel
theorem dX1_tidy_21 : decode cX1_tidy 21 = .ok (.aload_n 0, 1) := by decide +kernel
theorem dX1_tidy_22 : decode cX1_tidy 22 = .ok (.iload_n 2, 1) := by decide +kernel
theorem dX1_tidy_23 : decode cX1_tidy 23 = .ok (.iload_n 3, 1) := by decide +kernel
theorem dX1_tidy_24 : decode cX1_tidy 24 = .ok (.invokevirtual 89, 3) := by decide +kernel
theorem dX1_tidy_27 : decode cX1_tidy 27 = .ok (.istore 5, 2) := by decide +kernel
theorem dX1_tidy_29 : decode cX1_tidy 29 = .ok (.iload 5, 2) := by decide +kernel
theorem dX1_tidy_31 : decode cX1_tidy 31 = .ok (.ifCond .lt 14, 3) := by decide +kernel
theorem dX1_tidy_34 : decode cX1_tidy 34 = .ok (.aload_n 0, 1) := by decide +kernel
theorem dX1_tidy_35 : decode cX1_tidy 35 = .ok (.iload 4, 2) := by decide +kernel
theorem dX1_tidy_37 : decode cX1_tidy 37 = .ok (.iload 5, 2) := by decide +kernel
theorem dX1_tidy_39 : decode cX1_tidy 39 = .ok (.invokevirtual 85, 3) := by decide +kernel
theorem dX1_tidy_42 : decode cX1_tidy 42 = .ok (.goto 18, 3) := by decide +kernel
theorem dX1_tidy_45 : decode cX1_tidy 45 = .ok (.aload_n 0, 1) := by decide +kernel
theorem dX1_tidy_46 : decode cX1_tidy 46 = .ok (.iload 4, 2) := by decide +kernel
theorem dX1_tidy_48 : decode cX1_tidy 48 = .ok (.invokevirtual 92, 3) := by decide +kernel
theorem dX1_tidy_51 : decode cX1_tidy 51 = .ok (.ifCond .eq 9, 3) := by decide +kernel
theorem dX1_tidy_54 : decode cX1_tidy 54 = .ok (.aload_n 0, 1) := by decide +kernel
theorem dX1_tidy_55 : decode cX1_tidy 55 = .ok (.iload 4, 2) := by decide +kernel
theorem dX1_tidy_57 : decode cX1_tidy 57 = .ok (.invokevirtual 45, 3) := by decide +kernel
theorem dX1_tidy_60 : decode cX1_tidy 60 = .ok (.iinc 3 1, 3) := by decide +kernel
theorem dX1_tidy_63 : decode cX1_tidy 63 = .ok (.goto (-56), 3) := by decide +kernel
theorem dX1_tidy_66 : decode cX1_tidy 66 = .ok (.iconst 0, 1) := by decide +kernel
theorem dX1_tidy_67 : decode cX1_tidy 67 = .ok (.istore_n 3, 1) := by decide +kernel
theorem dX1_tidy_68 : decode cX1_tidy 68 = .ok (.iload_n 3, 1) := by decide +kernel
theorem dX1_tidy_69 : decode cX1_tidy 69 = .ok (.aload_n 0, 1) := by decide +kernel
theorem dX1_tidy_70 : decode cX1_tidy 70 = .ok (.getfield 41, 3) := by decide +kernel
theorem dX1_tidy_73 : decode cX1_tidy 73 = .ok (.if_icmp .ge 16, 3) := by decide +kernel
theorem dX1_tidy_76 : decode cX1_tidy 76 = .ok (.aload_n 0, 1) := by decide +kernel
theorem dX1_tidy_77 : decode cX1_tidy 77 = .ok (.getfield 22, 3) := by decide +kernel
theorem dX1_tidy_80 : decode cX1_tidy 80 = .ok (.iload_n 3, 1) := by decide +kernel
theorem dX1_tidy_81 : decode cX1_tidy 81 = .ok (.iconst 0, 1) := by decide +kernel
theorem dX1_tidy_82 : decode cX1_tidy 82 = .ok (.bastore, 1) := by decide +kernel
theorem dX1_tidy_83 : decode cX1_tidy 83 = .ok (.iinc 3 1, 3) := by decide +kernel
theorem dX1_tidy_86 : decode cX1_tidy 86 = .ok (.goto (-18), 3) := by decide +kernel
theorem dX1_tidy_89 : decode cX1_tidy 89 = .ok (.return_, 1) := by decide +kernel
theorem dX1_twinBefore_0 : decode cX1_twinBefore 0 = .ok (.iload_n 1, 1) := by decide +kernel
theorem dX1_twinBefore_1 : decode cX1_twinBefore 1 = .ok (.iload_n 2, 1) := by decide +kernel
theorem dX1_twinBefore_2 : decode cX1_twinBefore 2 = .ok (.iadd, 1) := by decide +kernel
theorem dX1_twinBefore_3 : decode cX1_twinBefore 3 = .ok (.bipush 24, 2) := by decide +kernel
theorem dX1_twinBefore_5 : decode cX1_twinBefore 5 = .ok (.irem, 1) := by decide +kernel
theorem dX1_twinBefore_6 : decode cX1_twinBefore 6 = .ok (.istore_n 3, 1) := by decide +kernel
theorem dX1_twinBefore_7 : decode cX1_twinBefore 7 = .ok (.aload_n 0, 1) := by decide +kernel
theorem dX1_twinBefore_8 : decode cX1_twinBefore 8 = .ok (.iload_n 3, 1) := by decide +kernel
theorem dX1_twinBefore_9 : decode cX1_twinBefore 9 = .ok (.invokevirtual 95, 3) := by decide +kernel
theorem dX1_twinBefore_12 : decode cX1_twinBefore 12 = .ok (.istore 4, 2) := by decide +kernel
theorem dX1_twinBefore_14 : decode cX1_twinBefore 14 = .ok (.iconst 0, 1) := by decide +kernel
theorem dX1_twinBefore_15 : decode cX1_twinBefore 15 = .ok (.istore 5, 2) := by decide +kernel
theorem dX1_twinBefore_17 : decode cX1_twinBefore 17 = .ok (.iload 5, 2) := by decide +kernel
theorem dX1_twinBefore_19 : decode cX1_twinBefore 19 = .ok (.iload_n 2, 1) := by decide +kernel
theorem dX1_twinBefore_20 : decode cX1_twinBefore 20 = .ok (.if_icmp .ge 50, 3) := by decide +kernel
theorem dX1_twinBefore_23 : decode cX1_twinBefore 23 = .ok (.iload_n 1, 1) := by decide +kernel
theorem dX1_twinBefore_24 : decode cX1_twinBefore 24 = .ok (.iload 5, 2) := by decide +kernel
theorem dX1_twinBefore_26 : decode cX1_twinBefore 26 = .ok (.iadd, 1) := by decide +kernel
theorem dX1_twinBefore_27 : decode cX1_twinBefore 27 = .ok (.bipush 24, 2) := by decide +kernel
theorem dX1_twinBefore_29 : decode cX1_twinBefore 29 = .ok (.irem, 1) := by decide +kernel
theorem dX1_twinBefore_30 : decode cX1_twinBefore 30 = .ok (.istore 6, 2) := by decide +kernel
theorem dX1_twinBefore_32 : decode cX1_twinBefore 32 = .ok (.aload_n 0, 1) := by decide +kernel
theorem dX1_twinBefore_33 : decode cX1_twinBefore 33 = .ok (.iload 6, 2) := by decide +kernel
theorem dX1_twinBefore_35 : decode cX1_twinBefore 35 = .ok (.invokevirtual 95, 3) := by decide +kernel
theorem dX1_twinBefore_38 : decode cX1_twinBefore 38 = .ok (.istore 7, 2) := by decide +kernel
theorem dX1_twinBefore_40 : decode cX1_twinBefore 40 = .ok (.iload 4, 2) := by decide +kernel
theorem dX1_twinBefore_42 : decode cX1_twinBefore 42 = .ok (.iload 7, 2) := by decide +kernel
theorem dX1_twinBefore_44 : decode cX1_twinBefore 44 = .ok (.if_icmp .ne 20, 3) := by decide +kernel
theorem dX1_twinBefore_47 : decode cX1_twinBefore 47 = .ok (.aload_n 0, 1) := by decide +kernel
theorem dX1_twinBefore_48 : decode cX1_twinBefore 48 = .ok (.iload_n 3, 1) := by decide +kernel
theorem dX1_twinBefore_49 : decode cX1_twinBefore 49 = .ok (.iload 6, 2) := by decide +kernel
theorem dX1_twinBefore_51 : decode cX1_twinBefore 51 = .ok (.invokevirtual 98, 3) := by decide +kernel
theorem dX1_twinBefore_54 : decode cX1_twinBefore 54 = .ok (.istore 8, 2) := by decide +kernel
theorem dX1_twinBefore_56 : decode cX1_twinBefore 56 = .ok (.iload 8, 2) := by decide +kernel
theorem dX1_twinBefore_58 : decode cX1_twinBefore 58 = .ok (.ifCond .eq 6, 3) := by decide +kernel
theorem dX1_twinBefore_61 : decode cX1_twinBefore 61 = .ok (.iload 6, 2) := by decide +kernel
theorem dX1_twinBefore_63 : decode cX1_twinBefore 63 = .ok (.ireturn, 1) := by decide +kernel
theorem dX1_twinBefore_64 : decode cX1_twinBefore 64 = .ok (.iinc 5 1, 3) := by decide +kernel
theorem dX1_twinBefore_67 : decode cX1_twinBefore 67 = .ok (.goto (-50), 3) := by decide +kernel
theorem dX1_twinBefore_70 : decode cX1_twinBefore 70 = .ok (.iconst (-1), 1) := by decide +kernel
theorem dX1_twinBefore_71 : decode cX1_twinBefore 71 = .ok (.ireturn, 1) := by decide +kernel
theorem dX1_hashOf_0 : decode cX1_hashOf 0 = .ok (.bipush 7, 2) := by decide +kernel
theorem dX1_hashOf_2 : decode cX1_hashOf 2 = .ok (.istore_n 2, 1) := by decide +kernel
theorem dX1_hashOf_3 : decode cX1_hashOf 3 = .ok (.iconst 0, 1) := by decide +kernel
theorem dX1_hashOf_4 : decode cX1_hashOf 4 = .ok (.istore_n 3, 1) := by decide +kernel
theorem dX1_hashOf_5 : decode cX1_hashOf 5 = .ok (.iload_n 3, 1) := by decide +kernel
theorem dX1_hashOf_6 : decode cX1_hashOf 6 = .ok (.iconst 4, 1) := by decide +kernel
theorem dX1_hashOf_7 : decode cX1_hashOf 7 = .ok (.if_icmp .ge 31, 3) := by decide +kernel
theorem dX1_hashOf_10 : decode cX1_hashOf 10 = .ok (.aload_n 0, 1) := by decide +kernel
theorem dX1_hashOf_11 : decode cX1_hashOf 11 = .ok (.iload_n 1, 1) := by decide +kernel
theorem dX1_hashOf_12 : decode cX1_hashOf 12 = .ok (.iload_n 3, 1) := by decide +kernel
theorem dX1_hashOf_13 : decode cX1_hashOf 13 = .ok (.invokevirtual 53, 3) := by decide +kernel
theorem dX1_hashOf_16 : decode cX1_hashOf 16 = .ok (.istore 4, 2) := by decide +kernel
theorem dX1_hashOf_18 : decode cX1_hashOf 18 = .ok (.iload_n 2, 1) := by decide +kernel
theorem dX1_hashOf_19 : decode cX1_hashOf 19 = .ok (.bipush 31, 2) := by decide +kernel
theorem dX1_hashOf_21 : decode cX1_hashOf 21 = .ok (.imul, 1) := by decide +kernel
theorem dX1_hashOf_22 : decode cX1_hashOf 22 = .ok (.iload 4, 2) := by decide +kernel
theorem dX1_hashOf_24 : decode cX1_hashOf 24 = .ok (.iload 4, 2) := by decide +kernel
theorem dX1_hashOf_26 : decode cX1_hashOf 26 = .ok (.bipush 15, 2) := by decide +kernel
theorem dX1_hashOf_28 : decode cX1_hashOf 28 = .ok (.iushr, 1) := by decide +kernel
theorem dX1_hashOf_29 : decode cX1_hashOf 29 = .ok (.ixor, 1) := by decide +kernel
theorem dX1_hashOf_30 : decode cX1_hashOf 30 = .ok (.iadd, 1) := by decide +kernel
theorem dX1_hashOf_31 : decode cX1_hashOf 31 = .ok (.istore_n 2, 1) := by decide +kernel
theorem dX1_hashOf_32 : decode cX1_hashOf 32 = .ok (.iinc 3 1, 3) := by decide +kernel
theorem dX1_hashOf_35 : decode cX1_hashOf 35 = .ok (.goto (-30), 3) := by decide +kernel
theorem dX1_hashOf_38 : decode cX1_hashOf 38 = .ok (.iload_n 2, 1) := by decide +kernel
theorem dX1_hashOf_39 : decode cX1_hashOf 39 = .ok (.ireturn, 1) := by decide +kernel
theorem dX1_alike_0 : decode cX1_alike 0 = .ok (.aload_n 0, 1) := by decide +kernel
theorem dX1_alike_1 : decode cX1_alike 1 = .ok (.getfield 7, 3) := by decide +kernel
theorem dX1_alike_4 : decode cX1_alike 4 = .ok (.iload_n 1, 1) := by decide +kernel
theorem dX1_alike_5 : decode cX1_alike 5 = .ok (.iaload, 1) := by decide +kernel
theorem dX1_alike_6 : decode cX1_alike 6 = .ok (.ifCond .lt 20, 3) := by decide +kernel
theorem dX1_alike_9 : decode cX1_alike 9 = .ok (.aload_n 0, 1) := by decide +kernel
theorem dX1_alike_10 : decode cX1_alike 10 = .ok (.getfield 7, 3) := by decide +kernel
theorem dX1_alike_13 : decode cX1_alike 13 = .ok (.iload_n 1, 1) := by decide +kernel
theorem dX1_alike_14 : decode cX1_alike 14 = .ok (.iaload, 1) := by decide +kernel
theorem dX1_alike_15 : decode cX1_alike 15 = .ok (.aload_n 0, 1) := by decide +kernel
theorem dX1_alike_16 : decode cX1_alike 16 = .ok (.getfield 7, 3) := by decide +kernel
theorem dX1_alike_19 : decode cX1_alike 19 = .ok (.iload_n 2, 1) := by decide +kernel
theorem dX1_alike_20 : decode cX1_alike 20 = .ok (.iaload, 1) := by decide +kernel
theorem dX1_alike_21 : decode cX1_alike 21 = .ok (.if_icmp .ne 5, 3) := by decide +kernel
theorem dX1_alike_24 : decode cX1_alike 24 = .ok (.iconst 1, 1) := by decide +kernel
theorem dX1_alike_25 : decode cX1_alike 25 = .ok (.ireturn, 1) := by decide +kernel
theorem dX1_alike_26 : decode cX1_alike 26 = .ok (.iconst 0, 1) := by decide +kernel
theorem dX1_alike_27 : decode cX1_alike 27 = .ok (.istore_n 3, 1) := by decide +kernel
theorem dX1_alike_28 : decode cX1_alike 28 = .ok (.iload_n 3, 1) := by decide +kernel
theorem dX1_alike_29 : decode cX1_alike 29 = .ok (.iconst 4, 1) := by decide +kernel
theorem dX1_alike_30 : decode cX1_alike 30 = .ok (.if_icmp .ge 34, 3) := by decide +kernel
theorem dX1_alike_33 : decode cX1_alike 33 = .ok (.aload_n 0, 1) := by decide +kernel
theorem dX1_alike_34 : decode cX1_alike 34 = .ok (.iload_n 1, 1) := by decide +kernel
theorem dX1_alike_35 : decode cX1_alike 35 = .ok (.iload_n 3, 1) := by decide +kernel
theorem dX1_alike_36 : decode cX1_alike 36 = .ok (.invokevirtual 53, 3) := by decide +kernel
theorem dX1_alike_39 : decode cX1_alike 39 = .ok (.istore 4, 2) := by decide +kernel
theorem dX1_alike_41 : decode cX1_alike 41 = .ok (.aload_n 0, 1) := by decide +kernel
theorem dX1_alike_42 : decode cX1_alike 42 = .ok (.iload_n 2, 1) := by decide +kernel
theorem dX1_alike_43 : decode cX1_alike 43 = .ok (.iload_n 3, 1) := by decide +kernel
theorem dX1_alike_44 : decode cX1_alike 44 = .ok (.invokevirtual 53, 3) := by decide +kernel
theorem dX1_alike_47 : decode cX1_alike 47 = .ok (.istore 5, 2) := by decide +kernel
theorem dX1_alike_49 : decode cX1_alike 49 = .ok (.iload 4, 2) := by decide +kernel
theorem dX1_alike_51 : decode cX1_alike 51 = .ok (.iload 5, 2) := by decide +kernel
theorem dX1_alike_53 : decode cX1_alike 53 = .ok (.if_icmp .eq 5, 3) := by decide +kernel
theorem dX1_alike_56 : decode cX1_alike 56 = .ok (.iconst 0, 1) := by decide +kernel
theorem dX1_alike_57 : decode cX1_alike 57 = .ok (.ireturn, 1) := by decide +kernel
theorem dX1_alike_58 : decode cX1_alike 58 = .ok (.iinc 3 1, 3) := by decide +kernel
theorem dX1_alike_61 : decode cX1_alike 61 = .ok (.goto (-33), 3) := by decide +kernel
theorem dX1_alike_64 : decode cX1_alike 64 = .ok (.iconst 1, 1) := by decide +kernel
theorem dX1_alike_65 : decode cX1_alike 65 = .ok (.ireturn, 1) := by decide +kernel
theorem dX1_isZero_0 : decode cX1_isZero 0 = .ok (.iconst 0, 1) := by decide +kernel
theorem dX1_isZero_1 : decode cX1_isZero 1 = .ok (.istore_n 2, 1) := by decide +kernel
theorem dX1_isZero_2 : decode cX1_isZero 2 = .ok (.iload_n 2, 1) := by decide +kernel
theorem dX1_isZero_3 : decode cX1_isZero 3 = .ok (.iconst 4, 1) := by decide +kernel
theorem dX1_isZero_4 : decode cX1_isZero 4 = .ok (.if_icmp .ge 22, 3) := by decide +kernel
theorem dX1_isZero_7 : decode cX1_isZero 7 = .ok (.aload_n 0, 1) := by decide +kernel
theorem dX1_isZero_8 : decode cX1_isZero 8 = .ok (.iload_n 1, 1) := by decide +kernel
theorem dX1_isZero_9 : decode cX1_isZero 9 = .ok (.iload_n 2, 1) := by decide +kernel
theorem dX1_isZero_10 : decode cX1_isZero 10 = .ok (.invokevirtual 53, 3) := by decide +kernel
theorem dX1_isZero_13 : decode cX1_isZero 13 = .ok (.istore_n 3, 1) := by decide +kernel
theorem dX1_isZero_14 : decode cX1_isZero 14 = .ok (.iload_n 3, 1) := by decide +kernel
theorem dX1_isZero_15 : decode cX1_isZero 15 = .ok (.ifCond .eq 5, 3) := by decide +kernel
theorem dX1_isZero_18 : decode cX1_isZero 18 = .ok (.iconst 0, 1) := by decide +kernel
theorem dX1_isZero_19 : decode cX1_isZero 19 = .ok (.ireturn, 1) := by decide +kernel
theorem dX1_isZero_20 : decode cX1_isZero 20 = .ok (.iinc 2 1, 3) := by decide +kernel
theorem dX1_isZero_23 : decode cX1_isZero 23 = .ok (.goto (-21), 3) := by decide +kernel
theorem dX1_isZero_26 : decode cX1_isZero 26 = .ok (.iconst 1, 1) := by decide +kernel
theorem dX1_isZero_27 : decode cX1_isZero 27 = .ok (.ireturn, 1) := by decide +kernel
theorem dX1_read_0 : decode cX1_read 0 = .ok (.iload_n 1, 1) := by decide +kernel
theorem dX1_read_1 : decode cX1_read 1 = .ok (.invokestatic 75, 3) := by decide +kernel
theorem dX1_read_4 : decode cX1_read 4 = .ok (.ifCond .ne 13, 3) := by decide +kernel
theorem dX1_read_7 : decode cX1_read 7 = .ok (.iload_n 2, 1) := by decide +kernel
theorem dX1_read_8 : decode cX1_read 8 = .ok (.ifCond .lt 9, 3) := by decide +kernel
theorem dX1_read_11 : decode cX1_read 11 = .ok (.iload_n 2, 1) := by decide +kernel
theorem dX1_read_12 : decode cX1_read 12 = .ok (.bipush 31, 2) := by decide +kernel
theorem dX1_read_14 : decode cX1_read 14 = .ok (.if_icmp .le 5, 3) := by decide +kernel
theorem dX1_read_17 : decode cX1_read 17 = .ok (.iconst 0, 1) := by decide +kernel
theorem dX1_read_18 : decode cX1_read 18 = .ok (.ireturn, 1) := by decide +kernel
theorem dX1_read_19 : decode cX1_read 19 = .ok (.iload_n 1, 1) := by decide +kernel
theorem dX1_read_20 : decode cX1_read 20 = .ok (.bipush 8, 2) := by decide +kernel
theorem dX1_read_22 : decode cX1_read 22 = .ok (.imul, 1) := by decide +kernel
theorem dX1_read_23 : decode cX1_read 23 = .ok (.iload_n 2, 1) := by decide +kernel
theorem dX1_read_24 : decode cX1_read 24 = .ok (.iconst 4, 1) := by decide +kernel
theorem dX1_read_25 : decode cX1_read 25 = .ok (.idiv, 1) := by decide +kernel
theorem dX1_read_26 : decode cX1_read 26 = .ok (.iadd, 1) := by decide +kernel
theorem dX1_read_27 : decode cX1_read 27 = .ok (.istore_n 3, 1) := by decide +kernel
theorem dX1_read_28 : decode cX1_read 28 = .ok (.aload_n 0, 1) := by decide +kernel
theorem dX1_read_29 : decode cX1_read 29 = .ok (.getfield 7, 3) := by decide +kernel
theorem dX1_read_32 : decode cX1_read 32 = .ok (.iload_n 3, 1) := by decide +kernel
theorem dX1_read_33 : decode cX1_read 33 = .ok (.iaload, 1) := by decide +kernel
theorem dX1_read_34 : decode cX1_read 34 = .ok (.ifCond .lt 15, 3) := by decide +kernel
theorem dX1_read_37 : decode cX1_read 37 = .ok (.aload_n 0, 1) := by decide +kernel
theorem dX1_read_38 : decode cX1_read 38 = .ok (.getfield 22, 3) := by decide +kernel
theorem dX1_read_41 : decode cX1_read 41 = .ok (.aload_n 0, 1) := by decide +kernel
theorem dX1_read_42 : decode cX1_read 42 = .ok (.getfield 7, 3) := by decide +kernel
theorem dX1_read_45 : decode cX1_read 45 = .ok (.iload_n 3, 1) := by decide +kernel
theorem dX1_read_46 : decode cX1_read 46 = .ok (.iaload, 1) := by decide +kernel
theorem dX1_read_47 : decode cX1_read 47 = .ok (.iconst 1, 1) := by decide +kernel
theorem dX1_read_48 : decode cX1_read 48 = .ok (.bastore, 1) := by decide +kernel
theorem dX1_read_49 : decode cX1_read 49 = .ok (.aload_n 0, 1) := by decide +kernel
theorem dX1_read_50 : decode cX1_read 50 = .ok (.iload_n 3, 1) := by decide +kernel
theorem dX1_read_51 : decode cX1_read 51 = .ok (.iload_n 2, 1) := by decide +kernel
theorem dX1_read_52 : decode cX1_read 52 = .ok (.iconst 4, 1) := by decide +kernel
theorem dX1_read_53 : decode cX1_read 53 = .ok (.irem, 1) := by decide +kernel
theorem dX1_read_54 : decode cX1_read 54 = .ok (.invokevirtual 53, 3) := by decide +kernel
theorem dX1_read_57 : decode cX1_read 57 = .ok (.ireturn, 1) := by decide +kernel
theorem dX1_sum_0 : decode cX1_sum 0 = .ok (.iload_n 1, 1) := by decide +kernel
theorem dX1_sum_1 : decode cX1_sum 1 = .ok (.invokestatic 75, 3) := by decide +kernel
theorem dX1_sum_4 : decode cX1_sum 4 = .ok (.ifCond .ne 10, 3) := by decide +kernel
theorem dX1_sum_7 : decode cX1_sum 7 = .ok (.iload_n 2, 1) := by decide +kernel
theorem dX1_sum_8 : decode cX1_sum 8 = .ok (.invokestatic 82, 3) := by decide +kernel
theorem dX1_sum_11 : decode cX1_sum 11 = .ok (.ifCond .eq 5, 3) := by decide +kernel
theorem dX1_sum_14 : decode cX1_sum 14 = .ok (.iconst 0, 1) := by decide +kernel
theorem dX1_sum_15 : decode cX1_sum 15 = .ok (.ireturn, 1) := by decide +kernel
theorem dX1_sum_16 : decode cX1_sum 16 = .ok (.iconst 0, 1) := by decide +kernel
theorem dX1_sum_17 : decode cX1_sum 17 = .ok (.istore_n 3, 1) := by decide +kernel
theorem dX1_sum_18 : decode cX1_sum 18 = .ok (.iconst 0, 1) := by decide +kernel
theorem dX1_sum_19 : decode cX1_sum 19 = .ok (.istore 4, 2) := by decide +kernel
theorem dX1_sum_21 : decode cX1_sum 21 = .ok (.iload 4, 2) := by decide +kernel
theorem dX1_sum_23 : decode cX1_sum 23 = .ok (.iconst 4, 1) := by decide +kernel
theorem dX1_sum_24 : decode cX1_sum 24 = .ok (.if_icmp .ge 29, 3) := by decide +kernel
theorem dX1_sum_27 : decode cX1_sum 27 = .ok (.iload_n 3, 1) := by decide +kernel
theorem dX1_sum_28 : decode cX1_sum 28 = .ok (.iload 4, 2) := by decide +kernel
theorem dX1_sum_30 : decode cX1_sum 30 = .ok (.iconst 1, 1) := by decide +kernel
theorem dX1_sum_31 : decode cX1_sum 31 = .ok (.iadd, 1) := by decide +kernel
theorem dX1_sum_32 : decode cX1_sum 32 = .ok (.aload_n 0, 1) := by decide +kernel
theorem dX1_sum_33 : decode cX1_sum 33 = .ok (.iload_n 1, 1) := by decide +kernel
theorem dX1_sum_34 : decode cX1_sum 34 = .ok (.bipush 8, 2) := by decide +kernel
theorem dX1_sum_36 : decode cX1_sum 36 = .ok (.imul, 1) := by decide +kernel
theorem dX1_sum_37 : decode cX1_sum 37 = .ok (.iload_n 2, 1) := by decide +kernel
theorem dX1_sum_38 : decode cX1_sum 38 = .ok (.iadd, 1) := by decide +kernel
theorem dX1_sum_39 : decode cX1_sum 39 = .ok (.iload 4, 2) := by decide +kernel
theorem dX1_sum_41 : decode cX1_sum 41 = .ok (.invokevirtual 53, 3) := by decide +kernel
theorem dX1_sum_44 : decode cX1_sum 44 = .ok (.imul, 1) := by decide +kernel
theorem dX1_sum_45 : decode cX1_sum 45 = .ok (.iadd, 1) := by decide +kernel
theorem dX1_sum_46 : decode cX1_sum 46 = .ok (.istore_n 3, 1) := by decide +kernel
theorem dX1_sum_47 : decode cX1_sum 47 = .ok (.iinc 4 1, 3) := by decide +kernel
theorem dX1_sum_50 : decode cX1_sum 50 = .ok (.goto (-29), 3) := by decide +kernel
theorem dX1_sum_53 : decode cX1_sum 53 = .ok (.iload_n 3, 1) := by decide +kernel
theorem dX1_sum_54 : decode cX1_sum 54 = .ok (.ireturn, 1) := by decide +kernel
theorem dX1_same_0 : decode cX1_same 0 = .ok (.iload_n 1, 1) := by decide +kernel
theorem dX1_same_1 : decode cX1_same 1 = .ok (.invokestatic 75, 3) := by decide +kernel
theorem dX1_same_4 : decode cX1_same 4 = .ok (.ifCond .ne 25, 3) := by decide +kernel
theorem dX1_same_7 : decode cX1_same 7 = .ok (.iload_n 3, 1) := by decide +kernel
theorem dX1_same_8 : decode cX1_same 8 = .ok (.invokestatic 75, 3) := by decide +kernel
theorem dX1_same_11 : decode cX1_same 11 = .ok (.ifCond .ne 18, 3) := by decide +kernel
theorem dX1_same_14 : decode cX1_same 14 = .ok (.iload_n 2, 1) := by decide +kernel
theorem dX1_same_15 : decode cX1_same 15 = .ok (.invokestatic 82, 3) := by decide +kernel
theorem dX1_same_18 : decode cX1_same 18 = .ok (.ifCond .ne 11, 3) := by decide +kernel
theorem dX1_same_21 : decode cX1_same 21 = .ok (.iload 4, 2) := by decide +kernel
theorem dX1_same_23 : decode cX1_same 23 = .ok (.invokestatic 82, 3) := by decide +kernel
theorem dX1_same_26 : decode cX1_same 26 = .ok (.ifCond .eq 5, 3) := by decide +kernel
theorem dX1_same_29 : decode cX1_same 29 = .ok (.iconst 0, 1) := by decide +kernel
theorem dX1_same_30 : decode cX1_same 30 = .ok (.ireturn, 1) := by decide +kernel
theorem dX1_same_31 : decode cX1_same 31 = .ok (.aload_n 0, 1) := by decide +kernel
theorem dX1_same_32 : decode cX1_same 32 = .ok (.iload_n 1, 1) := by decide +kernel
theorem dX1_same_33 : decode cX1_same 33 = .ok (.bipush 8, 2) := by decide +kernel
theorem dX1_same_35 : decode cX1_same 35 = .ok (.imul, 1) := by decide +kernel
theorem dX1_same_36 : decode cX1_same 36 = .ok (.iload_n 2, 1) := by decide +kernel
theorem dX1_same_37 : decode cX1_same 37 = .ok (.iadd, 1) := by decide +kernel
theorem dX1_same_38 : decode cX1_same 38 = .ok (.iload_n 3, 1) := by decide +kernel
theorem dX1_same_39 : decode cX1_same 39 = .ok (.bipush 8, 2) := by decide +kernel
theorem dX1_same_41 : decode cX1_same 41 = .ok (.imul, 1) := by decide +kernel
theorem dX1_same_42 : decode cX1_same 42 = .ok (.iload 4, 2) := by decide +kernel
theorem dX1_same_44 : decode cX1_same 44 = .ok (.iadd, 1) := by decide +kernel
theorem dX1_same_45 : decode cX1_same 45 = .ok (.invokevirtual 98, 3) := by decide +kernel
theorem dX1_same_48 : decode cX1_same 48 = .ok (.ireturn, 1) := by decide +kernel
theorem dX1_contents_0 : decode cX1_contents 0 = .ok (.iload_n 1, 1) := by decide +kernel
theorem dX1_contents_1 : decode cX1_contents 1 = .ok (.invokestatic 75, 3) := by decide +kernel
theorem dX1_contents_4 : decode cX1_contents 4 = .ok (.ifCond .eq 5, 3) := by decide +kernel
theorem dX1_contents_7 : decode cX1_contents 7 = .ok (.iconst (-1), 1) := by decide +kernel
theorem dX1_contents_8 : decode cX1_contents 8 = .ok (.ireturn, 1) := by decide +kernel
theorem dX1_contents_9 : decode cX1_contents 9 = .ok (.iconst 0, 1) := by decide +kernel
theorem dX1_contents_10 : decode cX1_contents 10 = .ok (.istore_n 2, 1) := by decide +kernel
theorem dX1_contents_11 : decode cX1_contents 11 = .ok (.iconst 0, 1) := by decide +kernel
theorem dX1_contents_12 : decode cX1_contents 12 = .ok (.istore_n 3, 1) := by decide +kernel
theorem dX1_contents_13 : decode cX1_contents 13 = .ok (.iload_n 3, 1) := by decide +kernel
theorem dX1_contents_14 : decode cX1_contents 14 = .ok (.bipush 8, 2) := by decide +kernel
theorem dX1_contents_16 : decode cX1_contents 16 = .ok (.if_icmp .ge 62, 3) := by decide +kernel
theorem dX1_contents_19 : decode cX1_contents 19 = .ok (.iconst 1, 1) := by decide +kernel
theorem dX1_contents_20 : decode cX1_contents 20 = .ok (.istore 4, 2) := by decide +kernel
theorem dX1_contents_22 : decode cX1_contents 22 = .ok (.iconst 0, 1) := by decide +kernel
theorem dX1_contents_23 : decode cX1_contents 23 = .ok (.istore 5, 2) := by decide +kernel
theorem dX1_contents_25 : decode cX1_contents 25 = .ok (.iload 5, 2) := by decide +kernel
theorem dX1_contents_27 : decode cX1_contents 27 = .ok (.iload_n 3, 1) := by decide +kernel
theorem dX1_contents_28 : decode cX1_contents 28 = .ok (.if_icmp .ge 36, 3) := by decide +kernel
theorem dX1_contents_31 : decode cX1_contents 31 = .ok (.aload_n 0, 1) := by decide +kernel
theorem dX1_contents_32 : decode cX1_contents 32 = .ok (.iload_n 1, 1) := by decide +kernel
theorem dX1_contents_33 : decode cX1_contents 33 = .ok (.bipush 8, 2) := by decide +kernel
theorem dX1_contents_35 : decode cX1_contents 35 = .ok (.imul, 1) := by decide +kernel
theorem dX1_contents_36 : decode cX1_contents 36 = .ok (.iload_n 3, 1) := by decide +kernel
theorem dX1_contents_37 : decode cX1_contents 37 = .ok (.iadd, 1) := by decide +kernel
theorem dX1_contents_38 : decode cX1_contents 38 = .ok (.iload_n 1, 1) := by decide +kernel
theorem dX1_contents_39 : decode cX1_contents 39 = .ok (.bipush 8, 2) := by decide +kernel
theorem dX1_contents_41 : decode cX1_contents 41 = .ok (.imul, 1) := by decide +kernel
theorem dX1_contents_42 : decode cX1_contents 42 = .ok (.iload 5, 2) := by decide +kernel
theorem dX1_contents_44 : decode cX1_contents 44 = .ok (.iadd, 1) := by decide +kernel
theorem dX1_contents_45 : decode cX1_contents 45 = .ok (.invokevirtual 98, 3) := by decide +kernel
theorem dX1_contents_48 : decode cX1_contents 48 = .ok (.istore 6, 2) := by decide +kernel
theorem dX1_contents_50 : decode cX1_contents 50 = .ok (.iload 6, 2) := by decide +kernel
theorem dX1_contents_52 : decode cX1_contents 52 = .ok (.ifCond .eq 6, 3) := by decide +kernel
theorem dX1_contents_55 : decode cX1_contents 55 = .ok (.iconst 0, 1) := by decide +kernel
theorem dX1_contents_56 : decode cX1_contents 56 = .ok (.istore 4, 2) := by decide +kernel
theorem dX1_contents_58 : decode cX1_contents 58 = .ok (.iinc 5 1, 3) := by decide +kernel
theorem dX1_contents_61 : decode cX1_contents 61 = .ok (.goto (-36), 3) := by decide +kernel
theorem dX1_contents_64 : decode cX1_contents 64 = .ok (.iload 4, 2) := by decide +kernel
theorem dX1_contents_66 : decode cX1_contents 66 = .ok (.ifCond .eq 6, 3) := by decide +kernel
theorem dX1_contents_69 : decode cX1_contents 69 = .ok (.iinc 2 1, 3) := by decide +kernel
theorem dX1_contents_72 : decode cX1_contents 72 = .ok (.iinc 3 1, 3) := by decide +kernel
theorem dX1_contents_75 : decode cX1_contents 75 = .ok (.goto (-62), 3) := by decide +kernel
theorem dX1_contents_78 : decode cX1_contents 78 = .ok (.iload_n 2, 1) := by decide +kernel
theorem dX1_contents_79 : decode cX1_contents 79 = .ok (.ireturn, 1) := by decide +kernel
theorem dX1_twins_0 : decode cX1_twins 0 = .ok (.iload_n 1, 1) := by decide +kernel
theorem dX1_twins_1 : decode cX1_twins 1 = .ok (.invokestatic 75, 3) := by decide +kernel
theorem dX1_twins_4 : decode cX1_twins 4 = .ok (.ifCond .eq 5, 3) := by decide +kernel
theorem dX1_twins_7 : decode cX1_twins 7 = .ok (.iconst (-1), 1) := by decide +kernel
theorem dX1_twins_8 : decode cX1_twins 8 = .ok (.ireturn, 1) := by decide +kernel
theorem dX1_twins_9 : decode cX1_twins 9 = .ok (.iload_n 2, 1) := by decide +kernel
theorem dX1_twins_10 : decode cX1_twins 10 = .ok (.invokestatic 82, 3) := by decide +kernel
theorem dX1_twins_13 : decode cX1_twins 13 = .ok (.ifCond .eq 6, 3) := by decide +kernel
theorem dX1_twins_16 : decode cX1_twins 16 = .ok (.bipush (-2), 2) := by decide +kernel
theorem dX1_twins_18 : decode cX1_twins 18 = .ok (.ireturn, 1) := by decide +kernel
theorem dX1_twins_19 : decode cX1_twins 19 = .ok (.iconst 0, 1) := by decide +kernel
theorem dX1_twins_20 : decode cX1_twins 20 = .ok (.istore_n 3, 1) := by decide +kernel
theorem dX1_twins_21 : decode cX1_twins 21 = .ok (.iconst 0, 1) := by decide +kernel
theorem dX1_twins_22 : decode cX1_twins 22 = .ok (.istore 4, 2) := by decide +kernel
theorem dX1_twins_24 : decode cX1_twins 24 = .ok (.iload 4, 2) := by decide +kernel
theorem dX1_twins_26 : decode cX1_twins 26 = .ok (.bipush 24, 2) := by decide +kernel
theorem dX1_twins_28 : decode cX1_twins 28 = .ok (.if_icmp .ge 31, 3) := by decide +kernel
theorem dX1_twins_31 : decode cX1_twins 31 = .ok (.aload_n 0, 1) := by decide +kernel
theorem dX1_twins_32 : decode cX1_twins 32 = .ok (.iload_n 1, 1) := by decide +kernel
theorem dX1_twins_33 : decode cX1_twins 33 = .ok (.bipush 8, 2) := by decide +kernel
theorem dX1_twins_35 : decode cX1_twins 35 = .ok (.imul, 1) := by decide +kernel
theorem dX1_twins_36 : decode cX1_twins 36 = .ok (.iload_n 2, 1) := by decide +kernel
theorem dX1_twins_37 : decode cX1_twins 37 = .ok (.iadd, 1) := by decide +kernel
theorem dX1_twins_38 : decode cX1_twins 38 = .ok (.iload 4, 2) := by decide +kernel
theorem dX1_twins_40 : decode cX1_twins 40 = .ok (.invokevirtual 98, 3) := by decide +kernel
theorem dX1_twins_43 : decode cX1_twins 43 = .ok (.istore 5, 2) := by decide +kernel
theorem dX1_twins_45 : decode cX1_twins 45 = .ok (.iload 5, 2) := by decide +kernel
theorem dX1_twins_47 : decode cX1_twins 47 = .ok (.ifCond .eq 6, 3) := by decide +kernel
theorem dX1_twins_50 : decode cX1_twins 50 = .ok (.iinc 3 1, 3) := by decide +kernel
theorem dX1_twins_53 : decode cX1_twins 53 = .ok (.iinc 4 1, 3) := by decide +kernel
theorem dX1_twins_56 : decode cX1_twins 56 = .ok (.goto (-32), 3) := by decide +kernel
theorem dX1_twins_59 : decode cX1_twins 59 = .ok (.iload_n 3, 1) := by decide +kernel
theorem dX1_twins_60 : decode cX1_twins 60 = .ok (.ireturn, 1) := by decide +kernel
end
section
set_option maxRecDepth 100000
theorem dX2_init_0 : decode cX2_init 0 = .ok (.aload_n 0, 1) := by decide +kernel
theorem dX2_init_1 : decode cX2_init 1 = .ok (.invokespecial 1, 3) := by decide +kernel
theorem dX2_init_4 : decode cX2_init 4 = .ok (.aload_n 0, 1) := by decide +kernel
theorem dX2_init_5 : decode cX2_init 5 = .ok (.bipush 96, 2) := by decide +kernel
theorem dX2_init_7 : decode cX2_init 7 = .ok (.newarray .int, 2) := by decide +kernel
theorem dX2_init_9 : decode cX2_init 9 = .ok (.putfield 7, 3) := by decide +kernel
theorem dX2_init_12 : decode cX2_init 12 = .ok (.aload_n 0, 1) := by decide +kernel
theorem dX2_init_13 : decode cX2_init 13 = .ok (.iconst 3, 1) := by decide +kernel
theorem dX2_init_14 : decode cX2_init 14 = .ok (.newarray .int, 2) := by decide +kernel
theorem dX2_init_16 : decode cX2_init 16 = .ok (.putfield 13, 3) := by decide +kernel
theorem dX2_init_19 : decode cX2_init 19 = .ok (.iconst 0, 1) := by decide +kernel
theorem dX2_init_20 : decode cX2_init 20 = .ok (.istore_n 2, 1) := by decide +kernel
theorem dX2_init_21 : decode cX2_init 21 = .ok (.iload_n 2, 1) := by decide +kernel
theorem dX2_init_22 : decode cX2_init 22 = .ok (.iconst 3, 1) := by decide +kernel
theorem dX2_init_23 : decode cX2_init 23 = .ok (.if_icmp .ge 16, 3) := by decide +kernel
theorem dX2_init_26 : decode cX2_init 26 = .ok (.aload_n 0, 1) := by decide +kernel
theorem dX2_init_27 : decode cX2_init 27 = .ok (.getfield 13, 3) := by decide +kernel
theorem dX2_init_30 : decode cX2_init 30 = .ok (.iload_n 2, 1) := by decide +kernel
theorem dX2_init_31 : decode cX2_init 31 = .ok (.iconst 1, 1) := by decide +kernel
theorem dX2_init_32 : decode cX2_init 32 = .ok (.iastore, 1) := by decide +kernel
theorem dX2_init_33 : decode cX2_init 33 = .ok (.iinc 2 1, 3) := by decide +kernel
theorem dX2_init_36 : decode cX2_init 36 = .ok (.goto (-15), 3) := by decide +kernel
theorem dX2_init_39 : decode cX2_init 39 = .ok (.return_, 1) := by decide +kernel
theorem dX2_write_0 : decode cX2_write 0 = .ok (.aload_n 0, 1) := by decide +kernel
theorem dX2_write_1 : decode cX2_write 1 = .ok (.iload_n 1, 1) := by decide +kernel
theorem dX2_write_2 : decode cX2_write 2 = .ok (.invokevirtual 16, 3) := by decide +kernel
theorem dX2_write_5 : decode cX2_write 5 = .ok (.ifCond .eq 5, 3) := by decide +kernel
theorem dX2_write_8 : decode cX2_write 8 = .ok (.iconst (-1), 1) := by decide +kernel
theorem dX2_write_9 : decode cX2_write 9 = .ok (.ireturn, 1) := by decide +kernel
theorem dX2_write_10 : decode cX2_write 10 = .ok (.iload_n 2, 1) := by decide +kernel
theorem dX2_write_11 : decode cX2_write 11 = .ok (.ifCond .lt 9, 3) := by decide +kernel
theorem dX2_write_14 : decode cX2_write 14 = .ok (.iload_n 2, 1) := by decide +kernel
theorem dX2_write_15 : decode cX2_write 15 = .ok (.bipush 31, 2) := by decide +kernel
theorem dX2_write_17 : decode cX2_write 17 = .ok (.if_icmp .le 6, 3) := by decide +kernel
theorem dX2_write_20 : decode cX2_write 20 = .ok (.bipush (-3), 2) := by decide +kernel
theorem dX2_write_22 : decode cX2_write 22 = .ok (.ireturn, 1) := by decide +kernel
theorem dX2_write_23 : decode cX2_write 23 = .ok (.aload_n 0, 1) := by decide +kernel
theorem dX2_write_24 : decode cX2_write 24 = .ok (.getfield 7, 3) := by decide +kernel
theorem dX2_write_27 : decode cX2_write 27 = .ok (.iload_n 1, 1) := by decide +kernel
theorem dX2_write_28 : decode cX2_write 28 = .ok (.bipush 32, 2) := by decide +kernel
theorem dX2_write_30 : decode cX2_write 30 = .ok (.imul, 1) := by decide +kernel
theorem dX2_write_31 : decode cX2_write 31 = .ok (.iload_n 2, 1) := by decide +kernel
theorem dX2_write_32 : decode cX2_write 32 = .ok (.iadd, 1) := by decide +kernel
theorem dX2_write_33 : decode cX2_write 33 = .ok (.iload_n 3, 1) := by decide +kernel
theorem dX2_write_34 : decode cX2_write 34 = .ok (.iastore, 1) := by decide +kernel
theorem dX2_write_35 : decode cX2_write 35 = .ok (.iconst 0, 1) := by decide +kernel
theorem dX2_write_36 : decode cX2_write 36 = .ok (.ireturn, 1) := by decide +kernel
theorem dX2_badGuest_0 : decode cX2_badGuest 0 = .ok (.iload_n 1, 1) := by decide +kernel
theorem dX2_badGuest_1 : decode cX2_badGuest 1 = .ok (.ifCond .lt 8, 3) := by decide +kernel
theorem dX2_badGuest_4 : decode cX2_badGuest 4 = .ok (.iload_n 1, 1) := by decide +kernel
theorem dX2_badGuest_5 : decode cX2_badGuest 5 = .ok (.iconst 2, 1) := by decide +kernel
theorem dX2_badGuest_6 : decode cX2_badGuest 6 = .ok (.if_icmp .le 7, 3) := by decide +kernel
theorem dX2_badGuest_9 : decode cX2_badGuest 9 = .ok (.iconst 1, 1) := by decide +kernel
theorem dX2_badGuest_10 : decode cX2_badGuest 10 = .ok (.goto 4, 3) := by decide +kernel
theorem dX2_badGuest_13 : decode cX2_badGuest 13 = .ok (.iconst 0, 1) := by decide +kernel
theorem dX2_badGuest_14 : decode cX2_badGuest 14 = .ok (.ireturn, 1) := by decide +kernel
theorem dX2_fill_0 : decode cX2_fill 0 = .ok (.aload_n 0, 1) := by decide +kernel
theorem dX2_fill_1 : decode cX2_fill 1 = .ok (.iload_n 1, 1) := by decide +kernel
theorem dX2_fill_2 : decode cX2_fill 2 = .ok (.invokevirtual 16, 3) := by decide +kernel
theorem dX2_fill_5 : decode cX2_fill 5 = .ok (.ifCond .eq 5, 3) := by decide +kernel
theorem dX2_fill_8 : decode cX2_fill 8 = .ok (.iconst (-1), 1) := by decide +kernel
theorem dX2_fill_9 : decode cX2_fill 9 = .ok (.ireturn, 1) := by decide +kernel
theorem dX2_fill_10 : decode cX2_fill 10 = .ok (.aload_n 0, 1) := by decide +kernel
theorem dX2_fill_11 : decode cX2_fill 11 = .ok (.iload_n 2, 1) := by decide +kernel
theorem dX2_fill_12 : decode cX2_fill 12 = .ok (.invokevirtual 20, 3) := by decide +kernel
theorem dX2_fill_15 : decode cX2_fill 15 = .ok (.ifCond .eq 6, 3) := by decide +kernel
theorem dX2_fill_18 : decode cX2_fill 18 = .ok (.bipush (-2), 2) := by decide +kernel
theorem dX2_fill_20 : decode cX2_fill 20 = .ok (.ireturn, 1) := by decide +kernel
theorem dX2_fill_21 : decode cX2_fill 21 = .ok (.iconst 0, 1) := by decide +kernel
theorem dX2_fill_22 : decode cX2_fill 22 = .ok (.istore 5, 2) := by decide +kernel
theorem dX2_fill_24 : decode cX2_fill 24 = .ok (.iload 5, 2) := by decide +kernel
theorem dX2_fill_26 : decode cX2_fill 26 = .ok (.iconst 4, 1) := by decide +kernel
theorem dX2_fill_27 : decode cX2_fill 27 = .ok (.if_icmp .ge 32, 3) := by decide +kernel
theorem dX2_fill_30 : decode cX2_fill 30 = .ok (.aload_n 0, 1) := by decide +kernel
theorem dX2_fill_31 : decode cX2_fill 31 = .ok (.getfield 7, 3) := by decide +kernel
theorem dX2_fill_34 : decode cX2_fill 34 = .ok (.iload_n 1, 1) := by decide +kernel
theorem dX2_fill_35 : decode cX2_fill 35 = .ok (.bipush 32, 2) := by decide +kernel
theorem dX2_fill_37 : decode cX2_fill 37 = .ok (.imul, 1) := by decide +kernel
theorem dX2_fill_38 : decode cX2_fill 38 = .ok (.iload_n 2, 1) := by decide +kernel
theorem dX2_fill_39 : decode cX2_fill 39 = .ok (.iconst 4, 1) := by decide +kernel
theorem dX2_fill_40 : decode cX2_fill 40 = .ok (.imul, 1) := by decide +kernel
theorem dX2_fill_41 : decode cX2_fill 41 = .ok (.iadd, 1) := by decide +kernel
theorem dX2_fill_42 : decode cX2_fill 42 = .ok (.iload 5, 2) := by decide +kernel
theorem dX2_fill_44 : decode cX2_fill 44 = .ok (.iadd, 1) := by decide +kernel
theorem dX2_fill_45 : decode cX2_fill 45 = .ok (.iload_n 3, 1) := by decide +kernel
theorem dX2_fill_46 : decode cX2_fill 46 = .ok (.iload 5, 2) := by decide +kernel
theorem dX2_fill_48 : decode cX2_fill 48 = .ok (.iload 4, 2) := by decide +kernel
theorem dX2_fill_50 : decode cX2_fill 50 = .ok (.imul, 1) := by decide +kernel
theorem dX2_fill_51 : decode cX2_fill 51 = .ok (.iadd, 1) := by decide +kernel
theorem dX2_fill_52 : decode cX2_fill 52 = .ok (.iastore, 1) := by decide +kernel
theorem dX2_fill_53 : decode cX2_fill 53 = .ok (.iinc 5 1, 3) := by decide +kernel
theorem dX2_fill_56 : decode cX2_fill 56 = .ok (.goto (-32), 3) := by decide +kernel
theorem dX2_fill_59 : decode cX2_fill 59 = .ok (.iconst 0, 1) := by decide +kernel
theorem dX2_fill_60 : decode cX2_fill 60 = .ok (.ireturn, 1) := by decide +kernel
theorem dX2_badPage_0 : decode cX2_badPage 0 = .ok (.iload_n 1, 1) := by decide +kernel
theorem dX2_badPage_1 : decode cX2_badPage 1 = .ok (.ifCond .lt 9, 3) := by decide +kernel
theorem dX2_badPage_4 : decode cX2_badPage 4 = .ok (.iload_n 1, 1) := by decide +kernel
theorem dX2_badPage_5 : decode cX2_badPage 5 = .ok (.bipush 7, 2) := by decide +kernel
theorem dX2_badPage_7 : decode cX2_badPage 7 = .ok (.if_icmp .le 7, 3) := by decide +kernel
theorem dX2_badPage_10 : decode cX2_badPage 10 = .ok (.iconst 1, 1) := by decide +kernel
theorem dX2_badPage_11 : decode cX2_badPage 11 = .ok (.goto 4, 3) := by decide +kernel
theorem dX2_badPage_14 : decode cX2_badPage 14 = .ok (.iconst 0, 1) := by decide +kernel
theorem dX2_badPage_15 : decode cX2_badPage 15 = .ok (.ireturn, 1) := by decide +kernel
theorem dX2_copy_0 : decode cX2_copy 0 = .ok (.aload_n 0, 1) := by decide +kernel
theorem dX2_copy_1 : decode cX2_copy 1 = .ok (.iload_n 1, 1) := by decide +kernel
theorem dX2_copy_2 : decode cX2_copy 2 = .ok (.invokevirtual 16, 3) := by decide +kernel
theorem dX2_copy_5 : decode cX2_copy 5 = .ok (.ifCond .ne 11, 3) := by decide +kernel
theorem dX2_copy_8 : decode cX2_copy 8 = .ok (.aload_n 0, 1) := by decide +kernel
theorem dX2_copy_9 : decode cX2_copy 9 = .ok (.iload_n 3, 1) := by decide +kernel
theorem dX2_copy_10 : decode cX2_copy 10 = .ok (.invokevirtual 16, 3) := by decide +kernel
theorem dX2_copy_13 : decode cX2_copy 13 = .ok (.ifCond .eq 5, 3) := by decide +kernel
theorem dX2_copy_16 : decode cX2_copy 16 = .ok (.iconst (-1), 1) := by decide +kernel
theorem dX2_copy_17 : decode cX2_copy 17 = .ok (.ireturn, 1) := by decide +kernel
theorem dX2_copy_18 : decode cX2_copy 18 = .ok (.aload_n 0, 1) := by decide +kernel
theorem dX2_copy_19 : decode cX2_copy 19 = .ok (.iload_n 2, 1) := by decide +kernel
theorem dX2_copy_20 : decode cX2_copy 20 = .ok (.invokevirtual 20, 3) := by decide +kernel
theorem dX2_copy_23 : decode cX2_copy 23 = .ok (.ifCond .ne 12, 3) := by decide +kernel
theorem dX2_copy_26 : decode cX2_copy 26 = .ok (.aload_n 0, 1) := by decide +kernel
theorem dX2_copy_27 : decode cX2_copy 27 = .ok (.iload 4, 2) := by decide +kernel
theorem dX2_copy_29 : decode cX2_copy 29 = .ok (.invokevirtual 20, 3) := by decide +kernel
theorem dX2_copy_32 : decode cX2_copy 32 = .ok (.ifCond .eq 6, 3) := by decide +kernel
theorem dX2_copy_35 : decode cX2_copy 35 = .ok (.bipush (-2), 2) := by decide +kernel
theorem dX2_copy_37 : decode cX2_copy 37 = .ok (.ireturn, 1) := by decide +kernel
theorem dX2_copy_38 : decode cX2_copy 38 = .ok (.iconst 0, 1) := by decide +kernel
theorem dX2_copy_39 : decode cX2_copy 39 = .ok (.istore 5, 2) := by decide +kernel
theorem dX2_copy_41 : decode cX2_copy 41 = .ok (.iload 5, 2) := by decide +kernel
theorem dX2_copy_43 : decode cX2_copy 43 = .ok (.iconst 4, 1) := by decide +kernel
theorem dX2_copy_44 : decode cX2_copy 44 = .ok (.if_icmp .ge 42, 3) := by decide +kernel
theorem dX2_copy_47 : decode cX2_copy 47 = .ok (.aload_n 0, 1) := by decide +kernel
theorem dX2_copy_48 : decode cX2_copy 48 = .ok (.getfield 7, 3) := by decide +kernel
theorem dX2_copy_51 : decode cX2_copy 51 = .ok (.iload_n 3, 1) := by decide +kernel
theorem dX2_copy_52 : decode cX2_copy 52 = .ok (.bipush 32, 2) := by decide +kernel
theorem dX2_copy_54 : decode cX2_copy 54 = .ok (.imul, 1) := by decide +kernel
theorem dX2_copy_55 : decode cX2_copy 55 = .ok (.iload 4, 2) := by decide +kernel
theorem dX2_copy_57 : decode cX2_copy 57 = .ok (.iconst 4, 1) := by decide +kernel
theorem dX2_copy_58 : decode cX2_copy 58 = .ok (.imul, 1) := by decide +kernel
theorem dX2_copy_59 : decode cX2_copy 59 = .ok (.iadd, 1) := by decide +kernel
theorem dX2_copy_60 : decode cX2_copy 60 = .ok (.iload 5, 2) := by decide +kernel
theorem dX2_copy_62 : decode cX2_copy 62 = .ok (.iadd, 1) := by decide +kernel
theorem dX2_copy_63 : decode cX2_copy 63 = .ok (.aload_n 0, 1) := by decide +kernel
theorem dX2_copy_64 : decode cX2_copy 64 = .ok (.getfield 7, 3) := by decide +kernel
theorem dX2_copy_67 : decode cX2_copy 67 = .ok (.iload_n 1, 1) := by decide +kernel
theorem dX2_copy_68 : decode cX2_copy 68 = .ok (.bipush 32, 2) := by decide +kernel
theorem dX2_copy_70 : decode cX2_copy 70 = .ok (.imul, 1) := by decide +kernel
theorem dX2_copy_71 : decode cX2_copy 71 = .ok (.iload_n 2, 1) := by decide +kernel
theorem dX2_copy_72 : decode cX2_copy 72 = .ok (.iconst 4, 1) := by decide +kernel
theorem dX2_copy_73 : decode cX2_copy 73 = .ok (.imul, 1) := by decide +kernel
theorem dX2_copy_74 : decode cX2_copy 74 = .ok (.iadd, 1) := by decide +kernel
theorem dX2_copy_75 : decode cX2_copy 75 = .ok (.iload 5, 2) := by decide +kernel
theorem dX2_copy_77 : decode cX2_copy 77 = .ok (.iadd, 1) := by decide +kernel
theorem dX2_copy_78 : decode cX2_copy 78 = .ok (.iaload, 1) := by decide +kernel
theorem dX2_copy_79 : decode cX2_copy 79 = .ok (.iastore, 1) := by decide +kernel
theorem dX2_copy_80 : decode cX2_copy 80 = .ok (.iinc 5 1, 3) := by decide +kernel
theorem dX2_copy_83 : decode cX2_copy 83 = .ok (.goto (-42), 3) := by decide +kernel
theorem dX2_copy_86 : decode cX2_copy 86 = .ok (.iconst 0, 1) := by decide +kernel
theorem dX2_copy_87 : decode cX2_copy 87 = .ok (.ireturn, 1) := by decide +kernel
theorem dX2_release_0 : decode cX2_release 0 = .ok (.aload_n 0, 1) := by decide +kernel
theorem dX2_release_1 : decode cX2_release 1 = .ok (.iload_n 1, 1) := by decide +kernel
theorem dX2_release_2 : decode cX2_release 2 = .ok (.iload_n 2, 1) := by decide +kernel
theorem dX2_release_3 : decode cX2_release 3 = .ok (.iconst 0, 1) := by decide +kernel
theorem dX2_release_4 : decode cX2_release 4 = .ok (.iconst 0, 1) := by decide +kernel
theorem dX2_release_5 : decode cX2_release 5 = .ok (.invokevirtual 23, 3) := by decide +kernel
theorem dX2_release_8 : decode cX2_release 8 = .ok (.ireturn, 1) := by decide +kernel
theorem dX2_cloneGuest_0 : decode cX2_cloneGuest 0 = .ok (.aload_n 0, 1) := by decide +kernel
theorem dX2_cloneGuest_1 : decode cX2_cloneGuest 1 = .ok (.iload_n 1, 1) := by decide +kernel
theorem dX2_cloneGuest_2 : decode cX2_cloneGuest 2 = .ok (.invokevirtual 16, 3) := by decide +kernel
theorem dX2_cloneGuest_5 : decode cX2_cloneGuest 5 = .ok (.ifCond .ne 11, 3) := by decide +kernel
theorem dX2_cloneGuest_8 : decode cX2_cloneGuest 8 = .ok (.aload_n 0, 1) := by decide +kernel
theorem dX2_cloneGuest_9 : decode cX2_cloneGuest 9 = .ok (.iload_n 2, 1) := by decide +kernel
theorem dX2_cloneGuest_10 : decode cX2_cloneGuest 10 = .ok (.invokevirtual 16, 3) := by decide +kernel
theorem dX2_cloneGuest_13 : decode cX2_cloneGuest 13 = .ok (.ifCond .eq 5, 3) := by decide +kernel
theorem dX2_cloneGuest_16 : decode cX2_cloneGuest 16 = .ok (.iconst (-1), 1) := by decide +kernel
theorem dX2_cloneGuest_17 : decode cX2_cloneGuest 17 = .ok (.ireturn, 1) := by decide +kernel
theorem dX2_cloneGuest_18 : decode cX2_cloneGuest 18 = .ok (.iconst 0, 1) := by decide +kernel
theorem dX2_cloneGuest_19 : decode cX2_cloneGuest 19 = .ok (.istore_n 3, 1) := by decide +kernel
theorem dX2_cloneGuest_20 : decode cX2_cloneGuest 20 = .ok (.iload_n 3, 1) := by decide +kernel
theorem dX2_cloneGuest_21 : decode cX2_cloneGuest 21 = .ok (.bipush 32, 2) := by decide +kernel
theorem dX2_cloneGuest_23 : decode cX2_cloneGuest 23 = .ok (.if_icmp .ge 31, 3) := by decide +kernel
theorem dX2_cloneGuest_26 : decode cX2_cloneGuest 26 = .ok (.aload_n 0, 1) := by decide +kernel
theorem dX2_cloneGuest_27 : decode cX2_cloneGuest 27 = .ok (.getfield 7, 3) := by decide +kernel
theorem dX2_cloneGuest_30 : decode cX2_cloneGuest 30 = .ok (.iload_n 2, 1) := by decide +kernel
theorem dX2_cloneGuest_31 : decode cX2_cloneGuest 31 = .ok (.bipush 32, 2) := by decide +kernel
theorem dX2_cloneGuest_33 : decode cX2_cloneGuest 33 = .ok (.imul, 1) := by decide +kernel
theorem dX2_cloneGuest_34 : decode cX2_cloneGuest 34 = .ok (.iload_n 3, 1) := by decide +kernel
theorem dX2_cloneGuest_35 : decode cX2_cloneGuest 35 = .ok (.iadd, 1) := by decide +kernel
theorem dX2_cloneGuest_36 : decode cX2_cloneGuest 36 = .ok (.aload_n 0, 1) := by decide +kernel
theorem dX2_cloneGuest_37 : decode cX2_cloneGuest 37 = .ok (.getfield 7, 3) := by decide +kernel
theorem dX2_cloneGuest_40 : decode cX2_cloneGuest 40 = .ok (.iload_n 1, 1) := by decide +kernel
theorem dX2_cloneGuest_41 : decode cX2_cloneGuest 41 = .ok (.bipush 32, 2) := by decide +kernel
theorem dX2_cloneGuest_43 : decode cX2_cloneGuest 43 = .ok (.imul, 1) := by decide +kernel
theorem dX2_cloneGuest_44 : decode cX2_cloneGuest 44 = .ok (.iload_n 3, 1) := by decide +kernel
theorem dX2_cloneGuest_45 : decode cX2_cloneGuest 45 = .ok (.iadd, 1) := by decide +kernel
theorem dX2_cloneGuest_46 : decode cX2_cloneGuest 46 = .ok (.iaload, 1) := by decide +kernel
theorem dX2_cloneGuest_47 : decode cX2_cloneGuest 47 = .ok (.iastore, 1) := by decide +kernel
theorem dX2_cloneGuest_48 : decode cX2_cloneGuest 48 = .ok (.iinc 3 1, 3) := by decide +kernel
theorem dX2_cloneGuest_51 : decode cX2_cloneGuest 51 = .ok (.goto (-31), 3) := by decide +kernel
theorem dX2_cloneGuest_54 : decode cX2_cloneGuest 54 = .ok (.iconst 0, 1) := by decide +kernel
theorem dX2_cloneGuest_55 : decode cX2_cloneGuest 55 = .ok (.ireturn, 1) := by decide +kernel
theorem dX2_shares_0 : decode cX2_shares 0 = .ok (.aload_n 0, 1) := by decide +kernel
theorem dX2_shares_1 : decode cX2_shares 1 = .ok (.iload_n 1, 1) := by decide +kernel
theorem dX2_shares_2 : decode cX2_shares 2 = .ok (.invokevirtual 16, 3) := by decide +kernel
theorem dX2_shares_5 : decode cX2_shares 5 = .ok (.ifCond .eq 5, 3) := by decide +kernel
theorem dX2_shares_8 : decode cX2_shares 8 = .ok (.iconst (-1), 1) := by decide +kernel
theorem dX2_shares_9 : decode cX2_shares 9 = .ok (.ireturn, 1) := by decide +kernel
theorem dX2_shares_10 : decode cX2_shares 10 = .ok (.iload_n 2, 1) := by decide +kernel
theorem dX2_shares_11 : decode cX2_shares 11 = .ok (.iconst 1, 1) := by decide +kernel
theorem dX2_shares_12 : decode cX2_shares 12 = .ok (.if_icmp .lt 9, 3) := by decide +kernel
theorem dX2_shares_15 : decode cX2_shares 15 = .ok (.iload_n 2, 1) := by decide +kernel
theorem dX2_shares_16 : decode cX2_shares 16 = .ok (.bipush 100, 2) := by decide +kernel
theorem dX2_shares_18 : decode cX2_shares 18 = .ok (.if_icmp .le 6, 3) := by decide +kernel
theorem dX2_shares_21 : decode cX2_shares 21 = .ok (.bipush (-4), 2) := by decide +kernel
theorem dX2_shares_23 : decode cX2_shares 23 = .ok (.ireturn, 1) := by decide +kernel
theorem dX2_shares_24 : decode cX2_shares 24 = .ok (.aload_n 0, 1) := by decide +kernel
theorem dX2_shares_25 : decode cX2_shares 25 = .ok (.getfield 13, 3) := by decide +kernel
theorem dX2_shares_28 : decode cX2_shares 28 = .ok (.iload_n 1, 1) := by decide +kernel
theorem dX2_shares_29 : decode cX2_shares 29 = .ok (.iaload, 1) := by decide +kernel
theorem dX2_shares_30 : decode cX2_shares 30 = .ok (.istore_n 3, 1) := by decide +kernel
theorem dX2_shares_31 : decode cX2_shares 31 = .ok (.aload_n 0, 1) := by decide +kernel
theorem dX2_shares_32 : decode cX2_shares 32 = .ok (.getfield 13, 3) := by decide +kernel
theorem dX2_shares_35 : decode cX2_shares 35 = .ok (.iload_n 1, 1) := by decide +kernel
theorem dX2_shares_36 : decode cX2_shares 36 = .ok (.iload_n 2, 1) := by decide +kernel
theorem dX2_shares_37 : decode cX2_shares 37 = .ok (.iastore, 1) := by decide +kernel
theorem dX2_shares_38 : decode cX2_shares 38 = .ok (.iload_n 3, 1) := by decide +kernel
theorem dX2_shares_39 : decode cX2_shares 39 = .ok (.ireturn, 1) := by decide +kernel
theorem dX2_tidy_0 : decode cX2_tidy 0 = .ok (.return_, 1) := by decide +kernel
theorem dX2_read_0 : decode cX2_read 0 = .ok (.aload_n 0, 1) := by decide +kernel
theorem dX2_read_1 : decode cX2_read 1 = .ok (.iload_n 1, 1) := by decide +kernel
theorem dX2_read_2 : decode cX2_read 2 = .ok (.invokevirtual 16, 3) := by decide +kernel
theorem dX2_read_5 : decode cX2_read 5 = .ok (.ifCond .ne 13, 3) := by decide +kernel
theorem dX2_read_8 : decode cX2_read 8 = .ok (.iload_n 2, 1) := by decide +kernel
theorem dX2_read_9 : decode cX2_read 9 = .ok (.ifCond .lt 9, 3) := by decide +kernel
theorem dX2_read_12 : decode cX2_read 12 = .ok (.iload_n 2, 1) := by decide +kernel
theorem dX2_read_13 : decode cX2_read 13 = .ok (.bipush 31, 2) := by decide +kernel
theorem dX2_read_15 : decode cX2_read 15 = .ok (.if_icmp .le 5, 3) := by decide +kernel
theorem dX2_read_18 : decode cX2_read 18 = .ok (.iconst 0, 1) := by decide +kernel
theorem dX2_read_19 : decode cX2_read 19 = .ok (.ireturn, 1) := by decide +kernel
theorem dX2_read_20 : decode cX2_read 20 = .ok (.aload_n 0, 1) := by decide +kernel
theorem dX2_read_21 : decode cX2_read 21 = .ok (.getfield 7, 3) := by decide +kernel
theorem dX2_read_24 : decode cX2_read 24 = .ok (.iload_n 1, 1) := by decide +kernel
theorem dX2_read_25 : decode cX2_read 25 = .ok (.bipush 32, 2) := by decide +kernel
theorem dX2_read_27 : decode cX2_read 27 = .ok (.imul, 1) := by decide +kernel
theorem dX2_read_28 : decode cX2_read 28 = .ok (.iload_n 2, 1) := by decide +kernel
theorem dX2_read_29 : decode cX2_read 29 = .ok (.iadd, 1) := by decide +kernel
theorem dX2_read_30 : decode cX2_read 30 = .ok (.iaload, 1) := by decide +kernel
theorem dX2_read_31 : decode cX2_read 31 = .ok (.ireturn, 1) := by decide +kernel
theorem dX2_sum_0 : decode cX2_sum 0 = .ok (.aload_n 0, 1) := by decide +kernel
theorem dX2_sum_1 : decode cX2_sum 1 = .ok (.iload_n 1, 1) := by decide +kernel
theorem dX2_sum_2 : decode cX2_sum 2 = .ok (.invokevirtual 16, 3) := by decide +kernel
theorem dX2_sum_5 : decode cX2_sum 5 = .ok (.ifCond .ne 11, 3) := by decide +kernel
theorem dX2_sum_8 : decode cX2_sum 8 = .ok (.aload_n 0, 1) := by decide +kernel
theorem dX2_sum_9 : decode cX2_sum 9 = .ok (.iload_n 2, 1) := by decide +kernel
theorem dX2_sum_10 : decode cX2_sum 10 = .ok (.invokevirtual 20, 3) := by decide +kernel
theorem dX2_sum_13 : decode cX2_sum 13 = .ok (.ifCond .eq 5, 3) := by decide +kernel
theorem dX2_sum_16 : decode cX2_sum 16 = .ok (.iconst 0, 1) := by decide +kernel
theorem dX2_sum_17 : decode cX2_sum 17 = .ok (.ireturn, 1) := by decide +kernel
theorem dX2_sum_18 : decode cX2_sum 18 = .ok (.iconst 0, 1) := by decide +kernel
theorem dX2_sum_19 : decode cX2_sum 19 = .ok (.istore_n 3, 1) := by decide +kernel
theorem dX2_sum_20 : decode cX2_sum 20 = .ok (.iconst 0, 1) := by decide +kernel
theorem dX2_sum_21 : decode cX2_sum 21 = .ok (.istore 4, 2) := by decide +kernel
theorem dX2_sum_23 : decode cX2_sum 23 = .ok (.iload 4, 2) := by decide +kernel
theorem dX2_sum_25 : decode cX2_sum 25 = .ok (.iconst 4, 1) := by decide +kernel
theorem dX2_sum_26 : decode cX2_sum 26 = .ok (.if_icmp .ge 33, 3) := by decide +kernel
theorem dX2_sum_29 : decode cX2_sum 29 = .ok (.iload_n 3, 1) := by decide +kernel
theorem dX2_sum_30 : decode cX2_sum 30 = .ok (.iload 4, 2) := by decide +kernel
theorem dX2_sum_32 : decode cX2_sum 32 = .ok (.iconst 1, 1) := by decide +kernel
theorem dX2_sum_33 : decode cX2_sum 33 = .ok (.iadd, 1) := by decide +kernel
theorem dX2_sum_34 : decode cX2_sum 34 = .ok (.aload_n 0, 1) := by decide +kernel
theorem dX2_sum_35 : decode cX2_sum 35 = .ok (.getfield 7, 3) := by decide +kernel
theorem dX2_sum_38 : decode cX2_sum 38 = .ok (.iload_n 1, 1) := by decide +kernel
theorem dX2_sum_39 : decode cX2_sum 39 = .ok (.bipush 32, 2) := by decide +kernel
theorem dX2_sum_41 : decode cX2_sum 41 = .ok (.imul, 1) := by decide +kernel
theorem dX2_sum_42 : decode cX2_sum 42 = .ok (.iload_n 2, 1) := by decide +kernel
theorem dX2_sum_43 : decode cX2_sum 43 = .ok (.iconst 4, 1) := by decide +kernel
theorem dX2_sum_44 : decode cX2_sum 44 = .ok (.imul, 1) := by decide +kernel
theorem dX2_sum_45 : decode cX2_sum 45 = .ok (.iadd, 1) := by decide +kernel
theorem dX2_sum_46 : decode cX2_sum 46 = .ok (.iload 4, 2) := by decide +kernel
theorem dX2_sum_48 : decode cX2_sum 48 = .ok (.iadd, 1) := by decide +kernel
theorem dX2_sum_49 : decode cX2_sum 49 = .ok (.iaload, 1) := by decide +kernel
theorem dX2_sum_50 : decode cX2_sum 50 = .ok (.imul, 1) := by decide +kernel
theorem dX2_sum_51 : decode cX2_sum 51 = .ok (.iadd, 1) := by decide +kernel
theorem dX2_sum_52 : decode cX2_sum 52 = .ok (.istore_n 3, 1) := by decide +kernel
theorem dX2_sum_53 : decode cX2_sum 53 = .ok (.iinc 4 1, 3) := by decide +kernel
theorem dX2_sum_56 : decode cX2_sum 56 = .ok (.goto (-33), 3) := by decide +kernel
theorem dX2_sum_59 : decode cX2_sum 59 = .ok (.iload_n 3, 1) := by decide +kernel
theorem dX2_sum_60 : decode cX2_sum 60 = .ok (.ireturn, 1) := by decide +kernel
theorem dX2_same_0 : decode cX2_same 0 = .ok (.aload_n 0, 1) := by decide +kernel
theorem dX2_same_1 : decode cX2_same 1 = .ok (.iload_n 1, 1) := by decide +kernel
theorem dX2_same_2 : decode cX2_same 2 = .ok (.invokevirtual 16, 3) := by decide +kernel
theorem dX2_same_5 : decode cX2_same 5 = .ok (.ifCond .ne 28, 3) := by decide +kernel
theorem dX2_same_8 : decode cX2_same 8 = .ok (.aload_n 0, 1) := by decide +kernel
theorem dX2_same_9 : decode cX2_same 9 = .ok (.iload_n 3, 1) := by decide +kernel
theorem dX2_same_10 : decode cX2_same 10 = .ok (.invokevirtual 16, 3) := by decide +kernel
theorem dX2_same_13 : decode cX2_same 13 = .ok (.ifCond .ne 20, 3) := by decide +kernel
theorem dX2_same_16 : decode cX2_same 16 = .ok (.aload_n 0, 1) := by decide +kernel
theorem dX2_same_17 : decode cX2_same 17 = .ok (.iload_n 2, 1) := by decide +kernel
theorem dX2_same_18 : decode cX2_same 18 = .ok (.invokevirtual 20, 3) := by decide +kernel
theorem dX2_same_21 : decode cX2_same 21 = .ok (.ifCond .ne 12, 3) := by decide +kernel
theorem dX2_same_24 : decode cX2_same 24 = .ok (.aload_n 0, 1) := by decide +kernel
theorem dX2_same_25 : decode cX2_same 25 = .ok (.iload 4, 2) := by decide +kernel
theorem dX2_same_27 : decode cX2_same 27 = .ok (.invokevirtual 20, 3) := by decide +kernel
theorem dX2_same_30 : decode cX2_same 30 = .ok (.ifCond .eq 5, 3) := by decide +kernel
theorem dX2_same_33 : decode cX2_same 33 = .ok (.iconst 0, 1) := by decide +kernel
theorem dX2_same_34 : decode cX2_same 34 = .ok (.ireturn, 1) := by decide +kernel
theorem dX2_same_35 : decode cX2_same 35 = .ok (.aload_n 0, 1) := by decide +kernel
theorem dX2_same_36 : decode cX2_same 36 = .ok (.iload_n 1, 1) := by decide +kernel
theorem dX2_same_37 : decode cX2_same 37 = .ok (.bipush 8, 2) := by decide +kernel
theorem dX2_same_39 : decode cX2_same 39 = .ok (.imul, 1) := by decide +kernel
theorem dX2_same_40 : decode cX2_same 40 = .ok (.iload_n 2, 1) := by decide +kernel
theorem dX2_same_41 : decode cX2_same 41 = .ok (.iadd, 1) := by decide +kernel
theorem dX2_same_42 : decode cX2_same 42 = .ok (.iload_n 3, 1) := by decide +kernel
theorem dX2_same_43 : decode cX2_same 43 = .ok (.bipush 8, 2) := by decide +kernel
theorem dX2_same_45 : decode cX2_same 45 = .ok (.imul, 1) := by decide +kernel
theorem dX2_same_46 : decode cX2_same 46 = .ok (.iload 4, 2) := by decide +kernel
theorem dX2_same_48 : decode cX2_same 48 = .ok (.iadd, 1) := by decide +kernel
theorem dX2_same_49 : decode cX2_same 49 = .ok (.invokevirtual 27, 3) := by decide +kernel
theorem dX2_same_52 : decode cX2_same 52 = .ok (.ireturn, 1) := by decide +kernel
theorem dX2_alike_0 : decode cX2_alike 0 = .ok (.iconst 0, 1) := by decide +kernel
theorem dX2_alike_1 : decode cX2_alike 1 = .ok (.istore_n 3, 1) := by decide +kernel
theorem dX2_alike_2 : decode cX2_alike 2 = .ok (.iload_n 3, 1) := by decide +kernel
theorem dX2_alike_3 : decode cX2_alike 3 = .ok (.iconst 4, 1) := by decide +kernel
theorem dX2_alike_4 : decode cX2_alike 4 = .ok (.if_icmp .ge 34, 3) := by decide +kernel
theorem dX2_alike_7 : decode cX2_alike 7 = .ok (.aload_n 0, 1) := by decide +kernel
theorem dX2_alike_8 : decode cX2_alike 8 = .ok (.getfield 7, 3) := by decide +kernel
theorem dX2_alike_11 : decode cX2_alike 11 = .ok (.iload_n 1, 1) := by decide +kernel
theorem dX2_alike_12 : decode cX2_alike 12 = .ok (.iconst 4, 1) := by decide +kernel
theorem dX2_alike_13 : decode cX2_alike 13 = .ok (.imul, 1) := by decide +kernel
theorem dX2_alike_14 : decode cX2_alike 14 = .ok (.iload_n 3, 1) := by decide +kernel
theorem dX2_alike_15 : decode cX2_alike 15 = .ok (.iadd, 1) := by decide +kernel
theorem dX2_alike_16 : decode cX2_alike 16 = .ok (.iaload, 1) := by decide +kernel
theorem dX2_alike_17 : decode cX2_alike 17 = .ok (.aload_n 0, 1) := by decide +kernel
theorem dX2_alike_18 : decode cX2_alike 18 = .ok (.getfield 7, 3) := by decide +kernel
theorem dX2_alike_21 : decode cX2_alike 21 = .ok (.iload_n 2, 1) := by decide +kernel
theorem dX2_alike_22 : decode cX2_alike 22 = .ok (.iconst 4, 1) := by decide +kernel
theorem dX2_alike_23 : decode cX2_alike 23 = .ok (.imul, 1) := by decide +kernel
theorem dX2_alike_24 : decode cX2_alike 24 = .ok (.iload_n 3, 1) := by decide +kernel
theorem dX2_alike_25 : decode cX2_alike 25 = .ok (.iadd, 1) := by decide +kernel
theorem dX2_alike_26 : decode cX2_alike 26 = .ok (.iaload, 1) := by decide +kernel
theorem dX2_alike_27 : decode cX2_alike 27 = .ok (.if_icmp .eq 5, 3) := by decide +kernel
theorem dX2_alike_30 : decode cX2_alike 30 = .ok (.iconst 0, 1) := by decide +kernel
theorem dX2_alike_31 : decode cX2_alike 31 = .ok (.ireturn, 1) := by decide +kernel
theorem dX2_alike_32 : decode cX2_alike 32 = .ok (.iinc 3 1, 3) := by decide +kernel
theorem dX2_alike_35 : decode cX2_alike 35 = .ok (.goto (-33), 3) := by decide +kernel
theorem dX2_alike_38 : decode cX2_alike 38 = .ok (.iconst 1, 1) := by decide +kernel
theorem dX2_alike_39 : decode cX2_alike 39 = .ok (.ireturn, 1) := by decide +kernel
theorem dX2_contents_0 : decode cX2_contents 0 = .ok (.aload_n 0, 1) := by decide +kernel
theorem dX2_contents_1 : decode cX2_contents 1 = .ok (.iload_n 1, 1) := by decide +kernel
theorem dX2_contents_2 : decode cX2_contents 2 = .ok (.invokevirtual 16, 3) := by decide +kernel
theorem dX2_contents_5 : decode cX2_contents 5 = .ok (.ifCond .eq 5, 3) := by decide +kernel
theorem dX2_contents_8 : decode cX2_contents 8 = .ok (.iconst (-1), 1) := by decide +kernel
theorem dX2_contents_9 : decode cX2_contents 9 = .ok (.ireturn, 1) := by decide +kernel
theorem dX2_contents_10 : decode cX2_contents 10 = .ok (.iconst 0, 1) := by decide +kernel
theorem dX2_contents_11 : decode cX2_contents 11 = .ok (.istore_n 2, 1) := by decide +kernel
theorem dX2_contents_12 : decode cX2_contents 12 = .ok (.iconst 0, 1) := by decide +kernel
theorem dX2_contents_13 : decode cX2_contents 13 = .ok (.istore_n 3, 1) := by decide +kernel
theorem dX2_contents_14 : decode cX2_contents 14 = .ok (.iload_n 3, 1) := by decide +kernel
theorem dX2_contents_15 : decode cX2_contents 15 = .ok (.bipush 8, 2) := by decide +kernel
theorem dX2_contents_17 : decode cX2_contents 17 = .ok (.if_icmp .ge 58, 3) := by decide +kernel
theorem dX2_contents_20 : decode cX2_contents 20 = .ok (.iconst 1, 1) := by decide +kernel
theorem dX2_contents_21 : decode cX2_contents 21 = .ok (.istore 4, 2) := by decide +kernel
theorem dX2_contents_23 : decode cX2_contents 23 = .ok (.iconst 0, 1) := by decide +kernel
theorem dX2_contents_24 : decode cX2_contents 24 = .ok (.istore 5, 2) := by decide +kernel
theorem dX2_contents_26 : decode cX2_contents 26 = .ok (.iload 5, 2) := by decide +kernel
theorem dX2_contents_28 : decode cX2_contents 28 = .ok (.iload_n 3, 1) := by decide +kernel
theorem dX2_contents_29 : decode cX2_contents 29 = .ok (.if_icmp .ge 32, 3) := by decide +kernel
theorem dX2_contents_32 : decode cX2_contents 32 = .ok (.aload_n 0, 1) := by decide +kernel
theorem dX2_contents_33 : decode cX2_contents 33 = .ok (.iload_n 1, 1) := by decide +kernel
theorem dX2_contents_34 : decode cX2_contents 34 = .ok (.bipush 8, 2) := by decide +kernel
theorem dX2_contents_36 : decode cX2_contents 36 = .ok (.imul, 1) := by decide +kernel
theorem dX2_contents_37 : decode cX2_contents 37 = .ok (.iload_n 3, 1) := by decide +kernel
theorem dX2_contents_38 : decode cX2_contents 38 = .ok (.iadd, 1) := by decide +kernel
theorem dX2_contents_39 : decode cX2_contents 39 = .ok (.iload_n 1, 1) := by decide +kernel
theorem dX2_contents_40 : decode cX2_contents 40 = .ok (.bipush 8, 2) := by decide +kernel
theorem dX2_contents_42 : decode cX2_contents 42 = .ok (.imul, 1) := by decide +kernel
theorem dX2_contents_43 : decode cX2_contents 43 = .ok (.iload 5, 2) := by decide +kernel
theorem dX2_contents_45 : decode cX2_contents 45 = .ok (.iadd, 1) := by decide +kernel
theorem dX2_contents_46 : decode cX2_contents 46 = .ok (.invokevirtual 27, 3) := by decide +kernel
theorem dX2_contents_49 : decode cX2_contents 49 = .ok (.ifCond .eq 6, 3) := by decide +kernel
theorem dX2_contents_52 : decode cX2_contents 52 = .ok (.iconst 0, 1) := by decide +kernel
theorem dX2_contents_53 : decode cX2_contents 53 = .ok (.istore 4, 2) := by decide +kernel
theorem dX2_contents_55 : decode cX2_contents 55 = .ok (.iinc 5 1, 3) := by decide +kernel
theorem dX2_contents_58 : decode cX2_contents 58 = .ok (.goto (-32), 3) := by decide +kernel
theorem dX2_contents_61 : decode cX2_contents 61 = .ok (.iload 4, 2) := by decide +kernel
theorem dX2_contents_63 : decode cX2_contents 63 = .ok (.ifCond .eq 6, 3) := by decide +kernel
theorem dX2_contents_66 : decode cX2_contents 66 = .ok (.iinc 2 1, 3) := by decide +kernel
theorem dX2_contents_69 : decode cX2_contents 69 = .ok (.iinc 3 1, 3) := by decide +kernel
theorem dX2_contents_72 : decode cX2_contents 72 = .ok (.goto (-58), 3) := by decide +kernel
theorem dX2_contents_75 : decode cX2_contents 75 = .ok (.iload_n 2, 1) := by decide +kernel
theorem dX2_contents_76 : decode cX2_contents 76 = .ok (.ireturn, 1) := by decide +kernel
theorem dX2_twins_0 : decode cX2_twins 0 = .ok (.aload_n 0, 1) := by decide +kernel
theorem dX2_twins_1 : decode cX2_twins 1 = .ok (.iload_n 1, 1) := by decide +kernel
theorem dX2_twins_2 : decode cX2_twins 2 = .ok (.invokevirtual 16, 3) := by decide +kernel
theorem dX2_twins_5 : decode cX2_twins 5 = .ok (.ifCond .eq 5, 3) := by decide +kernel
theorem dX2_twins_8 : decode cX2_twins 8 = .ok (.iconst (-1), 1) := by decide +kernel
theorem dX2_twins_9 : decode cX2_twins 9 = .ok (.ireturn, 1) := by decide +kernel
theorem dX2_twins_10 : decode cX2_twins 10 = .ok (.aload_n 0, 1) := by decide +kernel
theorem dX2_twins_11 : decode cX2_twins 11 = .ok (.iload_n 2, 1) := by decide +kernel
theorem dX2_twins_12 : decode cX2_twins 12 = .ok (.invokevirtual 20, 3) := by decide +kernel
theorem dX2_twins_15 : decode cX2_twins 15 = .ok (.ifCond .eq 6, 3) := by decide +kernel
theorem dX2_twins_18 : decode cX2_twins 18 = .ok (.bipush (-2), 2) := by decide +kernel
theorem dX2_twins_20 : decode cX2_twins 20 = .ok (.ireturn, 1) := by decide +kernel
theorem dX2_twins_21 : decode cX2_twins 21 = .ok (.iconst 0, 1) := by decide +kernel
theorem dX2_twins_22 : decode cX2_twins 22 = .ok (.istore_n 3, 1) := by decide +kernel
theorem dX2_twins_23 : decode cX2_twins 23 = .ok (.iconst 0, 1) := by decide +kernel
theorem dX2_twins_24 : decode cX2_twins 24 = .ok (.istore 4, 2) := by decide +kernel
theorem dX2_twins_26 : decode cX2_twins 26 = .ok (.iload 4, 2) := by decide +kernel
theorem dX2_twins_28 : decode cX2_twins 28 = .ok (.bipush 24, 2) := by decide +kernel
theorem dX2_twins_30 : decode cX2_twins 30 = .ok (.if_icmp .ge 27, 3) := by decide +kernel
theorem dX2_twins_33 : decode cX2_twins 33 = .ok (.aload_n 0, 1) := by decide +kernel
theorem dX2_twins_34 : decode cX2_twins 34 = .ok (.iload_n 1, 1) := by decide +kernel
theorem dX2_twins_35 : decode cX2_twins 35 = .ok (.bipush 8, 2) := by decide +kernel
theorem dX2_twins_37 : decode cX2_twins 37 = .ok (.imul, 1) := by decide +kernel
theorem dX2_twins_38 : decode cX2_twins 38 = .ok (.iload_n 2, 1) := by decide +kernel
theorem dX2_twins_39 : decode cX2_twins 39 = .ok (.iadd, 1) := by decide +kernel
theorem dX2_twins_40 : decode cX2_twins 40 = .ok (.iload 4, 2) := by decide +kernel
theorem dX2_twins_42 : decode cX2_twins 42 = .ok (.invokevirtual 27, 3) := by decide +kernel
theorem dX2_twins_45 : decode cX2_twins 45 = .ok (.ifCond .eq 6, 3) := by decide +kernel
theorem dX2_twins_48 : decode cX2_twins 48 = .ok (.iinc 3 1, 3) := by decide +kernel
theorem dX2_twins_51 : decode cX2_twins 51 = .ok (.iinc 4 1, 3) := by decide +kernel
theorem dX2_twins_54 : decode cX2_twins 54 = .ok (.goto (-28), 3) := by decide +kernel
theorem dX2_twins_57 : decode cX2_twins 57 = .ok (.iload_n 3, 1) := by decide +kernel
theorem dX2_twins_58 : decode cX2_twins 58 = .ok (.ireturn, 1) := by decide +kernel
theorem dX0_cell_0 : decode cX0_cell 0 = .ok (.iload_n 1, 1) := by decide +kernel
theorem dX0_cell_1 : decode cX0_cell 1 = .ok (.aload_n 0, 1) := by decide +kernel
theorem dX0_cell_2 : decode cX0_cell 2 = .ok (.arraylength, 1) := by decide +kernel
theorem dX0_cell_3 : decode cX0_cell 3 = .ok (.if_icmp .ge 9, 3) := by decide +kernel
theorem dX0_cell_6 : decode cX0_cell 6 = .ok (.aload_n 0, 1) := by decide +kernel
theorem dX0_cell_7 : decode cX0_cell 7 = .ok (.iload_n 1, 1) := by decide +kernel
theorem dX0_cell_8 : decode cX0_cell 8 = .ok (.iaload, 1) := by decide +kernel
theorem dX0_cell_9 : decode cX0_cell 9 = .ok (.goto 4, 3) := by decide +kernel
theorem dX0_cell_12 : decode cX0_cell 12 = .ok (.iconst 0, 1) := by decide +kernel
theorem dX0_cell_13 : decode cX0_cell 13 = .ok (.ireturn, 1) := by decide +kernel
theorem dJ0_init_0 : decode cJ0_init 0 = .ok (.return_, 1) := by decide +kernel
end
section
/-! the worlds of the two classes as functions of a state (numbered arrays), and a row an instruction over them -/
abbrev vwCl : List vw_C := [(RX1, TX1, 12), (RX2, TX2, 2)]
abbrev bz_S : Type := Nat → Nat → Int32
/-- one place of one array changes -/
def bz_st (g : bz_S) (k j : Nat) (v : Int32) : bz_S := fun a => if a = k then upd (g a) j v else g a
theorem bz_st_s {g : bz_S} {k j : Nat} {v : Int32} : bz_st g k j v k = upd (g k) j v := if_pos rfl
theorem bz_st_n {g : bz_S} {k j a : Nat} {v : Int32} (h : a ≠ k) : bz_st g k j v a = g a := if_neg h
abbrev bz_T (dI dZ : ClassId) : List (ClassId × FieldType) := [(dI, .int), (dZ, .boolean)]
/-- a BalloonShare: 0 frameOf, 1 slotOf, 2 inFrame, 3 holders, 4 lately, 5 inSlot, 6 slotHolders, 7 sharesOf, 8 busy, 9 idle; 10: frames, hand -/
def BW (h : Nat → Nat) (dI dZ : ClassId) (g : bz_S) : va_W :=
  [(h 0, .inr (0, [.ref (h 1), .ref (h 2), .int (g 10 0), .ref (h 3), .ref (h 4), .ref (h 5), .int (g 10 1), .ref (h 6), .ref (h 7), .ref (h 8), .ref (h 9), .ref (h 10)])),
   (h 1, .inl (dI, 24, .inl (g 0))), (h 2, .inl (dI, 24, .inl (g 1))), (h 3, .inl (dI, 64, .inl (g 2))), (h 4, .inl (dI, 16, .inl (g 3))), (h 5, .inl (dZ, 16, .inl (g 4))),
   (h 6, .inl (dI, 96, .inl (g 5))), (h 7, .inl (dI, 24, .inl (g 6))), (h 8, .inl (dI, 3, .inl (g 7))), (h 9, .inl (dI, 3, .inl (g 8))), (h 10, .inl (dI, 3, .inl (g 9)))]
/-- a BalloonShareModel: 0 words, 1 shares -/
def MW (h : Nat → Nat) (dI dZ : ClassId) (g : bz_S) : va_W :=
  [(h 0, .inr (1, [.ref (h 1), .ref (h 2)])), (h 1, .inl (dI, 96, .inl (g 0))), (h 2, .inl (dI, 3, .inl (g 1)))]
def bx_I (D : va_G) (A : Nat → Prop) (ws : va_W) (s : State) (H : Heap) (locs : List Loc) : Prop := va_P D vwCl ws H ∧ va_D A ws ∧ va_S A s.heap H locs
def bx_F (p : Program) (m : MethodId) (c : Code) (cc : ByteArray) (nL : Nat) (s : State) (args : Array Value) (own : String) (meth : Method) (ret : Option FieldType) (D : va_G) (tys : List (ClassId × FieldType)) (A : Nat → Prop) : Prop :=
  CallFix p m c cc nL s args lw_all own ∧ meth.sig.returnType = ret ∧ meth.locks = false ∧ va_K D vwCl tys s ∧ ∀ q : Nat, s.heap.size ≤ q → A q
/-! contracts -/
def bc_Pre (D : va_G) (tys : List (ClassId × FieldType)) (ws : va_W) (av : List Value) (sz : Nat) : Array Value → State → Prop := va_Pc av (fun U => U.heap.size = sz ∧ va_P D vwCl ws U.heap ∧ va_K D vwCl tys U ∧ va_D (fun _ => True) ws)
def bc_B (D : va_G) (tys : List (ClassId × FieldType)) (wd : bz_S → va_W) (A : Nat → Prop) (u : bz_S) (t : State) : Prop := va_P D vwCl (wd u) t.heap ∧ va_K D vwCl tys t ∧ va_D A (wd u)
/-- an instance method of an object whose world is wd g, with an int or boolean answer -/
def bc_i (l : Launch) (D : va_G) (tys : List (ClassId × FieldType)) (wd : bz_S → va_W) (y : MethodName) (b : ByteArray) (nL : Nat) (r : FieldType) (rm : Room) (av : List Value) (g : bz_S) (post : Int32 → bz_S → Prop) : Prop :=
  ∀ sz : Nat, Met l y (ws_ y b nL (some r)) rm (bc_Pre D tys (wd g) av sz) (va_Qi post (bc_B D tys wd (va_A (wd g) sz)) (va_A (wd g) sz)) 0 0 (va_A (wd g) sz)
/-- the same, void -/
def bc_v (l : Launch) (D : va_G) (tys : List (ClassId × FieldType)) (wd : bz_S → va_W) (y : MethodName) (b : ByteArray) (nL : Nat) (rm : Room) (av : List Value) (g : bz_S) (post : bz_S → Prop) : Prop :=
  ∀ sz : Nat, Met l y (ws_ y b nL none) rm (bc_Pre D tys (wd g) av sz) (va_Qv post (bc_B D tys wd (va_A (wd g) sz)) (va_A (wd g) sz)) 0 0 (va_A (wd g) sz)
/-- a static method that touches no cell -/
def bc_s (l : Launch) (y : MethodName) (b : ByteArray) (nL : Nat) (r : FieldType) (rm : Room) (av : List Value) (post : Int32 → Prop) : Prop :=
  ∀ H0 : Heap, Met l y (ws_ y b nL (some r)) rm (va_Pc av (fun U => U.heap = H0)) (va_Qi (fun v (_ : Unit) => post v) (fun _ t => t.heap = H0) (fun _ => False)) 0 0 (fun _ => False)
section BXE
variable {l : Launch} {D : va_G} {tys : List (ClassId × FieldType)} {wd : bz_S → va_W} {y : MethodName} {b : ByteArray} {nL : Nat} {r : FieldType} {rm : Room} {av : List Value} {g : bz_S}
theorem bc_i_of {post : Int32 → bz_S → Prop} (own : String) (hy : plainName y.cls = true) (hown : y.cls = own) (hn : (lg_sl av).length ≤ nL) (body : ∀ (p : Program) (e : Env) (s : State) (m : MethodId) (args : Array Value) (below : List Frame) (meth : Method) (c : Code) (A : Nat → Prop) (Q : State → Prop) (ls : Array Slot), bx_F p m c b nL s args own meth (some r) D tys A → lv_has ls nL (lv_args 0 av) → bx_I D A (wd g) s s.heap [] →
    (∀ (pc : Nat) (H : Heap) (locs : List Loc) (ls : Array Slot) (v : Int32) (u : bz_S), post v u → bx_I D A (wd u) s H locs → narrow r (.int v) = .int v → decode b pc = .ok (.ireturn, 1) → W p l e rm s m args below meth c H locs 0 0 Q (F0 m pc ls [.int v])) →
    W p l e rm s m args below meth c s.heap [] 0 0 Q (F0 m 0 ls [])) : bc_i l D tys wd y b nL r rm av g post := by
  intro sz
  subst hown
  refine Met.ofW (cc := b) (maxL := nL) (ret := some r) hy rfl ?_
  intro p e s m args below meth c s₁ B hml hv
  obtain ⟨rfl, hsz, hP, hK, hD0⟩ := hv
  have hts := atoms_spec (ws := ws_ y b nL (some r)) B.pre
  have hts : ∀ w ∈ lw_all, w.before _ s = true := fun w h => hts w (List.mem_cons_of_mem _ h)
  subst hsz
  have hl := lv_entry av (n := nL) hn
  rw [lg_entry_eq]
  have F : bx_F p m c b nL s av.toArray y.cls meth (some r) D tys (va_A (wd g) s.heap.size) := ⟨⟨B.exec, B.bytes, hml, findClass_of_methodNamed B.named, hts⟩, B.returns, B.notSynchronized, hK, fun q h => Or.inr h⟩
  refine body p e s m av.toArray below meth c _ _ _ F hl ⟨hP, hD0.self, va_S.rf⟩ ?_
  intro pc H locs ls v u hp I hnr hd
  exact W.zret F.1.1 F.1.2.1 F.2.1 hnr (fun t ht hW => ⟨⟨v, u, rfl, hp, by rw [ht]; exact I.1, va_K.moved hW.alike hK, I.2.1⟩, I.2.2.F ht⟩) I.2.2.2.2 hd F.2.2.1
theorem bc_v_of {post : bz_S → Prop} (own : String) (hy : plainName y.cls = true) (hown : y.cls = own) (hn : (lg_sl av).length ≤ nL) (body : ∀ (p : Program) (e : Env) (s : State) (m : MethodId) (args : Array Value) (below : List Frame) (meth : Method) (c : Code) (A : Nat → Prop) (Q : State → Prop) (ls : Array Slot), bx_F p m c b nL s args own meth none D tys A → lv_has ls nL (lv_args 0 av) → bx_I D A (wd g) s s.heap [] →
    (∀ (pc : Nat) (H : Heap) (locs : List Loc) (ls : Array Slot) (u : bz_S), post u → bx_I D A (wd u) s H locs → decode b pc = .ok (.return_, 1) → W p l e rm s m args below meth c H locs 0 0 Q (F0 m pc ls [])) →
    W p l e rm s m args below meth c s.heap [] 0 0 Q (F0 m 0 ls [])) : bc_v l D tys wd y b nL rm av g post := by
  intro sz
  subst hown
  refine Met.ofW (cc := b) (maxL := nL) (ret := none) hy rfl ?_
  intro p e s m args below meth c s₁ B hml hv
  obtain ⟨rfl, hsz, hP, hK, hD0⟩ := hv
  have hts := atoms_spec (ws := ws_ y b nL none) B.pre
  have hts : ∀ w ∈ lw_all, w.before _ s = true := fun w h => hts w (List.mem_cons_of_mem _ h)
  subst hsz
  have hl := lv_entry av (n := nL) hn
  rw [lg_entry_eq]
  have F : bx_F p m c b nL s av.toArray y.cls meth none D tys (va_A (wd g) s.heap.size) := ⟨⟨B.exec, B.bytes, hml, findClass_of_methodNamed B.named, hts⟩, B.returns, B.notSynchronized, hK, fun q h => Or.inr h⟩
  refine body p e s m av.toArray below meth c _ _ _ F hl ⟨hP, hD0.self, va_S.rf⟩ ?_
  intro pc H locs ls u hp I hd
  exact W.vret F.1.1 F.1.2.1 F.2.1 (fun t ht hW => ⟨⟨u, rfl, hp, by rw [ht]; exact I.1, va_K.moved hW.alike hK, I.2.1⟩, I.2.2.F ht⟩) I.2.2.2.2 hd F.2.2.1
theorem bc_s_of {post : Int32 → Prop} (own : String) (hy : plainName y.cls = true) (hown : y.cls = own) (hn : (lg_sl av).length ≤ nL) (body : ∀ (p : Program) (e : Env) (s : State) (m : MethodId) (args : Array Value) (below : List Frame) (meth : Method) (c : Code) (Q : State → Prop) (ls : Array Slot), CallFix p m c b nL s args lw_all own → lv_has ls nL (lv_args 0 av) →
    (∀ (pc : Nat) (ls : Array Slot) (v : Int32), post v → narrow r (.int v) = .int v → decode b pc = .ok (.ireturn, 1) → W p l e rm s m args below meth c s.heap [] 0 0 Q (F0 m pc ls [.int v])) →
    W p l e rm s m args below meth c s.heap [] 0 0 Q (F0 m 0 ls [])) : bc_s l y b nL r rm av post := by
  intro H0
  subst hown
  refine Met.ofW (cc := b) (maxL := nL) (ret := some r) hy rfl ?_
  intro p e s m args below meth c s₁ B hml hv
  obtain ⟨rfl, hsz⟩ := hv
  have hts := atoms_spec (ws := ws_ y b nL (some r)) B.pre
  have hts : ∀ w ∈ lw_all, w.before _ s = true := fun w h => hts w (List.mem_cons_of_mem _ h)
  subst hsz
  have hl := lv_entry av (n := nL) hn
  rw [lg_entry_eq]
  refine body p e s m av.toArray below meth c _ _ ⟨B.exec, B.bytes, hml, findClass_of_methodNamed B.named, hts⟩ hl ?_
  intro pc ls v hp hnr hd
  exact W.zret B.exec B.bytes B.returns hnr (fun t ht hW => ⟨⟨v, (), rfl, hp, ht⟩, ⟨by rw [ht]; exact Nat.le_refl _, fun q _ _ => by rw [ht]⟩⟩) (fun _ h => by cases h) hd B.notSynchronized
end BXE
section BX
variable {p : Program} {l : Launch} {e : Env} {R : Room} {s : State} {m : MethodId} {args : Array Value} {below : List Frame} {meth : Method} {c : Code} {H : Heap} {locs : List Loc} {cells slots : Nat} {Q : State → Prop}
variable {cc : ByteArray} {pc nL : Nat} {ls : Array Slot} {rest st : List Value} {own C : String} {ret : Option FieldType} {D : va_G} {tys : List (ClassId × FieldType)} {A : Nat → Prop} {wd : bz_S → va_W} {g : bz_S} {h : Nat → Nat} {dI dZ : ClassId}
/-! calls -/
theorem bx_free {ws : va_W} (hA : ∀ q : Nat, s.heap.size ≤ q → A q) (I : bx_I D A ws s H locs) : ∀ q, va_A ws H.size q → A q := by
  intro q h
  rcases h with ⟨k, e, h⟩ | h
  · exact I.2.1.2 k _ h
  · exact hA q (Nat.le_trans I.2.2.1 h)
theorem bx_ci {y : MethodName} {b : ByteArray} {nL2 n index q0 ci N a : Nat} {r : FieldType} {rm : Room} {As fs : List Value} {T : u_T} {post : Int32 → bz_S → Prop} (F : bx_F p m c cc nL s args own meth ret D tys A) (I : bx_I D A (wd g) s H locs) (hM : bc_i l D tys wd y b nL2 r rm (.ref a :: As) g post)
    (cw : CallW R s args own C index y b nL2 (some r) (ws_ y b nL2 (some r)) rm 0 0 n) (ho : (wd g)[q0]? = some (a, .inr (ci, fs))) (hc : vwCl[ci]? = some (C, T, N)) (hn : As.length = n) (hl : ls.size = nL) (hst : st = As.reverse ++ .ref a :: rest) (hw : (rest.map fun v => v.category).sum ≤ 8) (hd : decode cc pc = .ok (.invokevirtual index, 3))
    (kk : ∀ (v : Int32) (u : bz_S) (H : Heap) (locs : List Loc), post v u → bx_I D A (wd u) s H locs → W p l e R s m args below meth c H locs 0 0 Q (F0 m (pc + 3) ls (.int v :: rest))) : W p l e R s m args below meth c H locs 0 0 Q (F0 m pc ls st) := by
  have hFc := bx_free F.2.2.2.2 I
  obtain ⟨S, hr, hlk, hK, hA⟩ := F
  obtain ⟨hP, hD, hS⟩ := I
  refine va_calli (va_runV (As := As) (rest := rest) S (hM H.size) cw ⟨fun a' U g' mk q => ?_, va_recv hK hP hc ho, fun U hU hW => ?_⟩ rfl hn hl hst (lv_room hw) hd ⟨Nat.zero_le _, Nat.zero_le _⟩) hS (fun q _ h => hFc q h) hFc (fun v u t H1 locs1 ht hvm hp hB hz hk hS1 => ?_)
  · obtain ⟨q0, q1, qP, qK, qD⟩ := q
    exact ⟨q0, q1, qP, va_K.moved (u := U) (U := U.calling g' mk a') (Vm.Alike.refl U.vm) qK, qD⟩
  · exact ⟨rfl, by rw [hU], by rw [hU]; exact hP, va_K.moved hW.alike hK, hD.weaken (fun _ _ _ _ => trivial)⟩
  · obtain ⟨hP1, hK1, hD1⟩ := hB
    rw [ht] at hP1
    exact kk v u H1 locs1 hp ⟨hP1, hD1.weaken (fun k q _ h => hFc q.1 h), hS1⟩
theorem bx_cv {y : MethodName} {b : ByteArray} {nL2 n index q0 ci N a : Nat} {rm : Room} {As fs : List Value} {T : u_T} {post : bz_S → Prop} (F : bx_F p m c cc nL s args own meth ret D tys A) (I : bx_I D A (wd g) s H locs) (hM : bc_v l D tys wd y b nL2 rm (.ref a :: As) g post)
    (cw : CallW R s args own C index y b nL2 none (ws_ y b nL2 none) rm 0 0 n) (ho : (wd g)[q0]? = some (a, .inr (ci, fs))) (hc : vwCl[ci]? = some (C, T, N)) (hn : As.length = n) (hl : ls.size = nL) (hst : st = As.reverse ++ .ref a :: rest) (hw : (rest.map fun v => v.category).sum ≤ 8) (hd : decode cc pc = .ok (.invokevirtual index, 3))
    (kk : ∀ (u : bz_S) (H : Heap) (locs : List Loc), post u → bx_I D A (wd u) s H locs → W p l e R s m args below meth c H locs 0 0 Q (F0 m (pc + 3) ls rest)) : W p l e R s m args below meth c H locs 0 0 Q (F0 m pc ls st) := by
  have hFc := bx_free F.2.2.2.2 I
  obtain ⟨S, hr, hlk, hK, hA⟩ := F
  obtain ⟨hP, hD, hS⟩ := I
  refine va_callv (va_runV (As := As) (rest := rest) S (hM H.size) cw ⟨fun a' U g' mk q => ?_, va_recv hK hP hc ho, fun U hU hW => ?_⟩ rfl hn hl hst (lv_room hw) hd ⟨Nat.zero_le _, Nat.zero_le _⟩) hS (fun q _ h => hFc q h) hFc (fun u t H1 locs1 ht hvm hp hB hz hk hS1 => ?_)
  · obtain ⟨q0, q1, qP, qK, qD⟩ := q
    exact ⟨q0, q1, qP, va_K.moved (u := U) (U := U.calling g' mk a') (Vm.Alike.refl U.vm) qK, qD⟩
  · exact ⟨rfl, by rw [hU], by rw [hU]; exact hP, va_K.moved hW.alike hK, hD.weaken (fun _ _ _ _ => trivial)⟩
  · obtain ⟨hP1, hK1, hD1⟩ := hB
    rw [ht] at hP1
    exact kk u H1 locs1 hp ⟨hP1, hD1.weaken (fun k q _ h => hFc q.1 h), hS1⟩
theorem bx_cs {y : MethodName} {b : ByteArray} {nL2 n index : Nat} {r : FieldType} {rm : Room} {As : List Value} {ws : va_W} {post : Int32 → Prop} (F : bx_F p m c cc nL s args own meth ret D tys A) (I : bx_I D A ws s H locs) (hM : bc_s l y b nL2 r rm As post)
    (cw : CallB R s args own index y b nL2 (some r) (ws_ y b nL2 (some r)) rm 0 0 n ∧ (Cond.static y).before args s = true) (hn : As.length = n) (hl : ls.size = nL) (hst : st = As.reverse ++ rest) (hw : (rest.map fun v => v.category).sum ≤ 8) (hd : decode cc pc = .ok (.invokestatic index, 3))
    (kk : ∀ (v : Int32) (locs : List Loc), post v → bx_I D A ws s H locs → W p l e R s m args below meth c H locs 0 0 Q (F0 m (pc + 3) ls (.int v :: rest))) : W p l e R s m args below meth c H locs 0 0 Q (F0 m pc ls st) := by
  obtain ⟨S, hr, hlk, hK, hA⟩ := F
  obtain ⟨hP, hD, hS⟩ := I
  refine va_calli (va_runS (As := As) (rest := rest) S (hM H) cw ⟨fun a' U g' mk q => ⟨q.1, q.2⟩, fun U hU hW => ⟨rfl, hU⟩⟩ rfl hn hl hst (lv_room hw) hd ⟨Nat.zero_le _, Nat.zero_le _⟩) hS (fun q _ h => h.elim) (fun q h => h.elim) (fun v u t H1 locs1 ht hvm hp hB hz hk hS1 => ?_)
  have e1 : H1 = H := ht.symm.trans hB
  subst e1
  exact kk v locs1 hp ⟨hP, hD, hS1⟩

theorem bn_add (hx : p.tables.exec = Jvm.exec) (hb : c.code = cc) {x y : Nat} (hd : decode cc pc = .ok (.iadd, 1)) (k : W p l e R s m args below meth c H locs cells slots Q (F0 m (pc + 1) ls (.int (nI (x + y)) :: rest))) : W p l e R s m args below meth c H locs cells slots Q (F0 m pc ls (.int (nI y) :: .int (nI x) :: rest)) := by
  refine lv_iadd hx hb hd ?_
  rw [nI_add]
  exact k
theorem bn_mul (hx : p.tables.exec = Jvm.exec) (hb : c.code = cc) {x y : Nat} (hd : decode cc pc = .ok (.imul, 1)) (k : W p l e R s m args below meth c H locs cells slots Q (F0 m (pc + 1) ls (.int (nI (x * y)) :: rest))) : W p l e R s m args below meth c H locs cells slots Q (F0 m pc ls (.int (nI y) :: .int (nI x) :: rest)) := by
  refine lv_imul hx hb hd ?_
  rw [pk_mul]
  exact k
theorem bn_div (hx : p.tables.exec = Jvm.exec) (hb : c.code = cc) {x y : Nat} (hd : decode cc pc = .ok (.idiv, 1)) (h0 : 0 < y) (h1 : x < 2 ^ 31) (h2 : y < 2 ^ 31) (k : W p l e R s m args below meth c H locs cells slots Q (F0 m (pc + 1) ls (.int (nI (x / y)) :: rest))) : W p l e R s m args below meth c H locs cells slots Q (F0 m pc ls (.int (nI y) :: .int (nI x) :: rest)) := by
  refine lv_idiv hx hb hd (nI_ne0 h0 h2) ?_
  rw [pk_div h1 h0 h2]
  exact k
theorem bn_rem (hx : p.tables.exec = Jvm.exec) (hb : c.code = cc) {x y : Nat} (hd : decode cc pc = .ok (.irem, 1)) (h0 : 0 < y) (h1 : x < 2 ^ 31) (h2 : y < 2 ^ 31) (k : W p l e R s m args below meth c H locs cells slots Q (F0 m (pc + 1) ls (.int (nI (x % y)) :: rest))) : W p l e R s m args below meth c H locs cells slots Q (F0 m pc ls (.int (nI y) :: .int (nI x) :: rest)) := by
  refine lv_irem hx hb hd (nI_ne0 h0 h2) ?_
  rw [pk_rem h1 h0 h2]
  exact k
theorem bn_inc (a : Nat) : nI a + Int32.ofInt 1 = nI (a + 1) := by
  rw [show Int32.ofInt 1 = 1 from by decide]
  exact nI_1 a
theorem bn_ge (hx : p.tables.exec = Jvm.exec) (hb : c.code = cc) {x y : Nat} {off : Int} {tgt : Nat} (hd : decode cc pc = .ok (.if_icmp .ge off, 3)) (ht : (pc : Int) + off = (tgt : Int)) (h1 : x < 2 ^ 31) (h2 : y < 2 ^ 31) (kt : y ≤ x → W p l e R s m args below meth c H locs cells slots Q (F0 m tgt ls rest)) (kf : x < y → W p l e R s m args below meth c H locs cells slots Q (F0 m (pc + 3) ls rest)) : W p l e R s m args below meth c H locs cells slots Q (F0 m pc ls (.int (nI y) :: .int (nI x) :: rest)) :=
  lv_icmp_ge hx hb hd ht (fun q => kt ((nI_leI h2 h1).mp q)) (fun q => kf (Nat.not_le.mp (fun z => q ((nI_leI h2 h1).mpr z))))
theorem bn_le (hx : p.tables.exec = Jvm.exec) (hb : c.code = cc) {x y : Nat} {off : Int} {tgt : Nat} (hd : decode cc pc = .ok (.if_icmp .le off, 3)) (ht : (pc : Int) + off = (tgt : Int)) (h1 : x < 2 ^ 31) (h2 : y < 2 ^ 31) (kt : x ≤ y → W p l e R s m args below meth c H locs cells slots Q (F0 m tgt ls rest)) (kf : y < x → W p l e R s m args below meth c H locs cells slots Q (F0 m (pc + 3) ls rest)) : W p l e R s m args below meth c H locs cells slots Q (F0 m pc ls (.int (nI y) :: .int (nI x) :: rest)) :=
  lv_icmp_le hx hb hd ht (fun q => kt ((nI_leI h1 h2).mp q)) (fun q => kf (Nat.not_le.mp (fun z => q ((nI_leI h1 h2).mpr z))))
theorem bn_lt (hx : p.tables.exec = Jvm.exec) (hb : c.code = cc) {x y : Nat} {off : Int} {tgt : Nat} (hd : decode cc pc = .ok (.if_icmp .lt off, 3)) (ht : (pc : Int) + off = (tgt : Int)) (h1 : x < 2 ^ 31) (h2 : y < 2 ^ 31) (kt : x < y → W p l e R s m args below meth c H locs cells slots Q (F0 m tgt ls rest)) (kf : y ≤ x → W p l e R s m args below meth c H locs cells slots Q (F0 m (pc + 3) ls rest)) : W p l e R s m args below meth c H locs cells slots Q (F0 m pc ls (.int (nI y) :: .int (nI x) :: rest)) :=
  lv_icmp_lt hx hb hd ht (fun q => kt ((nI_ltI h1 h2).mp q)) (fun q => kf (Nat.not_lt.mp (fun z => q ((nI_ltI h1 h2).mpr z))))
theorem bn_gt (hx : p.tables.exec = Jvm.exec) (hb : c.code = cc) {x y : Nat} {off : Int} {tgt : Nat} (hd : decode cc pc = .ok (.if_icmp .gt off, 3)) (ht : (pc : Int) + off = (tgt : Int)) (h1 : x < 2 ^ 31) (h2 : y < 2 ^ 31) (kt : y < x → W p l e R s m args below meth c H locs cells slots Q (F0 m tgt ls rest)) (kf : x ≤ y → W p l e R s m args below meth c H locs cells slots Q (F0 m (pc + 3) ls rest)) : W p l e R s m args below meth c H locs cells slots Q (F0 m pc ls (.int (nI y) :: .int (nI x) :: rest)) :=
  lv_icmp_gt hx hb hd ht (fun q => kt ((nI_ltI h2 h1).mp q)) (fun q => kf (Nat.not_lt.mp (fun z => q ((nI_ltI h2 h1).mpr z))))
theorem bn_eq (hx : p.tables.exec = Jvm.exec) (hb : c.code = cc) {x y : Nat} {off : Int} {tgt : Nat} (hd : decode cc pc = .ok (.if_icmp .eq off, 3)) (ht : (pc : Int) + off = (tgt : Int)) (h1 : x < 2 ^ 31) (h2 : y < 2 ^ 31) (kt : x = y → W p l e R s m args below meth c H locs cells slots Q (F0 m tgt ls rest)) (kf : ¬ x = y → W p l e R s m args below meth c H locs cells slots Q (F0 m (pc + 3) ls rest)) : W p l e R s m args below meth c H locs cells slots Q (F0 m pc ls (.int (nI y) :: .int (nI x) :: rest)) :=
  lv_icmp_eq hx hb hd ht (fun q => kt ((nI_eq h1 h2).mp q)) (fun q => kf (fun z => q ((nI_eq h1 h2).mpr z)))
theorem bn_ne (hx : p.tables.exec = Jvm.exec) (hb : c.code = cc) {x y : Nat} {off : Int} {tgt : Nat} (hd : decode cc pc = .ok (.if_icmp .ne off, 3)) (ht : (pc : Int) + off = (tgt : Int)) (h1 : x < 2 ^ 31) (h2 : y < 2 ^ 31) (kt : ¬ x = y → W p l e R s m args below meth c H locs cells slots Q (F0 m tgt ls rest)) (kf : x = y → W p l e R s m args below meth c H locs cells slots Q (F0 m (pc + 3) ls rest)) : W p l e R s m args below meth c H locs cells slots Q (F0 m pc ls (.int (nI y) :: .int (nI x) :: rest)) :=
  lv_icmp_ne hx hb hd ht (fun q => kt (fun z => q ((nI_eq h1 h2).mpr z))) (fun q => kf ((nI_eq h1 h2).mp q))
/-- a number that is not negative, against 0 -/
theorem bn_iflt (hx : p.tables.exec = Jvm.exec) (hb : c.code = cc) {x : Nat} {off : Int} {tgt : Nat} (hd : decode cc pc = .ok (.ifCond .lt off, 3)) (ht : (pc : Int) + off = (tgt : Int)) (h1 : x < 2 ^ 31) (k : W p l e R s m args below meth c H locs cells slots Q (F0 m (pc + 3) ls rest)) : W p l e R s m args below meth c H locs cells slots Q (F0 m pc ls (.int (nI x) :: rest)) :=
  lv_if_lt hx hb hd ht (fun q => absurd q (nI_pos h1)) (fun _ => k)
theorem bn_ifge (hx : p.tables.exec = Jvm.exec) (hb : c.code = cc) {x : Nat} {off : Int} {tgt : Nat} (hd : decode cc pc = .ok (.ifCond .ge off, 3)) (ht : (pc : Int) + off = (tgt : Int)) (h1 : x < 2 ^ 31) (k : W p l e R s m args below meth c H locs cells slots Q (F0 m tgt ls rest)) : W p l e R s m args below meth c H locs cells slots Q (F0 m pc ls (.int (nI x) :: rest)) :=
  lv_if_ge hx hb hd ht (fun _ => k) (fun q => absurd (nI_pos' h1) q)
/-- minus one, against 0 -/
theorem bm_iflt (hx : p.tables.exec = Jvm.exec) (hb : c.code = cc) {off : Int} {tgt : Nat} (hd : decode cc pc = .ok (.ifCond .lt off, 3)) (ht : (pc : Int) + off = (tgt : Int)) (k : W p l e R s m args below meth c H locs cells slots Q (F0 m tgt ls rest)) : W p l e R s m args below meth c H locs cells slots Q (F0 m pc ls (.int (-1) :: rest)) :=
  lv_if_lt hx hb hd ht (fun _ => k) (fun q => absurd (by decide) q)
theorem bm_ifge (hx : p.tables.exec = Jvm.exec) (hb : c.code = cc) {off : Int} {tgt : Nat} (hd : decode cc pc = .ok (.ifCond .ge off, 3)) (ht : (pc : Int) + off = (tgt : Int)) (k : W p l e R s m args below meth c H locs cells slots Q (F0 m (pc + 3) ls rest)) : W p l e R s m args below meth c H locs cells slots Q (F0 m pc ls (.int (-1) :: rest)) :=
  lv_if_ge hx hb hd ht (fun q => absurd q (by decide)) (fun _ => k)
/-- the value on top under another name -/
theorem bn_top {x y : Int32} (h : x = y) (k : W p l e R s m args below meth c H locs cells slots Q (F0 m pc ls (.int y :: rest))) : W p l e R s m args below meth c H locs cells slots Q (F0 m pc ls (.int x :: rest)) := by
  rw [h]
  exact k
theorem bn_if0_eq (hx : p.tables.exec = Jvm.exec) (hb : c.code = cc) {off : Int} {tgt : Nat} (hd : decode cc pc = .ok (.ifCond .eq off, 3)) (ht : (pc : Int) + off = (tgt : Int)) (k : W p l e R s m args below meth c H locs cells slots Q (F0 m tgt ls rest)) : W p l e R s m args below meth c H locs cells slots Q (F0 m pc ls (.int (nI 0) :: rest)) :=
  lv_if_eq hx hb hd ht (fun _ => k) (fun q => absurd rfl q)
theorem bn_if1_eq (hx : p.tables.exec = Jvm.exec) (hb : c.code = cc) {off : Int} {tgt : Nat} (hd : decode cc pc = .ok (.ifCond .eq off, 3)) (ht : (pc : Int) + off = (tgt : Int)) (k : W p l e R s m args below meth c H locs cells slots Q (F0 m (pc + 3) ls rest)) : W p l e R s m args below meth c H locs cells slots Q (F0 m pc ls (.int (nI 1) :: rest)) :=
  lv_if_eq hx hb hd ht (fun q => absurd q (by decide)) (fun _ => k)
theorem bn_if0_ne (hx : p.tables.exec = Jvm.exec) (hb : c.code = cc) {off : Int} {tgt : Nat} (hd : decode cc pc = .ok (.ifCond .ne off, 3)) (ht : (pc : Int) + off = (tgt : Int)) (k : W p l e R s m args below meth c H locs cells slots Q (F0 m (pc + 3) ls rest)) : W p l e R s m args below meth c H locs cells slots Q (F0 m pc ls (.int (nI 0) :: rest)) :=
  lv_if_ne hx hb hd ht (fun q => absurd rfl q) (fun _ => k)
theorem bn_if1_ne (hx : p.tables.exec = Jvm.exec) (hb : c.code = cc) {off : Int} {tgt : Nat} (hd : decode cc pc = .ok (.ifCond .ne off, 3)) (ht : (pc : Int) + off = (tgt : Int)) (k : W p l e R s m args below meth c H locs cells slots Q (F0 m tgt ls rest)) : W p l e R s m args below meth c H locs cells slots Q (F0 m pc ls (.int (nI 1) :: rest)) :=
  lv_if_ne hx hb hd ht (fun _ => k) (fun q => absurd q (by decide))
theorem bn_ifeq (hx : p.tables.exec = Jvm.exec) (hb : c.code = cc) {x : Nat} {off : Int} {tgt : Nat} (hd : decode cc pc = .ok (.ifCond .eq off, 3)) (ht : (pc : Int) + off = (tgt : Int)) (h1 : x < 2 ^ 31) (kt : x = 0 → W p l e R s m args below meth c H locs cells slots Q (F0 m tgt ls rest)) (kf : 0 < x → W p l e R s m args below meth c H locs cells slots Q (F0 m (pc + 3) ls rest)) : W p l e R s m args below meth c H locs cells slots Q (F0 m pc ls (.int (nI x) :: rest)) :=
  lv_if_eq hx hb hd ht (fun q => kt ((nI_eq h1 (by decide)).mp (q.trans nI_0.symm))) (fun q => kf (Nat.pos_of_ne_zero (fun z => q (by rw [z]; exact nI_0))))
theorem bn_ifne (hx : p.tables.exec = Jvm.exec) (hb : c.code = cc) {x : Nat} {off : Int} {tgt : Nat} (hd : decode cc pc = .ok (.ifCond .ne off, 3)) (ht : (pc : Int) + off = (tgt : Int)) (h1 : x < 2 ^ 31) (kt : 0 < x → W p l e R s m args below meth c H locs cells slots Q (F0 m tgt ls rest)) (kf : x = 0 → W p l e R s m args below meth c H locs cells slots Q (F0 m (pc + 3) ls rest)) : W p l e R s m args below meth c H locs cells slots Q (F0 m pc ls (.int (nI x) :: rest)) :=
  lv_if_ne hx hb hd ht (fun q => kt (Nat.pos_of_ne_zero (fun z => q (by rw [z]; exact nI_0)))) (fun q => kf ((nI_eq h1 (by decide)).mp (q.trans nI_0.symm)))
theorem bn_ifle (hx : p.tables.exec = Jvm.exec) (hb : c.code = cc) {x : Nat} {off : Int} {tgt : Nat} (hd : decode cc pc = .ok (.ifCond .le off, 3)) (ht : (pc : Int) + off = (tgt : Int)) (h1 : x < 2 ^ 31) (kt : x = 0 → W p l e R s m args below meth c H locs cells slots Q (F0 m tgt ls rest)) (kf : 0 < x → W p l e R s m args below meth c H locs cells slots Q (F0 m (pc + 3) ls rest)) : W p l e R s m args below meth c H locs cells slots Q (F0 m pc ls (.int (nI x) :: rest)) :=
  lv_if_le hx hb hd ht (fun q => kt (by
    rcases Nat.eq_zero_or_pos x with z | z
    · exact z
    · exact absurd q (nI_nle z h1))) (fun q => kf (Nat.pos_of_ne_zero (fun z => q (by rw [z, nI_0]; decide))))
theorem bs_frameOf (F : bx_F p m c cc nL s args RX1 meth ret D (bz_T dI dZ) A) (I : bx_I D A (BW h dI dZ g) s H locs) (hd : decode cc pc = .ok (.getfield 7, 3)) (kk : W p l e R s m args below meth c H locs cells slots Q (F0 m (pc + 3) ls (.ref (h 1) :: rest))) : W p l e R s m args below meth c H locs cells slots Q (F0 m pc ls (.ref (h 0) :: rest)) :=
  va_get (D := D) (ci := 0) (v := .ref (h 1)) (C := RX1) (T := TX1) (N := 12) F.1.1 F.1.2.1 F.1.2.2.2.2 in_X1 F.1.2.2.2.1 F.2.2.2.1 I.1 0 rfl rfl 0 (by decide) (F.1.2.2.2.2 _ q28) (fun _ h9 => h9) rfl hd kk
theorem bs_slotOf (F : bx_F p m c cc nL s args RX1 meth ret D (bz_T dI dZ) A) (I : bx_I D A (BW h dI dZ g) s H locs) (hd : decode cc pc = .ok (.getfield 13, 3)) (kk : W p l e R s m args below meth c H locs cells slots Q (F0 m (pc + 3) ls (.ref (h 2) :: rest))) : W p l e R s m args below meth c H locs cells slots Q (F0 m pc ls (.ref (h 0) :: rest)) :=
  va_get (D := D) (ci := 0) (v := .ref (h 2)) (C := RX1) (T := TX1) (N := 12) F.1.1 F.1.2.1 F.1.2.2.2.2 in_X1 F.1.2.2.2.1 F.2.2.2.1 I.1 0 rfl rfl 1 (by decide) (F.1.2.2.2.2 _ q29) (fun _ h9 => h9) rfl hd kk
theorem bs_inFrame (F : bx_F p m c cc nL s args RX1 meth ret D (bz_T dI dZ) A) (I : bx_I D A (BW h dI dZ g) s H locs) (hd : decode cc pc = .ok (.getfield 16, 3)) (kk : W p l e R s m args below meth c H locs cells slots Q (F0 m (pc + 3) ls (.ref (h 3) :: rest))) : W p l e R s m args below meth c H locs cells slots Q (F0 m pc ls (.ref (h 0) :: rest)) :=
  va_get (D := D) (ci := 0) (v := .ref (h 3)) (C := RX1) (T := TX1) (N := 12) F.1.1 F.1.2.1 F.1.2.2.2.2 in_X1 F.1.2.2.2.1 F.2.2.2.1 I.1 0 rfl rfl 3 (by decide) (F.1.2.2.2.2 _ q31) (fun _ h9 => h9) rfl hd kk
theorem bs_holders (F : bx_F p m c cc nL s args RX1 meth ret D (bz_T dI dZ) A) (I : bx_I D A (BW h dI dZ g) s H locs) (hd : decode cc pc = .ok (.getfield 19, 3)) (kk : W p l e R s m args below meth c H locs cells slots Q (F0 m (pc + 3) ls (.ref (h 4) :: rest))) : W p l e R s m args below meth c H locs cells slots Q (F0 m pc ls (.ref (h 0) :: rest)) :=
  va_get (D := D) (ci := 0) (v := .ref (h 4)) (C := RX1) (T := TX1) (N := 12) F.1.1 F.1.2.1 F.1.2.2.2.2 in_X1 F.1.2.2.2.1 F.2.2.2.1 I.1 0 rfl rfl 4 (by decide) (F.1.2.2.2.2 _ q32) (fun _ h9 => h9) rfl hd kk
theorem bs_lately (F : bx_F p m c cc nL s args RX1 meth ret D (bz_T dI dZ) A) (I : bx_I D A (BW h dI dZ g) s H locs) (hd : decode cc pc = .ok (.getfield 22, 3)) (kk : W p l e R s m args below meth c H locs cells slots Q (F0 m (pc + 3) ls (.ref (h 5) :: rest))) : W p l e R s m args below meth c H locs cells slots Q (F0 m pc ls (.ref (h 0) :: rest)) :=
  va_get (D := D) (ci := 0) (v := .ref (h 5)) (C := RX1) (T := TX1) (N := 12) F.1.1 F.1.2.1 F.1.2.2.2.2 in_X1 F.1.2.2.2.1 F.2.2.2.1 I.1 0 rfl rfl 5 (by decide) (F.1.2.2.2.2 _ q33) (fun _ h9 => h9) rfl hd kk
theorem bs_inSlot (F : bx_F p m c cc nL s args RX1 meth ret D (bz_T dI dZ) A) (I : bx_I D A (BW h dI dZ g) s H locs) (hd : decode cc pc = .ok (.getfield 26, 3)) (kk : W p l e R s m args below meth c H locs cells slots Q (F0 m (pc + 3) ls (.ref (h 6) :: rest))) : W p l e R s m args below meth c H locs cells slots Q (F0 m pc ls (.ref (h 0) :: rest)) :=
  va_get (D := D) (ci := 0) (v := .ref (h 6)) (C := RX1) (T := TX1) (N := 12) F.1.1 F.1.2.1 F.1.2.2.2.2 in_X1 F.1.2.2.2.1 F.2.2.2.1 I.1 0 rfl rfl 7 (by decide) (F.1.2.2.2.2 _ q35) (fun _ h9 => h9) rfl hd kk
theorem bs_slotHolders (F : bx_F p m c cc nL s args RX1 meth ret D (bz_T dI dZ) A) (I : bx_I D A (BW h dI dZ g) s H locs) (hd : decode cc pc = .ok (.getfield 29, 3)) (kk : W p l e R s m args below meth c H locs cells slots Q (F0 m (pc + 3) ls (.ref (h 7) :: rest))) : W p l e R s m args below meth c H locs cells slots Q (F0 m pc ls (.ref (h 0) :: rest)) :=
  va_get (D := D) (ci := 0) (v := .ref (h 7)) (C := RX1) (T := TX1) (N := 12) F.1.1 F.1.2.1 F.1.2.2.2.2 in_X1 F.1.2.2.2.1 F.2.2.2.1 I.1 0 rfl rfl 8 (by decide) (F.1.2.2.2.2 _ q36) (fun _ h9 => h9) rfl hd kk
theorem bs_sharesOf (F : bx_F p m c cc nL s args RX1 meth ret D (bz_T dI dZ) A) (I : bx_I D A (BW h dI dZ g) s H locs) (hd : decode cc pc = .ok (.getfield 32, 3)) (kk : W p l e R s m args below meth c H locs cells slots Q (F0 m (pc + 3) ls (.ref (h 8) :: rest))) : W p l e R s m args below meth c H locs cells slots Q (F0 m pc ls (.ref (h 0) :: rest)) :=
  va_get (D := D) (ci := 0) (v := .ref (h 8)) (C := RX1) (T := TX1) (N := 12) F.1.1 F.1.2.1 F.1.2.2.2.2 in_X1 F.1.2.2.2.1 F.2.2.2.1 I.1 0 rfl rfl 9 (by decide) (F.1.2.2.2.2 _ q37) (fun _ h9 => h9) rfl hd kk
theorem bs_busy (F : bx_F p m c cc nL s args RX1 meth ret D (bz_T dI dZ) A) (I : bx_I D A (BW h dI dZ g) s H locs) (hd : decode cc pc = .ok (.getfield 35, 3)) (kk : W p l e R s m args below meth c H locs cells slots Q (F0 m (pc + 3) ls (.ref (h 9) :: rest))) : W p l e R s m args below meth c H locs cells slots Q (F0 m pc ls (.ref (h 0) :: rest)) :=
  va_get (D := D) (ci := 0) (v := .ref (h 9)) (C := RX1) (T := TX1) (N := 12) F.1.1 F.1.2.1 F.1.2.2.2.2 in_X1 F.1.2.2.2.1 F.2.2.2.1 I.1 0 rfl rfl 10 (by decide) (F.1.2.2.2.2 _ q38) (fun _ h9 => h9) rfl hd kk
theorem bs_idle (F : bx_F p m c cc nL s args RX1 meth ret D (bz_T dI dZ) A) (I : bx_I D A (BW h dI dZ g) s H locs) (hd : decode cc pc = .ok (.getfield 38, 3)) (kk : W p l e R s m args below meth c H locs cells slots Q (F0 m (pc + 3) ls (.ref (h 10) :: rest))) : W p l e R s m args below meth c H locs cells slots Q (F0 m pc ls (.ref (h 0) :: rest)) :=
  va_get (D := D) (ci := 0) (v := .ref (h 10)) (C := RX1) (T := TX1) (N := 12) F.1.1 F.1.2.1 F.1.2.2.2.2 in_X1 F.1.2.2.2.1 F.2.2.2.1 I.1 0 rfl rfl 11 (by decide) (F.1.2.2.2.2 _ q39) (fun _ h9 => h9) rfl hd kk
theorem bs_frames (F : bx_F p m c cc nL s args RX1 meth ret D (bz_T dI dZ) A) (I : bx_I D A (BW h dI dZ g) s H locs) {v : Int32} (hv : g 10 0 = v) (hd : decode cc pc = .ok (.getfield 41, 3)) (kk : W p l e R s m args below meth c H locs cells slots Q (F0 m (pc + 3) ls (.int v :: rest))) : W p l e R s m args below meth c H locs cells slots Q (F0 m pc ls (.ref (h 0) :: rest)) := by
  subst hv
  exact va_get (D := D) (ci := 0) (v := .int (g 10 0)) (C := RX1) (T := TX1) (N := 12) F.1.1 F.1.2.1 F.1.2.2.2.2 in_X1 F.1.2.2.2.1 F.2.2.2.1 I.1 0 rfl rfl 2 (by decide) (F.1.2.2.2.2 _ q30) (fun _ h9 => h9) rfl hd kk
theorem bs_hand (F : bx_F p m c cc nL s args RX1 meth ret D (bz_T dI dZ) A) (I : bx_I D A (BW h dI dZ g) s H locs) {v : Int32} (hv : g 10 1 = v) (hd : decode cc pc = .ok (.getfield 72, 3)) (kk : W p l e R s m args below meth c H locs cells slots Q (F0 m (pc + 3) ls (.int v :: rest))) : W p l e R s m args below meth c H locs cells slots Q (F0 m pc ls (.ref (h 0) :: rest)) := by
  subst hv
  exact va_get (D := D) (ci := 0) (v := .int (g 10 1)) (C := RX1) (T := TX1) (N := 12) F.1.1 F.1.2.1 F.1.2.2.2.2 in_X1 F.1.2.2.2.1 F.2.2.2.1 I.1 0 rfl rfl 6 (by decide) (F.1.2.2.2.2 _ q34) (fun _ h9 => h9) rfl hd kk
theorem BW_hand {v : Int32} : (BW h dI dZ g).set 0 (h 0, .inr (0, ([.ref (h 1), .ref (h 2), .int (g 10 0), .ref (h 3), .ref (h 4), .ref (h 5), .int (g 10 1), .ref (h 6), .ref (h 7), .ref (h 8), .ref (h 9), .ref (h 10)] : List Value).set 6 (.int v))) = BW h dI dZ (bz_st g 10 1 v) := by
  simp [BW, bz_st, upd]
theorem bs_puthand (F : bx_F p m c cc nL s args RX1 meth ret D (bz_T dI dZ) A) (I : bx_I D A (BW h dI dZ g) s H locs) {v : Int32} (hd : decode cc pc = .ok (.putfield 72, 3)) (kk : ∀ (H : Heap) (locs : List Loc) (u : bz_S), u = bz_st g 10 1 v → bx_I D A (BW h dI dZ u) s H locs → W p l e R s m args below meth c H locs cells slots Q (F0 m (pc + 3) ls rest)) : W p l e R s m args below meth c H locs cells slots Q (F0 m pc ls (.int v :: .ref (h 0) :: rest)) := by
  refine va_put (D := D) (ci := 0) (v := .int v) (ty := .int) (C := RX1) (T := TX1) (N := 12) F.1.1 F.1.2.1 F.1.2.2.2.2 in_X1 tyX1 tyX1_ok nmX1 F.1.2.2.2.1 F.2.2.2.1 I.1 I.2.1 I.2.2 0 rfl rfl 6 (by decide) (F.1.2.2.2.2 _ q34) (fun _ h9 => h9) rfl (by decide +kernel) rfl rfl (Nat.le_of_ble_eq_true rfl) hd (fun H1 locs1 h1 h2 h3 => ?_)
  rw [BW_hand] at h1 h2
  exact kk H1 locs1 _ rfl ⟨h1, h2, h3⟩
theorem bs_ld0 (F : bx_F p m c cc nL s args RX1 meth ret D (bz_T dI dZ) A) (I : bx_I D A (BW h dI dZ g) s H locs) {j : Nat} {v : Int32} (hj : j < 24) (hv : g 0 j = v) (hd : decode cc pc = .ok (.iaload, 1)) (kk : W p l e R s m args below meth c H locs cells slots Q (F0 m (pc + 1) ls (.int v :: rest))) : W p l e R s m args below meth c H locs cells slots Q (F0 m pc ls (.int (nI j) :: .ref (h 1) :: rest)) := by
  subst hv
  have hc : (nI j).toNatClampNeg = j := nI_clamp (by omega)
  refine va_iald (n := 24) (f := g 0) F.1.1 F.1.2.1 F.2.2.2.1 I.1 1 0 rfl rfl (vp_in_nI hj (by decide)) hd ?_
  rw [hc]
  exact kk
theorem bs_set0 {j : Nat} {v : Int32} : (BW h dI dZ g).set 1 (h 1, .inl (dI, 24, .inl (upd (g 0) j v))) = BW h dI dZ (bz_st g 0 j v) := by
  simp [BW, bz_st]
theorem bs_st0 (F : bx_F p m c cc nL s args RX1 meth ret D (bz_T dI dZ) A) (I : bx_I D A (BW h dI dZ g) s H locs) {j : Nat} {v : Int32} (hj : j < 24) (hd : decode cc pc = .ok (.iastore, 1)) (kk : ∀ (H : Heap) (locs : List Loc) (u : bz_S), u = bz_st g 0 j v → bx_I D A (BW h dI dZ u) s H locs → W p l e R s m args below meth c H locs cells slots Q (F0 m (pc + 1) ls rest)) : W p l e R s m args below meth c H locs cells slots Q (F0 m pc ls (.int v :: .int (nI j) :: .ref (h 1) :: rest)) := by
  have hc : (nI j).toNatClampNeg = j := nI_clamp (by omega)
  refine va_iast (n := 24) (f := g 0) F.1.1 F.1.2.1 F.2.2.2.1 I.1 I.2.1 I.2.2 1 0 rfl rfl (vp_in_nI hj (by decide)) hd (fun H1 locs1 h1 h2 h3 => ?_)
  rw [hc, bs_set0] at h1 h2
  exact kk H1 locs1 _ rfl ⟨h1, h2, h3⟩
theorem bs_ld1 (F : bx_F p m c cc nL s args RX1 meth ret D (bz_T dI dZ) A) (I : bx_I D A (BW h dI dZ g) s H locs) {j : Nat} {v : Int32} (hj : j < 24) (hv : g 1 j = v) (hd : decode cc pc = .ok (.iaload, 1)) (kk : W p l e R s m args below meth c H locs cells slots Q (F0 m (pc + 1) ls (.int v :: rest))) : W p l e R s m args below meth c H locs cells slots Q (F0 m pc ls (.int (nI j) :: .ref (h 2) :: rest)) := by
  subst hv
  have hc : (nI j).toNatClampNeg = j := nI_clamp (by omega)
  refine va_iald (n := 24) (f := g 1) F.1.1 F.1.2.1 F.2.2.2.1 I.1 2 0 rfl rfl (vp_in_nI hj (by decide)) hd ?_
  rw [hc]
  exact kk
theorem bs_set1 {j : Nat} {v : Int32} : (BW h dI dZ g).set 2 (h 2, .inl (dI, 24, .inl (upd (g 1) j v))) = BW h dI dZ (bz_st g 1 j v) := by
  simp [BW, bz_st]
theorem bs_st1 (F : bx_F p m c cc nL s args RX1 meth ret D (bz_T dI dZ) A) (I : bx_I D A (BW h dI dZ g) s H locs) {j : Nat} {v : Int32} (hj : j < 24) (hd : decode cc pc = .ok (.iastore, 1)) (kk : ∀ (H : Heap) (locs : List Loc) (u : bz_S), u = bz_st g 1 j v → bx_I D A (BW h dI dZ u) s H locs → W p l e R s m args below meth c H locs cells slots Q (F0 m (pc + 1) ls rest)) : W p l e R s m args below meth c H locs cells slots Q (F0 m pc ls (.int v :: .int (nI j) :: .ref (h 2) :: rest)) := by
  have hc : (nI j).toNatClampNeg = j := nI_clamp (by omega)
  refine va_iast (n := 24) (f := g 1) F.1.1 F.1.2.1 F.2.2.2.1 I.1 I.2.1 I.2.2 2 0 rfl rfl (vp_in_nI hj (by decide)) hd (fun H1 locs1 h1 h2 h3 => ?_)
  rw [hc, bs_set1] at h1 h2
  exact kk H1 locs1 _ rfl ⟨h1, h2, h3⟩
theorem bs_ld2 (F : bx_F p m c cc nL s args RX1 meth ret D (bz_T dI dZ) A) (I : bx_I D A (BW h dI dZ g) s H locs) {j : Nat} {v : Int32} (hj : j < 64) (hv : g 2 j = v) (hd : decode cc pc = .ok (.iaload, 1)) (kk : W p l e R s m args below meth c H locs cells slots Q (F0 m (pc + 1) ls (.int v :: rest))) : W p l e R s m args below meth c H locs cells slots Q (F0 m pc ls (.int (nI j) :: .ref (h 3) :: rest)) := by
  subst hv
  have hc : (nI j).toNatClampNeg = j := nI_clamp (by omega)
  refine va_iald (n := 64) (f := g 2) F.1.1 F.1.2.1 F.2.2.2.1 I.1 3 0 rfl rfl (vp_in_nI hj (by decide)) hd ?_
  rw [hc]
  exact kk
theorem bs_set2 {j : Nat} {v : Int32} : (BW h dI dZ g).set 3 (h 3, .inl (dI, 64, .inl (upd (g 2) j v))) = BW h dI dZ (bz_st g 2 j v) := by
  simp [BW, bz_st]
theorem bs_st2 (F : bx_F p m c cc nL s args RX1 meth ret D (bz_T dI dZ) A) (I : bx_I D A (BW h dI dZ g) s H locs) {j : Nat} {v : Int32} (hj : j < 64) (hd : decode cc pc = .ok (.iastore, 1)) (kk : ∀ (H : Heap) (locs : List Loc) (u : bz_S), u = bz_st g 2 j v → bx_I D A (BW h dI dZ u) s H locs → W p l e R s m args below meth c H locs cells slots Q (F0 m (pc + 1) ls rest)) : W p l e R s m args below meth c H locs cells slots Q (F0 m pc ls (.int v :: .int (nI j) :: .ref (h 3) :: rest)) := by
  have hc : (nI j).toNatClampNeg = j := nI_clamp (by omega)
  refine va_iast (n := 64) (f := g 2) F.1.1 F.1.2.1 F.2.2.2.1 I.1 I.2.1 I.2.2 3 0 rfl rfl (vp_in_nI hj (by decide)) hd (fun H1 locs1 h1 h2 h3 => ?_)
  rw [hc, bs_set2] at h1 h2
  exact kk H1 locs1 _ rfl ⟨h1, h2, h3⟩
theorem bs_ld3 (F : bx_F p m c cc nL s args RX1 meth ret D (bz_T dI dZ) A) (I : bx_I D A (BW h dI dZ g) s H locs) {j : Nat} {v : Int32} (hj : j < 16) (hv : g 3 j = v) (hd : decode cc pc = .ok (.iaload, 1)) (kk : W p l e R s m args below meth c H locs cells slots Q (F0 m (pc + 1) ls (.int v :: rest))) : W p l e R s m args below meth c H locs cells slots Q (F0 m pc ls (.int (nI j) :: .ref (h 4) :: rest)) := by
  subst hv
  have hc : (nI j).toNatClampNeg = j := nI_clamp (by omega)
  refine va_iald (n := 16) (f := g 3) F.1.1 F.1.2.1 F.2.2.2.1 I.1 4 0 rfl rfl (vp_in_nI hj (by decide)) hd ?_
  rw [hc]
  exact kk
theorem bs_set3 {j : Nat} {v : Int32} : (BW h dI dZ g).set 4 (h 4, .inl (dI, 16, .inl (upd (g 3) j v))) = BW h dI dZ (bz_st g 3 j v) := by
  simp [BW, bz_st]
theorem bs_st3 (F : bx_F p m c cc nL s args RX1 meth ret D (bz_T dI dZ) A) (I : bx_I D A (BW h dI dZ g) s H locs) {j : Nat} {v : Int32} (hj : j < 16) (hd : decode cc pc = .ok (.iastore, 1)) (kk : ∀ (H : Heap) (locs : List Loc) (u : bz_S), u = bz_st g 3 j v → bx_I D A (BW h dI dZ u) s H locs → W p l e R s m args below meth c H locs cells slots Q (F0 m (pc + 1) ls rest)) : W p l e R s m args below meth c H locs cells slots Q (F0 m pc ls (.int v :: .int (nI j) :: .ref (h 4) :: rest)) := by
  have hc : (nI j).toNatClampNeg = j := nI_clamp (by omega)
  refine va_iast (n := 16) (f := g 3) F.1.1 F.1.2.1 F.2.2.2.1 I.1 I.2.1 I.2.2 4 0 rfl rfl (vp_in_nI hj (by decide)) hd (fun H1 locs1 h1 h2 h3 => ?_)
  rw [hc, bs_set3] at h1 h2
  exact kk H1 locs1 _ rfl ⟨h1, h2, h3⟩
theorem bs_ld4 (F : bx_F p m c cc nL s args RX1 meth ret D (bz_T dI dZ) A) (I : bx_I D A (BW h dI dZ g) s H locs) {j : Nat} {v : Int32} (hj : j < 16) (hv : g 4 j = v) (hd : decode cc pc = .ok (.baload, 1)) (kk : W p l e R s m args below meth c H locs cells slots Q (F0 m (pc + 1) ls (.int v :: rest))) : W p l e R s m args below meth c H locs cells slots Q (F0 m pc ls (.int (nI j) :: .ref (h 5) :: rest)) := by
  subst hv
  have hc : (nI j).toNatClampNeg = j := nI_clamp (by omega)
  refine va_zald (n := 16) (f := g 4) F.1.1 F.1.2.1 F.2.2.2.1 I.1 5 1 rfl rfl (vp_in_nI hj (by decide)) hd ?_
  rw [hc]
  exact kk
theorem bs_set4 {j : Nat} {v : Int32} : (BW h dI dZ g).set 5 (h 5, .inl (dZ, 16, .inl (upd (g 4) j v))) = BW h dI dZ (bz_st g 4 j v) := by
  simp [BW, bz_st]
theorem bs_st4 (F : bx_F p m c cc nL s args RX1 meth ret D (bz_T dI dZ) A) (I : bx_I D A (BW h dI dZ g) s H locs) {j : Nat} {v : Int32} (hj : j < 16) (hnr : vp_nar .boolean v = v) (hd : decode cc pc = .ok (.bastore, 1)) (kk : ∀ (H : Heap) (locs : List Loc) (u : bz_S), u = bz_st g 4 j v → bx_I D A (BW h dI dZ u) s H locs → W p l e R s m args below meth c H locs cells slots Q (F0 m (pc + 1) ls rest)) : W p l e R s m args below meth c H locs cells slots Q (F0 m pc ls (.int v :: .int (nI j) :: .ref (h 5) :: rest)) := by
  have hc : (nI j).toNatClampNeg = j := nI_clamp (by omega)
  refine va_zast (n := 16) (f := g 4) F.1.1 F.1.2.1 F.2.2.2.1 I.1 I.2.1 I.2.2 5 1 rfl rfl (vp_in_nI hj (by decide)) hd (fun H1 locs1 h1 h2 h3 => ?_)
  rw [hc, hnr, bs_set4] at h1 h2
  exact kk H1 locs1 _ rfl ⟨h1, h2, h3⟩
theorem bs_ld5 (F : bx_F p m c cc nL s args RX1 meth ret D (bz_T dI dZ) A) (I : bx_I D A (BW h dI dZ g) s H locs) {j : Nat} {v : Int32} (hj : j < 96) (hv : g 5 j = v) (hd : decode cc pc = .ok (.iaload, 1)) (kk : W p l e R s m args below meth c H locs cells slots Q (F0 m (pc + 1) ls (.int v :: rest))) : W p l e R s m args below meth c H locs cells slots Q (F0 m pc ls (.int (nI j) :: .ref (h 6) :: rest)) := by
  subst hv
  have hc : (nI j).toNatClampNeg = j := nI_clamp (by omega)
  refine va_iald (n := 96) (f := g 5) F.1.1 F.1.2.1 F.2.2.2.1 I.1 6 0 rfl rfl (vp_in_nI hj (by decide)) hd ?_
  rw [hc]
  exact kk
theorem bs_set5 {j : Nat} {v : Int32} : (BW h dI dZ g).set 6 (h 6, .inl (dI, 96, .inl (upd (g 5) j v))) = BW h dI dZ (bz_st g 5 j v) := by
  simp [BW, bz_st]
theorem bs_st5 (F : bx_F p m c cc nL s args RX1 meth ret D (bz_T dI dZ) A) (I : bx_I D A (BW h dI dZ g) s H locs) {j : Nat} {v : Int32} (hj : j < 96) (hd : decode cc pc = .ok (.iastore, 1)) (kk : ∀ (H : Heap) (locs : List Loc) (u : bz_S), u = bz_st g 5 j v → bx_I D A (BW h dI dZ u) s H locs → W p l e R s m args below meth c H locs cells slots Q (F0 m (pc + 1) ls rest)) : W p l e R s m args below meth c H locs cells slots Q (F0 m pc ls (.int v :: .int (nI j) :: .ref (h 6) :: rest)) := by
  have hc : (nI j).toNatClampNeg = j := nI_clamp (by omega)
  refine va_iast (n := 96) (f := g 5) F.1.1 F.1.2.1 F.2.2.2.1 I.1 I.2.1 I.2.2 6 0 rfl rfl (vp_in_nI hj (by decide)) hd (fun H1 locs1 h1 h2 h3 => ?_)
  rw [hc, bs_set5] at h1 h2
  exact kk H1 locs1 _ rfl ⟨h1, h2, h3⟩
theorem bs_ld6 (F : bx_F p m c cc nL s args RX1 meth ret D (bz_T dI dZ) A) (I : bx_I D A (BW h dI dZ g) s H locs) {j : Nat} {v : Int32} (hj : j < 24) (hv : g 6 j = v) (hd : decode cc pc = .ok (.iaload, 1)) (kk : W p l e R s m args below meth c H locs cells slots Q (F0 m (pc + 1) ls (.int v :: rest))) : W p l e R s m args below meth c H locs cells slots Q (F0 m pc ls (.int (nI j) :: .ref (h 7) :: rest)) := by
  subst hv
  have hc : (nI j).toNatClampNeg = j := nI_clamp (by omega)
  refine va_iald (n := 24) (f := g 6) F.1.1 F.1.2.1 F.2.2.2.1 I.1 7 0 rfl rfl (vp_in_nI hj (by decide)) hd ?_
  rw [hc]
  exact kk
theorem bs_set6 {j : Nat} {v : Int32} : (BW h dI dZ g).set 7 (h 7, .inl (dI, 24, .inl (upd (g 6) j v))) = BW h dI dZ (bz_st g 6 j v) := by
  simp [BW, bz_st]
theorem bs_st6 (F : bx_F p m c cc nL s args RX1 meth ret D (bz_T dI dZ) A) (I : bx_I D A (BW h dI dZ g) s H locs) {j : Nat} {v : Int32} (hj : j < 24) (hd : decode cc pc = .ok (.iastore, 1)) (kk : ∀ (H : Heap) (locs : List Loc) (u : bz_S), u = bz_st g 6 j v → bx_I D A (BW h dI dZ u) s H locs → W p l e R s m args below meth c H locs cells slots Q (F0 m (pc + 1) ls rest)) : W p l e R s m args below meth c H locs cells slots Q (F0 m pc ls (.int v :: .int (nI j) :: .ref (h 7) :: rest)) := by
  have hc : (nI j).toNatClampNeg = j := nI_clamp (by omega)
  refine va_iast (n := 24) (f := g 6) F.1.1 F.1.2.1 F.2.2.2.1 I.1 I.2.1 I.2.2 7 0 rfl rfl (vp_in_nI hj (by decide)) hd (fun H1 locs1 h1 h2 h3 => ?_)
  rw [hc, bs_set6] at h1 h2
  exact kk H1 locs1 _ rfl ⟨h1, h2, h3⟩
theorem bs_ld7 (F : bx_F p m c cc nL s args RX1 meth ret D (bz_T dI dZ) A) (I : bx_I D A (BW h dI dZ g) s H locs) {j : Nat} {v : Int32} (hj : j < 3) (hv : g 7 j = v) (hd : decode cc pc = .ok (.iaload, 1)) (kk : W p l e R s m args below meth c H locs cells slots Q (F0 m (pc + 1) ls (.int v :: rest))) : W p l e R s m args below meth c H locs cells slots Q (F0 m pc ls (.int (nI j) :: .ref (h 8) :: rest)) := by
  subst hv
  have hc : (nI j).toNatClampNeg = j := nI_clamp (by omega)
  refine va_iald (n := 3) (f := g 7) F.1.1 F.1.2.1 F.2.2.2.1 I.1 8 0 rfl rfl (vp_in_nI hj (by decide)) hd ?_
  rw [hc]
  exact kk
theorem bs_set7 {j : Nat} {v : Int32} : (BW h dI dZ g).set 8 (h 8, .inl (dI, 3, .inl (upd (g 7) j v))) = BW h dI dZ (bz_st g 7 j v) := by
  simp [BW, bz_st]
theorem bs_st7 (F : bx_F p m c cc nL s args RX1 meth ret D (bz_T dI dZ) A) (I : bx_I D A (BW h dI dZ g) s H locs) {j : Nat} {v : Int32} (hj : j < 3) (hd : decode cc pc = .ok (.iastore, 1)) (kk : ∀ (H : Heap) (locs : List Loc) (u : bz_S), u = bz_st g 7 j v → bx_I D A (BW h dI dZ u) s H locs → W p l e R s m args below meth c H locs cells slots Q (F0 m (pc + 1) ls rest)) : W p l e R s m args below meth c H locs cells slots Q (F0 m pc ls (.int v :: .int (nI j) :: .ref (h 8) :: rest)) := by
  have hc : (nI j).toNatClampNeg = j := nI_clamp (by omega)
  refine va_iast (n := 3) (f := g 7) F.1.1 F.1.2.1 F.2.2.2.1 I.1 I.2.1 I.2.2 8 0 rfl rfl (vp_in_nI hj (by decide)) hd (fun H1 locs1 h1 h2 h3 => ?_)
  rw [hc, bs_set7] at h1 h2
  exact kk H1 locs1 _ rfl ⟨h1, h2, h3⟩
theorem bs_ld8 (F : bx_F p m c cc nL s args RX1 meth ret D (bz_T dI dZ) A) (I : bx_I D A (BW h dI dZ g) s H locs) {j : Nat} {v : Int32} (hj : j < 3) (hv : g 8 j = v) (hd : decode cc pc = .ok (.iaload, 1)) (kk : W p l e R s m args below meth c H locs cells slots Q (F0 m (pc + 1) ls (.int v :: rest))) : W p l e R s m args below meth c H locs cells slots Q (F0 m pc ls (.int (nI j) :: .ref (h 9) :: rest)) := by
  subst hv
  have hc : (nI j).toNatClampNeg = j := nI_clamp (by omega)
  refine va_iald (n := 3) (f := g 8) F.1.1 F.1.2.1 F.2.2.2.1 I.1 9 0 rfl rfl (vp_in_nI hj (by decide)) hd ?_
  rw [hc]
  exact kk
theorem bs_set8 {j : Nat} {v : Int32} : (BW h dI dZ g).set 9 (h 9, .inl (dI, 3, .inl (upd (g 8) j v))) = BW h dI dZ (bz_st g 8 j v) := by
  simp [BW, bz_st]
theorem bs_st8 (F : bx_F p m c cc nL s args RX1 meth ret D (bz_T dI dZ) A) (I : bx_I D A (BW h dI dZ g) s H locs) {j : Nat} {v : Int32} (hj : j < 3) (hd : decode cc pc = .ok (.iastore, 1)) (kk : ∀ (H : Heap) (locs : List Loc) (u : bz_S), u = bz_st g 8 j v → bx_I D A (BW h dI dZ u) s H locs → W p l e R s m args below meth c H locs cells slots Q (F0 m (pc + 1) ls rest)) : W p l e R s m args below meth c H locs cells slots Q (F0 m pc ls (.int v :: .int (nI j) :: .ref (h 9) :: rest)) := by
  have hc : (nI j).toNatClampNeg = j := nI_clamp (by omega)
  refine va_iast (n := 3) (f := g 8) F.1.1 F.1.2.1 F.2.2.2.1 I.1 I.2.1 I.2.2 9 0 rfl rfl (vp_in_nI hj (by decide)) hd (fun H1 locs1 h1 h2 h3 => ?_)
  rw [hc, bs_set8] at h1 h2
  exact kk H1 locs1 _ rfl ⟨h1, h2, h3⟩
theorem bs_ld9 (F : bx_F p m c cc nL s args RX1 meth ret D (bz_T dI dZ) A) (I : bx_I D A (BW h dI dZ g) s H locs) {j : Nat} {v : Int32} (hj : j < 3) (hv : g 9 j = v) (hd : decode cc pc = .ok (.iaload, 1)) (kk : W p l e R s m args below meth c H locs cells slots Q (F0 m (pc + 1) ls (.int v :: rest))) : W p l e R s m args below meth c H locs cells slots Q (F0 m pc ls (.int (nI j) :: .ref (h 10) :: rest)) := by
  subst hv
  have hc : (nI j).toNatClampNeg = j := nI_clamp (by omega)
  refine va_iald (n := 3) (f := g 9) F.1.1 F.1.2.1 F.2.2.2.1 I.1 10 0 rfl rfl (vp_in_nI hj (by decide)) hd ?_
  rw [hc]
  exact kk
theorem bs_set9 {j : Nat} {v : Int32} : (BW h dI dZ g).set 10 (h 10, .inl (dI, 3, .inl (upd (g 9) j v))) = BW h dI dZ (bz_st g 9 j v) := by
  simp [BW, bz_st]
theorem bs_st9 (F : bx_F p m c cc nL s args RX1 meth ret D (bz_T dI dZ) A) (I : bx_I D A (BW h dI dZ g) s H locs) {j : Nat} {v : Int32} (hj : j < 3) (hd : decode cc pc = .ok (.iastore, 1)) (kk : ∀ (H : Heap) (locs : List Loc) (u : bz_S), u = bz_st g 9 j v → bx_I D A (BW h dI dZ u) s H locs → W p l e R s m args below meth c H locs cells slots Q (F0 m (pc + 1) ls rest)) : W p l e R s m args below meth c H locs cells slots Q (F0 m pc ls (.int v :: .int (nI j) :: .ref (h 10) :: rest)) := by
  have hc : (nI j).toNatClampNeg = j := nI_clamp (by omega)
  refine va_iast (n := 3) (f := g 9) F.1.1 F.1.2.1 F.2.2.2.1 I.1 I.2.1 I.2.2 10 0 rfl rfl (vp_in_nI hj (by decide)) hd (fun H1 locs1 h1 h2 h3 => ?_)
  rw [hc, bs_set9] at h1 h2
  exact kk H1 locs1 _ rfl ⟨h1, h2, h3⟩
theorem bm_words (F : bx_F p m c cc nL s args RX2 meth ret D (bz_T dI dZ) A) (I : bx_I D A (MW h dI dZ g) s H locs) (hd : decode cc pc = .ok (.getfield 7, 3)) (kk : W p l e R s m args below meth c H locs cells slots Q (F0 m (pc + 3) ls (.ref (h 1) :: rest))) : W p l e R s m args below meth c H locs cells slots Q (F0 m pc ls (.ref (h 0) :: rest)) :=
  va_get (D := D) (ci := 1) (v := .ref (h 1)) (C := RX2) (T := TX2) (N := 2) F.1.1 F.1.2.1 F.1.2.2.2.2 in_X2 F.1.2.2.2.1 F.2.2.2.1 I.1 0 rfl rfl 0 (by decide) (F.1.2.2.2.2 _ q186) (fun _ h9 => h9) rfl hd kk
theorem bm_shares (F : bx_F p m c cc nL s args RX2 meth ret D (bz_T dI dZ) A) (I : bx_I D A (MW h dI dZ g) s H locs) (hd : decode cc pc = .ok (.getfield 13, 3)) (kk : W p l e R s m args below meth c H locs cells slots Q (F0 m (pc + 3) ls (.ref (h 2) :: rest))) : W p l e R s m args below meth c H locs cells slots Q (F0 m pc ls (.ref (h 0) :: rest)) :=
  va_get (D := D) (ci := 1) (v := .ref (h 2)) (C := RX2) (T := TX2) (N := 2) F.1.1 F.1.2.1 F.1.2.2.2.2 in_X2 F.1.2.2.2.1 F.2.2.2.1 I.1 0 rfl rfl 1 (by decide) (F.1.2.2.2.2 _ q187) (fun _ h9 => h9) rfl hd kk
theorem bm_ld0 (F : bx_F p m c cc nL s args RX2 meth ret D (bz_T dI dZ) A) (I : bx_I D A (MW h dI dZ g) s H locs) {j : Nat} {v : Int32} (hj : j < 96) (hv : g 0 j = v) (hd : decode cc pc = .ok (.iaload, 1)) (kk : W p l e R s m args below meth c H locs cells slots Q (F0 m (pc + 1) ls (.int v :: rest))) : W p l e R s m args below meth c H locs cells slots Q (F0 m pc ls (.int (nI j) :: .ref (h 1) :: rest)) := by
  subst hv
  have hc : (nI j).toNatClampNeg = j := nI_clamp (by omega)
  refine va_iald (n := 96) (f := g 0) F.1.1 F.1.2.1 F.2.2.2.1 I.1 1 0 rfl rfl (vp_in_nI hj (by decide)) hd ?_
  rw [hc]
  exact kk
theorem bm_set0 {j : Nat} {v : Int32} : (MW h dI dZ g).set 1 (h 1, .inl (dI, 96, .inl (upd (g 0) j v))) = MW h dI dZ (bz_st g 0 j v) := by
  simp [MW, bz_st]
theorem bm_st0 (F : bx_F p m c cc nL s args RX2 meth ret D (bz_T dI dZ) A) (I : bx_I D A (MW h dI dZ g) s H locs) {j : Nat} {v : Int32} (hj : j < 96) (hd : decode cc pc = .ok (.iastore, 1)) (kk : ∀ (H : Heap) (locs : List Loc) (u : bz_S), u = bz_st g 0 j v → bx_I D A (MW h dI dZ u) s H locs → W p l e R s m args below meth c H locs cells slots Q (F0 m (pc + 1) ls rest)) : W p l e R s m args below meth c H locs cells slots Q (F0 m pc ls (.int v :: .int (nI j) :: .ref (h 1) :: rest)) := by
  have hc : (nI j).toNatClampNeg = j := nI_clamp (by omega)
  refine va_iast (n := 96) (f := g 0) F.1.1 F.1.2.1 F.2.2.2.1 I.1 I.2.1 I.2.2 1 0 rfl rfl (vp_in_nI hj (by decide)) hd (fun H1 locs1 h1 h2 h3 => ?_)
  rw [hc, bm_set0] at h1 h2
  exact kk H1 locs1 _ rfl ⟨h1, h2, h3⟩
theorem bm_ld1 (F : bx_F p m c cc nL s args RX2 meth ret D (bz_T dI dZ) A) (I : bx_I D A (MW h dI dZ g) s H locs) {j : Nat} {v : Int32} (hj : j < 3) (hv : g 1 j = v) (hd : decode cc pc = .ok (.iaload, 1)) (kk : W p l e R s m args below meth c H locs cells slots Q (F0 m (pc + 1) ls (.int v :: rest))) : W p l e R s m args below meth c H locs cells slots Q (F0 m pc ls (.int (nI j) :: .ref (h 2) :: rest)) := by
  subst hv
  have hc : (nI j).toNatClampNeg = j := nI_clamp (by omega)
  refine va_iald (n := 3) (f := g 1) F.1.1 F.1.2.1 F.2.2.2.1 I.1 2 0 rfl rfl (vp_in_nI hj (by decide)) hd ?_
  rw [hc]
  exact kk
theorem bm_set1 {j : Nat} {v : Int32} : (MW h dI dZ g).set 2 (h 2, .inl (dI, 3, .inl (upd (g 1) j v))) = MW h dI dZ (bz_st g 1 j v) := by
  simp [MW, bz_st]
theorem bm_st1 (F : bx_F p m c cc nL s args RX2 meth ret D (bz_T dI dZ) A) (I : bx_I D A (MW h dI dZ g) s H locs) {j : Nat} {v : Int32} (hj : j < 3) (hd : decode cc pc = .ok (.iastore, 1)) (kk : ∀ (H : Heap) (locs : List Loc) (u : bz_S), u = bz_st g 1 j v → bx_I D A (MW h dI dZ u) s H locs → W p l e R s m args below meth c H locs cells slots Q (F0 m (pc + 1) ls rest)) : W p l e R s m args below meth c H locs cells slots Q (F0 m pc ls (.int v :: .int (nI j) :: .ref (h 2) :: rest)) := by
  have hc : (nI j).toNatClampNeg = j := nI_clamp (by omega)
  refine va_iast (n := 3) (f := g 1) F.1.1 F.1.2.1 F.2.2.2.1 I.1 I.2.1 I.2.2 2 0 rfl rfl (vp_in_nI hj (by decide)) hd (fun H1 locs1 h1 h2 h3 => ?_)
  rw [hc, bm_set1] at h1 h2
  exact kk H1 locs1 _ rfl ⟨h1, h2, h3⟩
end BX
end
section
set_option maxRecDepth 100000
abbrev rmX0_cell : Room := { frames := 0, cells := 0, slots := 0, locals := 0 }
abbrev rmX1_init : Room := { frames := 1, cells := 10, slots := 273, locals := 20 }
abbrev rmX1_write : Room := { frames := 4, cells := 0, slots := 0, locals := 95 }
abbrev rmX1_badGuest : Room := { frames := 0, cells := 0, slots := 0, locals := 0 }
abbrev rmX1_ownFrame : Room := { frames := 3, cells := 0, slots := 0, locals := 71 }
abbrev rmX1_freeFrame : Room := { frames := 2, cells := 0, slots := 0, locals := 48 }
abbrev rmX1_charge : Room := { frames := 1, cells := 0, slots := 0, locals := 22 }
abbrev rmX1_payer : Room := { frames := 0, cells := 0, slots := 0, locals := 0 }
abbrev rmX1_poorest : Room := { frames := 1, cells := 0, slots := 0, locals := 22 }
abbrev rmX1_victim : Room := { frames := 1, cells := 0, slots := 0, locals := 22 }
abbrev rmX1_swapOut : Room := { frames := 1, cells := 0, slots := 0, locals := 21 }
abbrev rmX1_detach : Room := { frames := 0, cells := 0, slots := 0, locals := 0 }
abbrev rmX1_wordOf : Room := { frames := 0, cells := 0, slots := 0, locals := 0 }
abbrev rmX1_fill : Room := { frames := 4, cells := 0, slots := 0, locals := 95 }
abbrev rmX1_badPage : Room := { frames := 0, cells := 0, slots := 0, locals := 0 }
abbrev rmX1_copy : Room := { frames := 2, cells := 0, slots := 0, locals := 43 }
abbrev rmX1_attachLike : Room := { frames := 1, cells := 0, slots := 0, locals := 21 }
abbrev rmX1_release : Room := { frames := 1, cells := 0, slots := 0, locals := 21 }
abbrev rmX1_cloneGuest : Room := { frames := 2, cells := 0, slots := 0, locals := 43 }
abbrev rmX1_shares : Room := { frames := 1, cells := 0, slots := 0, locals := 20 }
abbrev rmX1_tidy : Room := { frames := 3, cells := 0, slots := 0, locals := 75 }
abbrev rmX1_twinBefore : Room := { frames := 2, cells := 0, slots := 0, locals := 47 }
abbrev rmX1_hashOf : Room := { frames := 1, cells := 0, slots := 0, locals := 22 }
abbrev rmX1_alike : Room := { frames := 1, cells := 0, slots := 0, locals := 22 }
abbrev rmX1_isZero : Room := { frames := 1, cells := 0, slots := 0, locals := 22 }
abbrev rmX1_read : Room := { frames := 1, cells := 0, slots := 0, locals := 22 }
abbrev rmX1_sum : Room := { frames := 1, cells := 0, slots := 0, locals := 22 }
abbrev rmX1_same : Room := { frames := 2, cells := 0, slots := 0, locals := 47 }
abbrev rmX1_contents : Room := { frames := 2, cells := 0, slots := 0, locals := 47 }
abbrev rmX1_twins : Room := { frames := 2, cells := 0, slots := 0, locals := 47 }
abbrev rmX2_init : Room := { frames := 1, cells := 2, slots := 99, locals := 20 }
abbrev rmX2_write : Room := { frames := 1, cells := 0, slots := 0, locals := 21 }
abbrev rmX2_badGuest : Room := { frames := 0, cells := 0, slots := 0, locals := 0 }
abbrev rmX2_fill : Room := { frames := 1, cells := 0, slots := 0, locals := 21 }
abbrev rmX2_badPage : Room := { frames := 0, cells := 0, slots := 0, locals := 0 }
abbrev rmX2_copy : Room := { frames := 1, cells := 0, slots := 0, locals := 21 }
abbrev rmX2_release : Room := { frames := 2, cells := 0, slots := 0, locals := 46 }
abbrev rmX2_cloneGuest : Room := { frames := 1, cells := 0, slots := 0, locals := 21 }
abbrev rmX2_shares : Room := { frames := 1, cells := 0, slots := 0, locals := 21 }
abbrev rmX2_tidy : Room := { frames := 0, cells := 0, slots := 0, locals := 0 }
abbrev rmX2_read : Room := { frames := 1, cells := 0, slots := 0, locals := 21 }
abbrev rmX2_sum : Room := { frames := 1, cells := 0, slots := 0, locals := 21 }
abbrev rmX2_same : Room := { frames := 1, cells := 0, slots := 0, locals := 23 }
abbrev rmX2_alike : Room := { frames := 0, cells := 0, slots := 0, locals := 0 }
abbrev rmX2_contents : Room := { frames := 1, cells := 0, slots := 0, locals := 23 }
abbrev rmX2_twins : Room := { frames := 1, cells := 0, slots := 0, locals := 23 }
theorem cwX1_badGuest {R : Room} {s : State} {args : Array Value} (hts : ∀ w ∈ lw_all, w.before args s = true) (hR : rmX1_badGuest.frames + 1 ≤ R.frames ∧ 8 + (1 + 11) + rmX1_badGuest.locals ≤ R.locals) : CallB R s args RX1 75 yX1_badGuest cX1_badGuest 1 (some .boolean) (ws_ yX1_badGuest cX1_badGuest 1 (some .boolean)) rmX1_badGuest 0 0 1 ∧ (Cond.static yX1_badGuest).before args s = true := va_cwS 1 hts (lw_S q71 q72 q18 q73) rfl rfl rfl (by decide +kernel) hR
theorem cwX1_ownFrame {R : Room} {s : State} {args : Array Value} (hts : ∀ w ∈ lw_all, w.before args s = true) (hR : rmX1_ownFrame.frames + 1 ≤ R.frames ∧ 8 + (5 + 11) + rmX1_ownFrame.locals ≤ R.locals) : CallW R s args RX1 RX1 79 yX1_ownFrame cX1_ownFrame 5 (some .int) (ws_ yX1_ownFrame cX1_ownFrame 5 (some .int)) rmX1_ownFrame 0 0 1 := cwV 1 hts (lw_V q74 q76 qs0 q18 q77) rfl rfl rfl (by decide +kernel) hR
theorem cwX1_detach {R : Room} {s : State} {args : Array Value} (hts : ∀ w ∈ lw_all, w.before args s = true) (hR : rmX1_detach.frames + 1 ≤ R.frames ∧ 8 + (2 + 11) + rmX1_detach.locals ≤ R.locals) : CallW R s args RX1 RX1 45 yX1_detach cX1_detach 2 none (ws_ yX1_detach cX1_detach 2 none) rmX1_detach 0 0 1 := cwV 1 hts (lw_V q102 q104 qs7 q18 q105) rfl rfl rfl (by decide +kernel) hR
theorem cwX1_freeFrame {R : Room} {s : State} {args : Array Value} (hts : ∀ w ∈ lw_all, w.before args s = true) (hR : rmX1_freeFrame.frames + 1 ≤ R.frames ∧ 8 + (4 + 11) + rmX1_freeFrame.locals ≤ R.locals) : CallW R s args RX1 RX1 49 yX1_freeFrame cX1_freeFrame 4 (some .int) (ws_ yX1_freeFrame cX1_freeFrame 4 (some .int)) rmX1_freeFrame 0 0 1 := cwV 1 hts (lw_V q78 q80 qs1 q18 q81) rfl rfl rfl (by decide +kernel) hR
theorem cwX1_wordOf {R : Room} {s : State} {args : Array Value} (hts : ∀ w ∈ lw_all, w.before args s = true) (hR : rmX1_wordOf.frames + 1 ≤ R.frames ∧ 8 + (3 + 11) + rmX1_wordOf.locals ≤ R.locals) : CallW R s args RX1 RX1 53 yX1_wordOf cX1_wordOf 3 (some .int) (ws_ yX1_wordOf cX1_wordOf 3 (some .int)) rmX1_wordOf 0 0 2 := cwV 2 hts (lw_V q106 q108 qs8 q18 q109) rfl rfl rfl (by decide +kernel) hR
theorem cwX1_charge {R : Room} {s : State} {args : Array Value} (hts : ∀ w ∈ lw_all, w.before args s = true) (hR : rmX1_charge.frames + 1 ≤ R.frames ∧ 8 + (3 + 11) + rmX1_charge.locals ≤ R.locals) : CallW R s args RX1 RX1 57 yX1_charge cX1_charge 3 none (ws_ yX1_charge cX1_charge 3 none) rmX1_charge 0 0 0 := cwV 0 hts (lw_V q82 q84 qs2 q18 q85) rfl rfl rfl (by decide +kernel) hR
theorem cwX1_poorest {R : Room} {s : State} {args : Array Value} (hts : ∀ w ∈ lw_all, w.before args s = true) (hR : rmX1_poorest.frames + 1 ≤ R.frames ∧ 8 + (7 + 11) + rmX1_poorest.locals ≤ R.locals) : CallW R s args RX1 RX1 60 yX1_poorest cX1_poorest 7 (some .int) (ws_ yX1_poorest cX1_poorest 7 (some .int)) rmX1_poorest 0 0 1 := cwV 1 hts (lw_V q90 q92 qs4 q18 q93) rfl rfl rfl (by decide +kernel) hR
theorem cwX1_victim {R : Room} {s : State} {args : Array Value} (hts : ∀ w ∈ lw_all, w.before args s = true) (hR : rmX1_victim.frames + 1 ≤ R.frames ∧ 8 + (6 + 11) + rmX1_victim.locals ≤ R.locals) : CallW R s args RX1 RX1 63 yX1_victim cX1_victim 6 (some .int) (ws_ yX1_victim cX1_victim 6 (some .int)) rmX1_victim 0 0 2 := cwV 2 hts (lw_V q94 q96 qs5 q18 q97) rfl rfl rfl (by decide +kernel) hR
theorem cwX1_swapOut {R : Room} {s : State} {args : Array Value} (hts : ∀ w ∈ lw_all, w.before args s = true) (hR : rmX1_swapOut.frames + 1 ≤ R.frames ∧ 8 + (5 + 11) + rmX1_swapOut.locals ≤ R.locals) : CallW R s args RX1 RX1 66 yX1_swapOut cX1_swapOut 5 none (ws_ yX1_swapOut cX1_swapOut 5 none) rmX1_swapOut 0 0 1 := cwV 1 hts (lw_V q98 q100 qs6 q18 q101) rfl rfl rfl (by decide +kernel) hR
theorem cwX1_payer {R : Room} {s : State} {args : Array Value} (hts : ∀ w ∈ lw_all, w.before args s = true) (hR : rmX1_payer.frames + 1 ≤ R.frames ∧ 8 + (3 + 11) + rmX1_payer.locals ≤ R.locals) : CallW R s args RX1 RX1 69 yX1_payer cX1_payer 3 (some .int) (ws_ yX1_payer cX1_payer 3 (some .int)) rmX1_payer 0 0 1 := cwV 1 hts (lw_V q86 q88 qs3 q18 q89) rfl rfl rfl (by decide +kernel) hR
theorem cwX1_badPage {R : Room} {s : State} {args : Array Value} (hts : ∀ w ∈ lw_all, w.before args s = true) (hR : rmX1_badPage.frames + 1 ≤ R.frames ∧ 8 + (1 + 11) + rmX1_badPage.locals ≤ R.locals) : CallB R s args RX1 82 yX1_badPage cX1_badPage 1 (some .boolean) (ws_ yX1_badPage cX1_badPage 1 (some .boolean)) rmX1_badPage 0 0 1 ∧ (Cond.static yX1_badPage).before args s = true := va_cwS 1 hts (lw_S q114 q115 q18 q116) rfl rfl rfl (by decide +kernel) hR
theorem cwX1_attachLike {R : Room} {s : State} {args : Array Value} (hts : ∀ w ∈ lw_all, w.before args s = true) (hR : rmX1_attachLike.frames + 1 ≤ R.frames ∧ 8 + (3 + 11) + rmX1_attachLike.locals ≤ R.locals) : CallW R s args RX1 RX1 85 yX1_attachLike cX1_attachLike 3 none (ws_ yX1_attachLike cX1_attachLike 3 none) rmX1_attachLike 0 0 2 := cwV 2 hts (lw_V q121 q123 qs9 q18 q124) rfl rfl rfl (by decide +kernel) hR
theorem cwX1_twinBefore {R : Room} {s : State} {args : Array Value} (hts : ∀ w ∈ lw_all, w.before args s = true) (hR : rmX1_twinBefore.frames + 1 ≤ R.frames ∧ 8 + (9 + 11) + rmX1_twinBefore.locals ≤ R.locals) : CallW R s args RX1 RX1 89 yX1_twinBefore cX1_twinBefore 9 (some .int) (ws_ yX1_twinBefore cX1_twinBefore 9 (some .int)) rmX1_twinBefore 0 0 2 := cwV 2 hts (lw_V q141 q143 qs10 q18 q144) rfl rfl rfl (by decide +kernel) hR
theorem cwX1_isZero {R : Room} {s : State} {args : Array Value} (hts : ∀ w ∈ lw_all, w.before args s = true) (hR : rmX1_isZero.frames + 1 ≤ R.frames ∧ 8 + (4 + 11) + rmX1_isZero.locals ≤ R.locals) : CallW R s args RX1 RX1 92 yX1_isZero cX1_isZero 4 (some .boolean) (ws_ yX1_isZero cX1_isZero 4 (some .boolean)) rmX1_isZero 0 0 1 := cwV 1 hts (lw_V q153 q155 qs13 q18 q156) rfl rfl rfl (by decide +kernel) hR
theorem cwX1_hashOf {R : Room} {s : State} {args : Array Value} (hts : ∀ w ∈ lw_all, w.before args s = true) (hR : rmX1_hashOf.frames + 1 ≤ R.frames ∧ 8 + (5 + 11) + rmX1_hashOf.locals ≤ R.locals) : CallW R s args RX1 RX1 95 yX1_hashOf cX1_hashOf 5 (some .int) (ws_ yX1_hashOf cX1_hashOf 5 (some .int)) rmX1_hashOf 0 0 1 := cwV 1 hts (lw_V q145 q147 qs11 q18 q148) rfl rfl rfl (by decide +kernel) hR
theorem cwX1_alike {R : Room} {s : State} {args : Array Value} (hts : ∀ w ∈ lw_all, w.before args s = true) (hR : rmX1_alike.frames + 1 ≤ R.frames ∧ 8 + (6 + 11) + rmX1_alike.locals ≤ R.locals) : CallW R s args RX1 RX1 98 yX1_alike cX1_alike 6 (some .boolean) (ws_ yX1_alike cX1_alike 6 (some .boolean)) rmX1_alike 0 0 2 := cwV 2 hts (lw_V q149 q151 qs12 q18 q152) rfl rfl rfl (by decide +kernel) hR
theorem cwX2_badGuest {R : Room} {s : State} {args : Array Value} (hts : ∀ w ∈ lw_all, w.before args s = true) (hR : rmX2_badGuest.frames + 1 ≤ R.frames ∧ 8 + (2 + 11) + rmX2_badGuest.locals ≤ R.locals) : CallW R s args RX2 RX2 16 yX2_badGuest cX2_badGuest 2 (some .boolean) (ws_ yX2_badGuest cX2_badGuest 2 (some .boolean)) rmX2_badGuest 0 0 1 := cwV 1 hts (lw_V q197 q199 qs14 q19 q200) rfl rfl rfl (by decide +kernel) hR
theorem cwX2_badPage {R : Room} {s : State} {args : Array Value} (hts : ∀ w ∈ lw_all, w.before args s = true) (hR : rmX2_badPage.frames + 1 ≤ R.frames ∧ 8 + (2 + 11) + rmX2_badPage.locals ≤ R.locals) : CallW R s args RX2 RX2 20 yX2_badPage cX2_badPage 2 (some .boolean) (ws_ yX2_badPage cX2_badPage 2 (some .boolean)) rmX2_badPage 0 0 1 := cwV 1 hts (lw_V q205 q207 qs15 q19 q208) rfl rfl rfl (by decide +kernel) hR
theorem cwX2_fill {R : Room} {s : State} {args : Array Value} (hts : ∀ w ∈ lw_all, w.before args s = true) (hR : rmX2_fill.frames + 1 ≤ R.frames ∧ 8 + (6 + 11) + rmX2_fill.locals ≤ R.locals) : CallW R s args RX2 RX2 23 yX2_fill cX2_fill 6 (some .int) (ws_ yX2_fill cX2_fill 6 (some .int)) rmX2_fill 0 0 4 := cwV 4 hts (lw_V q217 q202 q203 q19 q204) rfl rfl rfl (by decide +kernel) hR
theorem cwX2_alike {R : Room} {s : State} {args : Array Value} (hts : ∀ w ∈ lw_all, w.before args s = true) (hR : rmX2_alike.frames + 1 ≤ R.frames ∧ 8 + (4 + 11) + rmX2_alike.locals ≤ R.locals) : CallW R s args RX2 RX2 27 yX2_alike cX2_alike 4 (some .boolean) (ws_ yX2_alike cX2_alike 4 (some .boolean)) rmX2_alike 0 0 2 := cwV 2 hts (lw_V q242 q244 qs16 q19 q245) rfl rfl rfl (by decide +kernel) hR
theorem cwLX0_cell {R : Room} {s : State} {args : Array Value} (hts : ∀ w ∈ lw_all, w.before args s = true) (hR : rmX0_cell.frames + 1 ≤ R.frames ∧ 8 + (2 + 11) + rmX0_cell.locals ≤ R.locals) : CallB R s args RX0 9 yX0_cell cX0_cell 2 (some .int) (ws_ yX0_cell cX0_cell 2 (some .int)) rmX0_cell 0 0 2 ∧ (Cond.static yX0_cell).before args s = true := va_cwS 2 hts (lw_S q177 q178 q17 q179) rfl rfl rfl (by decide +kernel) hR
theorem cwLX1_write {R : Room} {s : State} {args : Array Value} (hts : ∀ w ∈ lw_all, w.before args s = true) (hR : rmX1_write.frames + 1 ≤ R.frames ∧ 8 + (6 + 11) + rmX1_write.locals ≤ R.locals) : CallW R s args RX0 RX1 21 yX1_write cX1_write 6 (some .int) (ws_ yX1_write cX1_write 6 (some .int)) rmX1_write 0 0 3 := cwV 3 hts (lw_V q67 q68 q69 q18 q70) rfl rfl rfl (by decide +kernel) hR
theorem cwLX2_write {R : Room} {s : State} {args : Array Value} (hts : ∀ w ∈ lw_all, w.before args s = true) (hR : rmX2_write.frames + 1 ≤ R.frames ∧ 8 + (4 + 11) + rmX2_write.locals ≤ R.locals) : CallW R s args RX0 RX2 25 yX2_write cX2_write 4 (some .int) (ws_ yX2_write cX2_write 4 (some .int)) rmX2_write 0 0 3 := cwV 3 hts (lw_V q193 q194 q195 q19 q196) rfl rfl rfl (by decide +kernel) hR
theorem cwLX1_fill {R : Room} {s : State} {args : Array Value} (hts : ∀ w ∈ lw_all, w.before args s = true) (hR : rmX1_fill.frames + 1 ≤ R.frames ∧ 8 + (7 + 11) + rmX1_fill.locals ≤ R.locals) : CallW R s args RX0 RX1 26 yX1_fill cX1_fill 7 (some .int) (ws_ yX1_fill cX1_fill 7 (some .int)) rmX1_fill 0 0 4 := cwV 4 hts (lw_V q110 q111 q112 q18 q113) rfl rfl rfl (by decide +kernel) hR
theorem cwLX2_fill {R : Room} {s : State} {args : Array Value} (hts : ∀ w ∈ lw_all, w.before args s = true) (hR : rmX2_fill.frames + 1 ≤ R.frames ∧ 8 + (6 + 11) + rmX2_fill.locals ≤ R.locals) : CallW R s args RX0 RX2 30 yX2_fill cX2_fill 6 (some .int) (ws_ yX2_fill cX2_fill 6 (some .int)) rmX2_fill 0 0 4 := cwV 4 hts (lw_V q201 q202 q203 q19 q204) rfl rfl rfl (by decide +kernel) hR
theorem cwLX1_copy {R : Room} {s : State} {args : Array Value} (hts : ∀ w ∈ lw_all, w.before args s = true) (hR : rmX1_copy.frames + 1 ≤ R.frames ∧ 8 + (5 + 11) + rmX1_copy.locals ≤ R.locals) : CallW R s args RX0 RX1 31 yX1_copy cX1_copy 5 (some .int) (ws_ yX1_copy cX1_copy 5 (some .int)) rmX1_copy 0 0 4 := cwV 4 hts (lw_V q117 q118 q119 q18 q120) rfl rfl rfl (by decide +kernel) hR
theorem cwLX2_copy {R : Room} {s : State} {args : Array Value} (hts : ∀ w ∈ lw_all, w.before args s = true) (hR : rmX2_copy.frames + 1 ≤ R.frames ∧ 8 + (6 + 11) + rmX2_copy.locals ≤ R.locals) : CallW R s args RX0 RX2 34 yX2_copy cX2_copy 6 (some .int) (ws_ yX2_copy cX2_copy 6 (some .int)) rmX2_copy 0 0 4 := cwV 4 hts (lw_V q209 q210 q211 q19 q212) rfl rfl rfl (by decide +kernel) hR
theorem cwLX1_release {R : Room} {s : State} {args : Array Value} (hts : ∀ w ∈ lw_all, w.before args s = true) (hR : rmX1_release.frames + 1 ≤ R.frames ∧ 8 + (3 + 11) + rmX1_release.locals ≤ R.locals) : CallW R s args RX0 RX1 35 yX1_release cX1_release 3 (some .int) (ws_ yX1_release cX1_release 3 (some .int)) rmX1_release 0 0 2 := cwV 2 hts (lw_V q125 q126 q127 q18 q128) rfl rfl rfl (by decide +kernel) hR
theorem cwLX2_release {R : Room} {s : State} {args : Array Value} (hts : ∀ w ∈ lw_all, w.before args s = true) (hR : rmX2_release.frames + 1 ≤ R.frames ∧ 8 + (3 + 11) + rmX2_release.locals ≤ R.locals) : CallW R s args RX0 RX2 39 yX2_release cX2_release 3 (some .int) (ws_ yX2_release cX2_release 3 (some .int)) rmX2_release 0 0 2 := cwV 2 hts (lw_V q213 q214 q215 q19 q216) rfl rfl rfl (by decide +kernel) hR
theorem cwLX1_cloneGuest {R : Room} {s : State} {args : Array Value} (hts : ∀ w ∈ lw_all, w.before args s = true) (hR : rmX1_cloneGuest.frames + 1 ≤ R.frames ∧ 8 + (4 + 11) + rmX1_cloneGuest.locals ≤ R.locals) : CallW R s args RX0 RX1 40 yX1_cloneGuest cX1_cloneGuest 4 (some .int) (ws_ yX1_cloneGuest cX1_cloneGuest 4 (some .int)) rmX1_cloneGuest 0 0 2 := cwV 2 hts (lw_V q129 q130 q131 q18 q132) rfl rfl rfl (by decide +kernel) hR
theorem cwLX2_cloneGuest {R : Room} {s : State} {args : Array Value} (hts : ∀ w ∈ lw_all, w.before args s = true) (hR : rmX2_cloneGuest.frames + 1 ≤ R.frames ∧ 8 + (4 + 11) + rmX2_cloneGuest.locals ≤ R.locals) : CallW R s args RX0 RX2 43 yX2_cloneGuest cX2_cloneGuest 4 (some .int) (ws_ yX2_cloneGuest cX2_cloneGuest 4 (some .int)) rmX2_cloneGuest 0 0 2 := cwV 2 hts (lw_V q218 q219 q220 q19 q221) rfl rfl rfl (by decide +kernel) hR
theorem cwLX1_shares {R : Room} {s : State} {args : Array Value} (hts : ∀ w ∈ lw_all, w.before args s = true) (hR : rmX1_shares.frames + 1 ≤ R.frames ∧ 8 + (4 + 11) + rmX1_shares.locals ≤ R.locals) : CallW R s args RX0 RX1 44 yX1_shares cX1_shares 4 (some .int) (ws_ yX1_shares cX1_shares 4 (some .int)) rmX1_shares 0 0 2 := cwV 2 hts (lw_V q133 q134 q135 q18 q136) rfl rfl rfl (by decide +kernel) hR
theorem cwLX2_shares {R : Room} {s : State} {args : Array Value} (hts : ∀ w ∈ lw_all, w.before args s = true) (hR : rmX2_shares.frames + 1 ≤ R.frames ∧ 8 + (4 + 11) + rmX2_shares.locals ≤ R.locals) : CallW R s args RX0 RX2 47 yX2_shares cX2_shares 4 (some .int) (ws_ yX2_shares cX2_shares 4 (some .int)) rmX2_shares 0 0 2 := cwV 2 hts (lw_V q222 q223 q224 q19 q225) rfl rfl rfl (by decide +kernel) hR
theorem cwLX1_tidy {R : Room} {s : State} {args : Array Value} (hts : ∀ w ∈ lw_all, w.before args s = true) (hR : rmX1_tidy.frames + 1 ≤ R.frames ∧ 8 + (6 + 11) + rmX1_tidy.locals ≤ R.locals) : CallW R s args RX0 RX1 48 yX1_tidy cX1_tidy 6 none (ws_ yX1_tidy cX1_tidy 6 none) rmX1_tidy 0 0 1 := cwV 1 hts (lw_V q137 q138 q139 q18 q140) rfl rfl rfl (by decide +kernel) hR
theorem cwLX2_tidy {R : Room} {s : State} {args : Array Value} (hts : ∀ w ∈ lw_all, w.before args s = true) (hR : rmX2_tidy.frames + 1 ≤ R.frames ∧ 8 + (2 + 11) + rmX2_tidy.locals ≤ R.locals) : CallW R s args RX0 RX2 51 yX2_tidy cX2_tidy 2 none (ws_ yX2_tidy cX2_tidy 2 none) rmX2_tidy 0 0 1 := cwV 1 hts (lw_V q226 q227 q228 q19 q229) rfl rfl rfl (by decide +kernel) hR
theorem cwLX1_read {R : Room} {s : State} {args : Array Value} (hts : ∀ w ∈ lw_all, w.before args s = true) (hR : rmX1_read.frames + 1 ≤ R.frames ∧ 8 + (4 + 11) + rmX1_read.locals ≤ R.locals) : CallW R s args RX0 RX1 52 yX1_read cX1_read 4 (some .int) (ws_ yX1_read cX1_read 4 (some .int)) rmX1_read 0 0 2 := cwV 2 hts (lw_V q157 q158 q159 q18 q160) rfl rfl rfl (by decide +kernel) hR
theorem cwLX2_read {R : Room} {s : State} {args : Array Value} (hts : ∀ w ∈ lw_all, w.before args s = true) (hR : rmX2_read.frames + 1 ≤ R.frames ∧ 8 + (3 + 11) + rmX2_read.locals ≤ R.locals) : CallW R s args RX0 RX2 55 yX2_read cX2_read 3 (some .int) (ws_ yX2_read cX2_read 3 (some .int)) rmX2_read 0 0 2 := cwV 2 hts (lw_V q230 q231 q232 q19 q233) rfl rfl rfl (by decide +kernel) hR
theorem cwLX1_sum {R : Room} {s : State} {args : Array Value} (hts : ∀ w ∈ lw_all, w.before args s = true) (hR : rmX1_sum.frames + 1 ≤ R.frames ∧ 8 + (5 + 11) + rmX1_sum.locals ≤ R.locals) : CallW R s args RX0 RX1 56 yX1_sum cX1_sum 5 (some .int) (ws_ yX1_sum cX1_sum 5 (some .int)) rmX1_sum 0 0 2 := cwV 2 hts (lw_V q161 q162 q163 q18 q164) rfl rfl rfl (by decide +kernel) hR
theorem cwLX2_sum {R : Room} {s : State} {args : Array Value} (hts : ∀ w ∈ lw_all, w.before args s = true) (hR : rmX2_sum.frames + 1 ≤ R.frames ∧ 8 + (5 + 11) + rmX2_sum.locals ≤ R.locals) : CallW R s args RX0 RX2 59 yX2_sum cX2_sum 5 (some .int) (ws_ yX2_sum cX2_sum 5 (some .int)) rmX2_sum 0 0 2 := cwV 2 hts (lw_V q234 q235 q236 q19 q237) rfl rfl rfl (by decide +kernel) hR
theorem cwLX1_same {R : Room} {s : State} {args : Array Value} (hts : ∀ w ∈ lw_all, w.before args s = true) (hR : rmX1_same.frames + 1 ≤ R.frames ∧ 8 + (5 + 11) + rmX1_same.locals ≤ R.locals) : CallW R s args RX0 RX1 60 yX1_same cX1_same 5 (some .boolean) (ws_ yX1_same cX1_same 5 (some .boolean)) rmX1_same 0 0 4 := cwV 4 hts (lw_V q165 q166 q167 q18 q168) rfl rfl rfl (by decide +kernel) hR
theorem cwLX2_same {R : Room} {s : State} {args : Array Value} (hts : ∀ w ∈ lw_all, w.before args s = true) (hR : rmX2_same.frames + 1 ≤ R.frames ∧ 8 + (5 + 11) + rmX2_same.locals ≤ R.locals) : CallW R s args RX0 RX2 64 yX2_same cX2_same 5 (some .boolean) (ws_ yX2_same cX2_same 5 (some .boolean)) rmX2_same 0 0 4 := cwV 4 hts (lw_V q238 q239 q240 q19 q241) rfl rfl rfl (by decide +kernel) hR
theorem cwLX1_contents {R : Room} {s : State} {args : Array Value} (hts : ∀ w ∈ lw_all, w.before args s = true) (hR : rmX1_contents.frames + 1 ≤ R.frames ∧ 8 + (7 + 11) + rmX1_contents.locals ≤ R.locals) : CallW R s args RX0 RX1 65 yX1_contents cX1_contents 7 (some .int) (ws_ yX1_contents cX1_contents 7 (some .int)) rmX1_contents 0 0 1 := cwV 1 hts (lw_V q169 q170 q171 q18 q172) rfl rfl rfl (by decide +kernel) hR
theorem cwLX2_contents {R : Room} {s : State} {args : Array Value} (hts : ∀ w ∈ lw_all, w.before args s = true) (hR : rmX2_contents.frames + 1 ≤ R.frames ∧ 8 + (6 + 11) + rmX2_contents.locals ≤ R.locals) : CallW R s args RX0 RX2 69 yX2_contents cX2_contents 6 (some .int) (ws_ yX2_contents cX2_contents 6 (some .int)) rmX2_contents 0 0 1 := cwV 1 hts (lw_V q246 q247 q248 q19 q249) rfl rfl rfl (by decide +kernel) hR
theorem cwLX1_twins {R : Room} {s : State} {args : Array Value} (hts : ∀ w ∈ lw_all, w.before args s = true) (hR : rmX1_twins.frames + 1 ≤ R.frames ∧ 8 + (6 + 11) + rmX1_twins.locals ≤ R.locals) : CallW R s args RX0 RX1 70 yX1_twins cX1_twins 6 (some .int) (ws_ yX1_twins cX1_twins 6 (some .int)) rmX1_twins 0 0 2 := cwV 2 hts (lw_V q173 q174 q175 q18 q176) rfl rfl rfl (by decide +kernel) hR
theorem cwLX2_twins {R : Room} {s : State} {args : Array Value} (hts : ∀ w ∈ lw_all, w.before args s = true) (hR : rmX2_twins.frames + 1 ≤ R.frames ∧ 8 + (5 + 11) + rmX2_twins.locals ≤ R.locals) : CallW R s args RX0 RX2 73 yX2_twins cX2_twins 5 (some .int) (ws_ yX2_twins cX2_twins 5 (some .int)) rmX2_twins 0 0 2 := cwV 2 hts (lw_V q250 q251 q252 q19 q253) rfl rfl rfl (by decide +kernel) hR
end
section
/-! the pure side: counts, the invariant, what a page holds -/
theorem bz_m1 {v : Nat} (h : v < 2 ^ 31) : ¬ (-1 : Int32) = nI v := fun q => nI_pos h (q ▸ (by decide : (-1 : Int32) < 0))
theorem bz_m1' {v : Nat} (h : v < 2 ^ 31) : ¬ nI v = (-1 : Int32) := fun q => bz_m1 h q.symm
theorem bz_us {f : Nat → Int32} {k : Nat} {x : Int32} : upd f k x k = x := pk_us
theorem bz_un {f : Nat → Int32} {k j : Nat} {x : Int32} (h : j ≠ k) : upd f k x j = f j := pk_un h
theorem bz_ui {f : Nat → Int32} {k j : Nat} {x : Int32} : upd f k x j = if j = k then x else f j := rfl
theorem bz_uu {f : Nat → Int32} {k : Nat} {x y : Int32} : upd (upd f k x) k y = upd f k y := by
  funext j
  by_cases h : j = k
  · subst h; rw [bz_us, bz_us]
  · rw [bz_un h, bz_un h, bz_un h]
theorem bz_uself {f : Nat → Int32} {k : Nat} {x : Int32} (h : f k = x) : upd f k x = f := by
  funext j
  by_cases q : j = k
  · subst q; rw [bz_us, h]
  · rw [bz_un q]
def bz_ct (f : Nat → Int32) (v : Nat) : Nat → Nat
  | 0 => 0
  | n + 1 => bz_ct f v n + (if f n = nI v then 1 else 0)
theorem bz_ct_le (f : Nat → Int32) (v : Nat) : ∀ n, bz_ct f v n ≤ n := by
  intro n
  induction n with
  | zero => exact Nat.le_refl 0
  | succ n ih =>
    show bz_ct f v n + (if f n = nI v then 1 else 0) ≤ n + 1
    split <;> omega
theorem bz_ct_out {f : Nat → Int32} {v p : Nat} {x : Int32} : ∀ n, n ≤ p → bz_ct (upd f p x) v n = bz_ct f v n := by
  intro n
  induction n with
  | zero => intro _; rfl
  | succ n ih =>
    intro h
    show bz_ct (upd f p x) v n + (if upd f p x n = nI v then 1 else 0) = bz_ct f v n + (if f n = nI v then 1 else 0)
    rw [ih (by omega), bz_un (show n ≠ p by omega)]
theorem bz_ct_upd {f : Nat → Int32} {v p : Nat} {x : Int32} : ∀ n, p < n → bz_ct (upd f p x) v n + (if f p = nI v then 1 else 0) = bz_ct f v n + (if x = nI v then 1 else 0) := by
  intro n
  induction n with
  | zero => intro h; omega
  | succ n ih =>
    intro h
    show bz_ct (upd f p x) v n + (if upd f p x n = nI v then 1 else 0) + (if f p = nI v then 1 else 0) = bz_ct f v n + (if f n = nI v then 1 else 0) + (if x = nI v then 1 else 0)
    by_cases q : p = n
    · subst q
      rw [bz_ct_out p (Nat.le_refl p), bz_us]
      omega
    · have := ih (by omega)
      rw [bz_un (show n ≠ p by omega)]
      omega
theorem bz_ct_zero {f : Nat → Int32} {v : Nat} : ∀ n, bz_ct f v n = 0 → ∀ p, p < n → ¬ f p = nI v := by
  intro n
  induction n with
  | zero => intro _ p hp; omega
  | succ n ih =>
    intro h p hp
    have h' : bz_ct f v n + (if f n = nI v then 1 else 0) = 0 := h
    by_cases q : p = n
    · subst q
      intro e
      rw [if_pos e] at h'
      omega
    · exact ih (by omega) p (by omega)
theorem bz_ct_none {f : Nat → Int32} {v : Nat} : ∀ n, (∀ p, p < n → ¬ f p = nI v) → bz_ct f v n = 0 := by
  intro n
  induction n with
  | zero => intro _; rfl
  | succ n ih =>
    intro h
    show bz_ct f v n + (if f n = nI v then 1 else 0) = 0
    rw [if_neg (h n (by omega)), ih (fun p hp => h p (by omega))]
theorem bz_ct_pos {f : Nat → Int32} {v n p : Nat} (hp : p < n) (h : f p = nI v) : 0 < bz_ct f v n := by
  rcases Nat.eq_zero_or_pos (bz_ct f v n) with q | q
  · exact absurd h (bz_ct_zero n q p hp)
  · exact q
theorem bz_ct_one {f : Nat → Int32} {v n p : Nat} (hv : v < 2 ^ 31) (hp : p < n) (h : f p = nI v) (h1 : bz_ct f v n = 1) : ∀ q, q < n → q ≠ p → ¬ f q = nI v := by
  intro q hq hne
  have e := bz_ct_upd (f := f) (v := v) (x := -1) n hp
  rw [if_pos h, if_neg (bz_m1 hv), h1] at e
  have z := bz_ct_zero n (show bz_ct (upd f p (-1)) v n = 0 by omega) q hq
  rw [bz_un hne] at z
  exact z
def bz_on (x : Int32) : Nat → Nat
  | 0 => 0
  | m + 1 => bz_on x m + (if x = nI m then 1 else 0)
theorem bz_on_le (x : Int32) : ∀ m, m ≤ 2 ^ 31 → bz_on x m ≤ 1 ∧ (0 < bz_on x m → ∃ v, v < m ∧ x = nI v) := by
  intro m
  induction m with
  | zero => intro _; exact ⟨Nat.zero_le 1, fun h => absurd h (Nat.lt_irrefl 0)⟩
  | succ m ih =>
    intro hm
    obtain ⟨i1, i2⟩ := ih (by omega)
    have e : bz_on x (m + 1) = bz_on x m + (if x = nI m then 1 else 0) := rfl
    by_cases q : x = nI m
    · rw [if_pos q] at e
      rcases Nat.eq_zero_or_pos (bz_on x m) with z | z
      · exact ⟨by omega, fun _ => ⟨m, by omega, q⟩⟩
      · obtain ⟨v, hv, hx⟩ := i2 z
        rw [hx] at q
        exact absurd ((nI_eq (by omega) (by omega)).mp q) (by omega)
    · rw [if_neg q] at e
      refine ⟨by omega, fun h => ?_⟩
      obtain ⟨v, hv, hx⟩ := i2 (by omega)
      exact ⟨v, by omega, hx⟩
def bz_sm (f : Nat → Int32) (n : Nat) : Nat → Nat
  | 0 => 0
  | m + 1 => bz_sm f n m + bz_ct f m n
theorem bz_sm_succ (f : Nat → Int32) (n : Nat) : ∀ m, bz_sm f (n + 1) m = bz_sm f n m + bz_on (f n) m := by
  intro m
  induction m with
  | zero => rfl
  | succ m ih =>
    show bz_sm f (n + 1) m + (bz_ct f m n + (if f n = nI m then 1 else 0)) = bz_sm f n m + bz_ct f m n + (bz_on (f n) m + (if f n = nI m then 1 else 0))
    rw [ih]
    omega
theorem bz_sm_zero (f : Nat → Int32) : ∀ m, bz_sm f 0 m = 0 := by
  intro m
  induction m with
  | zero => rfl
  | succ m ih =>
    show bz_sm f 0 m + 0 = 0
    rw [ih]
theorem bz_sm_le (f : Nat → Int32) (m : Nat) (hm : m ≤ 2 ^ 31) : ∀ n, bz_sm f n m ≤ n := by
  intro n
  induction n with
  | zero => rw [bz_sm_zero]; exact Nat.le_refl 0
  | succ n ih =>
    rw [bz_sm_succ]
    have := (bz_on_le (f n) m hm).1
    omega
theorem bz_sm_ge (f : Nat → Int32) (n : Nat) : ∀ m, (∀ v, v < m → 0 < bz_ct f v n) → m ≤ bz_sm f n m := by
  intro m
  induction m with
  | zero => intro _; exact Nat.zero_le _
  | succ m ih =>
    intro h
    have h1 := ih (fun v hv => h v (by omega))
    have h2 := h m (by omega)
    show m + 1 ≤ bz_sm f n m + bz_ct f m n
    omega
/-- one page is in no slot, the slots 0 .. 22 are held: slot 23 is free -/
theorem bz_free23 {f : Nat → Int32} {p : Nat} (hp : p < 24) (hm : f p = -1) (h : ∀ v, v < 23 → 0 < bz_ct f v 24) : bz_ct f 23 24 = 0 := by
  have ne : ∀ v, v < 24 → bz_ct (upd f p (nI 24)) v 24 = bz_ct f v 24 := by
    intro v hv
    have q := bz_ct_upd (f := f) (v := v) (x := nI 24) 24 hp
    rw [hm, if_neg (bz_m1 (by omega)), if_neg (fun z => absurd ((nI_eq (by decide) (by omega)).mp z) (by omega))] at q
    exact q
  have e24 : 0 < bz_ct (upd f p (nI 24)) 24 24 := bz_ct_pos hp bz_us
  have le := bz_sm_le (upd f p (nI 24)) 25 (by decide) 24
  rcases Nat.eq_zero_or_pos (bz_ct f 23 24) with q | q
  · exact q
  · have ge := bz_sm_ge (upd f p (nI 24)) 24 25 (fun v hv => by
      by_cases h24 : v = 24
      · rw [h24]; exact e24
      · rw [ne v (by omega)]
        by_cases h23 : v = 23
        · rw [h23]; exact q
        · exact h v (by omega))
    omega
/-! the invariant -/
def bz_Lc (N : Nat) (g : bz_S) (p : Nat) : Prop := (g 0 p = -1 ∧ g 1 p = -1) ∨ (∃ f, f < N ∧ g 0 p = nI f ∧ g 1 p = -1) ∨ (∃ t, t < 24 ∧ g 0 p = -1 ∧ g 1 p = nI t)
def bz_Iv (N : Nat) (g : bz_S) : Prop := (3 ≤ N ∧ N ≤ 16) ∧ g 10 0 = nI N ∧ (∃ k, k < N ∧ g 10 1 = nI k) ∧ (∀ p, p < 24 → bz_Lc N g p) ∧ (∀ f, f < N → g 3 f = nI (bz_ct (g 0) f 24)) ∧ (∀ t, t < 24 → g 6 t = nI (bz_ct (g 1) t 24))
def bz_vl (g : bz_S) (p w : Nat) : Int32 := if g 0 p = -1 then (if g 1 p = -1 then 0 else g 5 ((g 1 p).toNatClampNeg * 4 + w)) else g 2 ((g 0 p).toNatClampNeg * 4 + w)
theorem bz_vl_0 {g : bz_S} {p w : Nat} (h0 : g 0 p = -1) (h1 : g 1 p = -1) : bz_vl g p w = 0 := by
  unfold bz_vl
  rw [if_pos h0, if_pos h1]
theorem bz_vl_f {g : bz_S} {p w f : Nat} (hf : f < 2 ^ 31) (h : g 0 p = nI f) : bz_vl g p w = g 2 (f * 4 + w) := by
  unfold bz_vl
  rw [h, if_neg (bz_m1' hf), nI_clamp hf]
theorem bz_vl_t {g : bz_S} {p w t : Nat} (ht : t < 2 ^ 31) (h0 : g 0 p = -1) (h1 : g 1 p = nI t) : bz_vl g p w = g 5 (t * 4 + w) := by
  unfold bz_vl
  rw [if_pos h0, h1, if_neg (bz_m1' ht), nI_clamp ht]
theorem bz_vl_congr {g u : bz_S} {p q w : Nat} (h0 : u 0 p = g 0 q) (h1 : u 1 p = g 1 q) (h2 : u 2 = g 2) (h5 : u 5 = g 5) : bz_vl u p w = bz_vl g q w := by
  unfold bz_vl
  rw [h0, h1, h2, h5]
/-- holders under a page that leaves, and one that comes -/
theorem bz_h1 {a F : Nat → Int32} {B p k : Nat} (hB : B ≤ 24) (hp : p < 24) (hk : k < B) (hc : ∀ f, f < B → a f = nI (bz_ct F f 24)) (hF : F p = nI k) : ∀ f, f < B → upd a k (a k - 1) f = nI (bz_ct (upd F p (-1)) f 24) := by
  intro f hf
  have q := bz_ct_upd (f := F) (v := f) (x := -1) 24 hp
  rw [if_neg (bz_m1 (show f < 2 ^ 31 by omega))] at q
  by_cases e : f = k
  · subst e
    rw [if_pos hF] at q
    rw [bz_us, hc f hf]
    have : bz_ct F f 24 = bz_ct (upd F p (-1)) f 24 + 1 := by omega
    rw [this]
    exact nI_pred _
  · rw [if_neg (fun z => e ((nI_eq (by omega) (by omega)).mp (hF.symm.trans z)).symm)] at q
    rw [bz_un e, hc f hf]
    congr 1
    omega
theorem bz_h2 {a F : Nat → Int32} {B p k : Nat} (hB : B ≤ 24) (hp : p < 24) (hk : k < B) (hc : ∀ f, f < B → a f = nI (bz_ct F f 24)) (hF : F p = -1) : ∀ f, f < B → upd a k (a k + 1) f = nI (bz_ct (upd F p (nI k)) f 24) := by
  intro f hf
  have q := bz_ct_upd (f := F) (v := f) (x := nI k) 24 hp
  rw [hF, if_neg (bz_m1 (show f < 2 ^ 31 by omega))] at q
  by_cases e : f = k
  · subst e
    rw [if_pos rfl] at q
    rw [bz_us, hc f hf, nI_1]
    congr 1
    omega
  · rw [if_neg (fun z => e ((nI_eq (by omega) (by omega)).mp z).symm)] at q
    rw [bz_un e, hc f hf]
    congr 1
    omega
/-- a page at another place: the invariant by its parts -/
theorem bz_Iv_mv {N p : Nat} {g u : bz_S} {a b : Int32} (I : bz_Iv N g) (h10 : u 10 = g 10) (h0 : u 0 = upd (g 0) p a) (h1 : u 1 = upd (g 1) p b) (hL : (a = -1 ∧ b = -1) ∨ (∃ f, f < N ∧ a = nI f ∧ b = -1) ∨ (∃ t, t < 24 ∧ a = -1 ∧ b = nI t))
    (h3 : ∀ f, f < N → u 3 f = nI (bz_ct (upd (g 0) p a) f 24)) (h6 : ∀ t, t < 24 → u 6 t = nI (bz_ct (upd (g 1) p b) t 24)) : bz_Iv N u := by
  obtain ⟨iN, i10, ih, iL, -, -⟩ := I
  refine ⟨iN, by rw [h10]; exact i10, by rw [h10]; exact ih, fun q hq => ?_, by rw [h0]; exact h3, by rw [h1]; exact h6⟩
  unfold bz_Lc
  rw [h0, h1]
  by_cases e : q = p
  · subst e
    rw [bz_us, bz_us]
    exact hL
  · rw [bz_un e, bz_un e]
    exact iL q hq
theorem bz_Iv_same {N : Nat} {g u : bz_S} (I : bz_Iv N g) (h0 : u 0 = g 0) (h1 : u 1 = g 1) (h3 : u 3 = g 3) (h6 : u 6 = g 6) (h10 : u 10 0 = g 10 0) (hh : ∃ k, k < N ∧ u 10 1 = nI k) : bz_Iv N u := by
  obtain ⟨iN, i10, ih, iL, i3, i6⟩ := I
  refine ⟨iN, by rw [h10]; exact i10, hh, fun q hq => ?_, by rw [h0, h3]; exact i3, by rw [h1, h6]; exact i6⟩
  unfold bz_Lc
  rw [h0, h1]
  exact iL q hq
/-- what a page holds, told to a model's words -/
def bz_Abs (g : bz_S) (c : Nat → Int32) : Prop := ∀ p, p < 24 → ∀ w, w < 4 → c (p * 4 + w) = bz_vl g p w
/-- states that hold the same words and shares -/
def bz_Sv (g u : bz_S) : Prop := (∀ p, p < 24 → ∀ w, w < 4 → bz_vl u p w = bz_vl g p w) ∧ u 7 = g 7
theorem bz_Sv.refl {g : bz_S} : bz_Sv g g := ⟨fun _ _ _ _ => rfl, rfl⟩
theorem bz_Sv.trans {g u v : bz_S} (h : bz_Sv g u) (k : bz_Sv u v) : bz_Sv g v := ⟨fun p hp w hw => (k.1 p hp w hw).trans (h.1 p hp w hw), k.2.trans h.2⟩
theorem bz_Sv.abs {g u : bz_S} {c : Nat → Int32} (h : bz_Sv g u) (k : bz_Abs g c) : bz_Abs u c := fun p hp w hw => (k p hp w hw).trans (h.1 p hp w hw).symm
theorem bz_Sv.of {g u : bz_S} (h0 : u 0 = g 0) (h1 : u 1 = g 1) (h2 : u 2 = g 2) (h5 : u 5 = g 5) (h7 : u 7 = g 7) : bz_Sv g u := ⟨fun p _ w _ => bz_vl_congr (by rw [h0]) (by rw [h1]) h2 h5, h7⟩
/-- page p holds what page o held; the others as before -/
theorem bz_vl_at {g u : bz_S} {p o : Nat} (h0 : u 0 = upd (g 0) p (g 0 o)) (h1 : u 1 = upd (g 1) p (g 1 o)) (h2 : u 2 = g 2) (h5 : u 5 = g 5) (q w : Nat) : bz_vl u q w = if q = p then bz_vl g o w else bz_vl g q w := by
  by_cases e : q = p
  · rw [if_pos e]
    subst e
    exact bz_vl_congr (by rw [h0, bz_us]) (by rw [h1, bz_us]) h2 h5
  · rw [if_neg e]
    exact bz_vl_congr (by rw [h0, bz_un e]) (by rw [h1, bz_un e]) h2 h5
theorem bz_vl_de {g u : bz_S} {p : Nat} (h0 : u 0 = upd (g 0) p (-1)) (h1 : u 1 = upd (g 1) p (-1)) (h2 : u 2 = g 2) (h5 : u 5 = g 5) (q w : Nat) : bz_vl u q w = if q = p then 0 else bz_vl g q w := by
  by_cases e : q = p
  · rw [if_pos e]
    subst e
    exact bz_vl_0 (by rw [h0, bz_us]) (by rw [h1, bz_us])
  · rw [if_neg e]
    exact bz_vl_congr (by rw [h0, bz_un e]) (by rw [h1, bz_un e]) h2 h5
/-- words of a frame that no page is in may change -/
theorem bz_vl_fr {N f : Nat} {g u : bz_S} (I : bz_Iv N g) (hf : f < N) (hz : bz_ct (g 0) f 24 = 0) (h0 : u 0 = g 0) (h1 : u 1 = g 1) (h5 : u 5 = g 5) (h2 : ∀ j, ¬ (f * 4 ≤ j ∧ j < f * 4 + 4) → u 2 j = g 2 j) {p w : Nat} (hp : p < 24) (hw : w < 4) : bz_vl u p w = bz_vl g p w := by
  obtain ⟨iN, -, -, iL, -, -⟩ := I
  rcases iL p hp with ⟨a, b⟩ | ⟨f', hf', a, b⟩ | ⟨t, ht, a, b⟩
  · rw [bz_vl_0 a b, bz_vl_0 (by rw [h0]; exact a) (by rw [h1]; exact b)]
  · have ne : f' ≠ f := fun e => bz_ct_zero 24 hz p hp (by rw [← e]; exact a)
    rw [bz_vl_f (show f' < 2 ^ 31 by omega) a, bz_vl_f (show f' < 2 ^ 31 by omega) (by rw [h0]; exact a)]
    exact h2 _ (by omega)
  · rw [bz_vl_t (show t < 2 ^ 31 by omega) a b, bz_vl_t (show t < 2 ^ 31 by omega) (by rw [h0]; exact a) (by rw [h1]; exact b), h5]
/-- words of a slot that no page is in may change -/
theorem bz_vl_sl {N k : Nat} {g u : bz_S} (I : bz_Iv N g) (hk : k < 24) (hz : bz_ct (g 1) k 24 = 0) (h0 : u 0 = g 0) (h1 : u 1 = g 1) (h2 : u 2 = g 2) (h5 : ∀ j, ¬ (k * 4 ≤ j ∧ j < k * 4 + 4) → u 5 j = g 5 j) {p w : Nat} (hp : p < 24) (hw : w < 4) : bz_vl u p w = bz_vl g p w := by
  obtain ⟨iN, -, -, iL, -, -⟩ := I
  rcases iL p hp with ⟨a, b⟩ | ⟨f', hf', a, b⟩ | ⟨t, ht, a, b⟩
  · rw [bz_vl_0 a b, bz_vl_0 (by rw [h0]; exact a) (by rw [h1]; exact b)]
  · rw [bz_vl_f (show f' < 2 ^ 31 by omega) a, bz_vl_f (show f' < 2 ^ 31 by omega) (by rw [h0]; exact a), h2]
  · have ne : t ≠ k := fun e => bz_ct_zero 24 hz p hp (by rw [← e]; exact b)
    rw [bz_vl_t (show t < 2 ^ 31 by omega) a b, bz_vl_t (show t < 2 ^ 31 by omega) (by rw [h0]; exact a) (by rw [h1]; exact b)]
    exact h5 _ (by omega)
/-- a word of a frame that page p alone is in -/
theorem bz_vl_wr {N f p k : Nat} {g u : bz_S} {v : Int32} (I : bz_Iv N g) (hf : f < N) (ha : g 0 p = nI f) (ho : ∀ q, q < 24 → q ≠ p → ¬ g 0 q = nI f) (hk : k < 4) (h0 : u 0 = g 0) (h1 : u 1 = g 1) (h5 : u 5 = g 5) (h2 : u 2 = upd (g 2) (f * 4 + k) v) {q w : Nat} (hq : q < 24) (hw : w < 4) : bz_vl u q w = if q = p ∧ w = k then v else bz_vl g q w := by
  obtain ⟨iN, -, -, iL, -, -⟩ := I
  by_cases e : q = p
  · subst e
    rw [bz_vl_f (show f < 2 ^ 31 by omega) ha, bz_vl_f (show f < 2 ^ 31 by omega) (by rw [h0]; exact ha), h2]
    by_cases z : w = k
    · rw [if_pos ⟨rfl, z⟩, z, bz_us]
    · rw [if_neg (fun y => z y.2), bz_un (by omega)]
  · rw [if_neg (fun y => e y.1)]
    rcases iL q hq with ⟨a, b⟩ | ⟨f', hf', a, b⟩ | ⟨t, ht, a, b⟩
    · rw [bz_vl_0 a b, bz_vl_0 (by rw [h0]; exact a) (by rw [h1]; exact b)]
    · have ne : f' ≠ f := fun z => ho q hq e (by rw [← z]; exact a)
      rw [bz_vl_f (show f' < 2 ^ 31 by omega) a, bz_vl_f (show f' < 2 ^ 31 by omega) (by rw [h0]; exact a), h2, bz_un (by omega)]
    · rw [bz_vl_t (show t < 2 ^ 31 by omega) a b, bz_vl_t (show t < 2 ^ 31 by omega) (by rw [h0]; exact a) (by rw [h1]; exact b), h5]
/-! the guests' numbers -/
abbrev bz_bg (x : Int32) : Prop := x < 0 ∨ 2 < x
abbrev bz_bp (x : Int32) : Prop := x < 0 ∨ 7 < x
abbrev bz_bw (x : Int32) : Prop := x < 0 ∨ 31 < x
theorem bz_num {x M : Int32} {n : Nat} (hM : M.toInt = n) (h : ¬ (x < 0 ∨ M < x)) : ∃ k, k ≤ n ∧ x = nI k := nI_of2 hM (fun q => h (Or.inl q)) (Int32.not_lt.mp (fun q => h (Or.inr q)))
theorem bz_bg_no {x : Int32} (h : ¬ bz_bg x) : ∃ k, k < 3 ∧ x = nI k := by
  obtain ⟨k, h1, h2⟩ := bz_num (M := 2) (n := 2) (by decide) h
  exact ⟨k, by omega, h2⟩
theorem bz_bp_no {x : Int32} (h : ¬ bz_bp x) : ∃ k, k < 8 ∧ x = nI k := by
  obtain ⟨k, h1, h2⟩ := bz_num (M := 7) (n := 7) (by decide) h
  exact ⟨k, by omega, h2⟩
theorem bz_bw_no {x : Int32} (h : ¬ bz_bw x) : ∃ k, k < 32 ∧ x = nI k := by
  obtain ⟨k, h1, h2⟩ := bz_num (M := 31) (n := 31) (by decide) h
  exact ⟨k, by omega, h2⟩
end
section
/-! BalloonShare: badGuest, badPage, wordOf, detach, attachLike, payer -/
set_option maxHeartbeats 4000000 in
theorem metX1_badGuest {l : Launch} (x : Int32) : bc_s l yX1_badGuest cX1_badGuest 1 .boolean rmX1_badGuest [.int x] (fun v => v = if bz_bg x then nI 1 else nI 0) := by
  refine bc_s_of RX1 (by decide) rfl (Nat.le_of_ble_eq_true rfl) ?_
  intro p e s m args below meth c Q ls F hl hret
  have hx := F.1
  have hb := F.2.1
  have hl : lv_has ls 1 [(0, .int x)] := hl
  refine lv_iload_n hx hb dX1_badGuest_0 rfl (lv_at hl 0 rfl) ?_
  refine lv_if_lt (tgt := 9) hx hb dX1_badGuest_1 (by decide) (fun c1 => ?_) (fun c1 => ?_)
  · refine lv_iconst (v := nI 1) hx hb dX1_badGuest_9 (by decide) ?_
    refine lv_goto (tgt := 14) hx hb dX1_badGuest_10 (by decide) ?_
    exact hret _ _ _ (if_pos (Or.inl c1)).symm rfl dX1_badGuest_14
  · refine lv_iload_n hx hb dX1_badGuest_4 rfl (lv_at hl 0 rfl) ?_
    refine lv_iconst (v := nI 2) hx hb dX1_badGuest_5 (by decide) ?_
    refine lv_icmp_le (tgt := 13) hx hb dX1_badGuest_6 (by decide) (fun c2 => ?_) (fun c2 => ?_)
    · refine lv_iconst (v := nI 0) hx hb dX1_badGuest_13 (by decide) ?_
      exact hret _ _ _ (if_neg (fun q => q.elim c1 (fun z => Int32.not_le.mpr z c2))).symm rfl dX1_badGuest_14
    · refine lv_iconst (v := nI 1) hx hb dX1_badGuest_9 (by decide) ?_
      refine lv_goto (tgt := 14) hx hb dX1_badGuest_10 (by decide) ?_
      exact hret _ _ _ (if_pos (Or.inr (Int32.not_le.mp c2))).symm rfl dX1_badGuest_14
set_option maxHeartbeats 4000000 in
theorem metX1_badPage {l : Launch} (x : Int32) : bc_s l yX1_badPage cX1_badPage 1 .boolean rmX1_badPage [.int x] (fun v => v = if bz_bp x then nI 1 else nI 0) := by
  refine bc_s_of RX1 (by decide) rfl (Nat.le_of_ble_eq_true rfl) ?_
  intro p e s m args below meth c Q ls F hl hret
  have hx := F.1
  have hb := F.2.1
  have hl : lv_has ls 1 [(0, .int x)] := hl
  refine lv_iload_n hx hb dX1_badPage_0 rfl (lv_at hl 0 rfl) ?_
  refine lv_if_lt (tgt := 10) hx hb dX1_badPage_1 (by decide) (fun c1 => ?_) (fun c1 => ?_)
  · refine lv_iconst (v := nI 1) hx hb dX1_badPage_10 (by decide) ?_
    refine lv_goto (tgt := 15) hx hb dX1_badPage_11 (by decide) ?_
    exact hret _ _ _ (if_pos (Or.inl c1)).symm rfl dX1_badPage_15
  · refine lv_iload_n hx hb dX1_badPage_4 rfl (lv_at hl 0 rfl) ?_
    refine lv_bipush (v := nI 7) hx hb dX1_badPage_5 (by decide) ?_
    refine lv_icmp_le (tgt := 14) hx hb dX1_badPage_7 (by decide) (fun c2 => ?_) (fun c2 => ?_)
    · refine lv_iconst (v := nI 0) hx hb dX1_badPage_14 (by decide) ?_
      exact hret _ _ _ (if_neg (fun q => q.elim c1 (fun z => Int32.not_le.mpr z c2))).symm rfl dX1_badPage_15
    · refine lv_iconst (v := nI 1) hx hb dX1_badPage_10 (by decide) ?_
      refine lv_goto (tgt := 15) hx hb dX1_badPage_11 (by decide) ?_
      exact hret _ _ _ (if_pos (Or.inr (Int32.not_le.mp c2))).symm rfl dX1_badPage_15
set_option maxHeartbeats 4000000 in
/-- a word of a page -/
theorem metX1_wordOf {l : Launch} {D : va_G} {h : Nat → Nat} {dI dZ : ClassId} {g : bz_S} {N : Nat} (V : bz_Iv N g) {pg k : Nat} (hp : pg < 24) (hk : k < 4) : bc_i l D (bz_T dI dZ) (BW h dI dZ) yX1_wordOf cX1_wordOf 3 .int rmX1_wordOf [.ref (h 0), .int (nI pg), .int (nI k)] g (fun r u => r = bz_vl g pg k ∧ u = g) := by
  refine bc_i_of RX1 (by decide) rfl (Nat.le_of_ble_eq_true rfl) ?_
  intro p e s m args below meth c A Q ls F hl I hret
  have hx := F.1.1
  have hb := F.1.2.1
  have hl : lv_has ls 3 [(0, .ref (h 0)), (1, .int (nI pg)), (2, .int (nI k))] := hl
  have hN := V.1
  rcases V.2.2.2.1 pg hp with ⟨a, b⟩ | ⟨f, hf, a, b⟩ | ⟨t, ht, a, b⟩
  · refine lv_aload_n hx hb dX1_wordOf_0 rfl (lv_at hl 0 rfl) ?_
    refine bs_frameOf F I dX1_wordOf_1 ?_
    refine lv_iload_n hx hb dX1_wordOf_4 rfl (lv_at hl 1 rfl) ?_
    refine bs_ld0 (v := (-1)) F I (hp) (a) dX1_wordOf_5 ?_
    refine bm_iflt (tgt := 25) hx hb dX1_wordOf_6 (by decide) ?_
    refine lv_aload_n hx hb dX1_wordOf_25 rfl (lv_at hl 0 rfl) ?_
    refine bs_slotOf F I dX1_wordOf_26 ?_
    refine lv_iload_n hx hb dX1_wordOf_29 rfl (lv_at hl 1 rfl) ?_
    refine bs_ld1 (v := (-1)) F I (hp) (b) dX1_wordOf_30 ?_
    refine bm_iflt (tgt := 50) hx hb dX1_wordOf_31 (by decide) ?_
    refine lv_iconst (v := nI 0) hx hb dX1_wordOf_50 (by decide) ?_
    exact hret _ _ _ _ _ _ (⟨nI_0.trans (bz_vl_0 a b).symm, rfl⟩) I (rfl) dX1_wordOf_51
  · refine lv_aload_n hx hb dX1_wordOf_0 rfl (lv_at hl 0 rfl) ?_
    refine bs_frameOf F I dX1_wordOf_1 ?_
    refine lv_iload_n hx hb dX1_wordOf_4 rfl (lv_at hl 1 rfl) ?_
    refine bs_ld0 (v := nI f) F I (hp) (a) dX1_wordOf_5 ?_
    refine bn_iflt (tgt := 25) hx hb dX1_wordOf_6 (by decide) (by omega) ?_
    refine lv_aload_n hx hb dX1_wordOf_9 rfl (lv_at hl 0 rfl) ?_
    refine bs_inFrame F I dX1_wordOf_10 ?_
    refine lv_aload_n hx hb dX1_wordOf_13 rfl (lv_at hl 0 rfl) ?_
    refine bs_frameOf F I dX1_wordOf_14 ?_
    refine lv_iload_n hx hb dX1_wordOf_17 rfl (lv_at hl 1 rfl) ?_
    refine bs_ld0 (v := nI f) F I (hp) (a) dX1_wordOf_18 ?_
    refine lv_iconst (v := nI 4) hx hb dX1_wordOf_19 (by decide) ?_
    refine bn_mul hx hb dX1_wordOf_20 ?_
    refine lv_iload_n hx hb dX1_wordOf_21 rfl (lv_at hl 2 rfl) ?_
    refine bn_add hx hb dX1_wordOf_22 ?_
    refine bs_ld2 F I (by omega) (rfl) dX1_wordOf_23 ?_
    exact hret _ _ _ _ _ _ (⟨(bz_vl_f (by omega) a).symm, rfl⟩) I (rfl) dX1_wordOf_24
  · refine lv_aload_n hx hb dX1_wordOf_0 rfl (lv_at hl 0 rfl) ?_
    refine bs_frameOf F I dX1_wordOf_1 ?_
    refine lv_iload_n hx hb dX1_wordOf_4 rfl (lv_at hl 1 rfl) ?_
    refine bs_ld0 (v := (-1)) F I (hp) (a) dX1_wordOf_5 ?_
    refine bm_iflt (tgt := 25) hx hb dX1_wordOf_6 (by decide) ?_
    refine lv_aload_n hx hb dX1_wordOf_25 rfl (lv_at hl 0 rfl) ?_
    refine bs_slotOf F I dX1_wordOf_26 ?_
    refine lv_iload_n hx hb dX1_wordOf_29 rfl (lv_at hl 1 rfl) ?_
    refine bs_ld1 (v := nI t) F I (hp) (b) dX1_wordOf_30 ?_
    refine bn_iflt (tgt := 50) hx hb dX1_wordOf_31 (by decide) (by omega) ?_
    refine lv_aload_n hx hb dX1_wordOf_34 rfl (lv_at hl 0 rfl) ?_
    refine bs_inSlot F I dX1_wordOf_35 ?_
    refine lv_aload_n hx hb dX1_wordOf_38 rfl (lv_at hl 0 rfl) ?_
    refine bs_slotOf F I dX1_wordOf_39 ?_
    refine lv_iload_n hx hb dX1_wordOf_42 rfl (lv_at hl 1 rfl) ?_
    refine bs_ld1 (v := nI t) F I (hp) (b) dX1_wordOf_43 ?_
    refine lv_iconst (v := nI 4) hx hb dX1_wordOf_44 (by decide) ?_
    refine bn_mul hx hb dX1_wordOf_45 ?_
    refine lv_iload_n hx hb dX1_wordOf_46 rfl (lv_at hl 2 rfl) ?_
    refine bn_add hx hb dX1_wordOf_47 ?_
    refine bs_ld5 F I (by omega) (rfl) dX1_wordOf_48 ?_
    exact hret _ _ _ _ _ _ (⟨(bz_vl_t (by omega) a b).symm, rfl⟩) I (rfl) dX1_wordOf_49
/-- page pg let go of what held it -/
def bz_De (N : Nat) (g : bz_S) (pg : Nat) (u : bz_S) : Prop := bz_Iv N u ∧ u 0 = upd (g 0) pg (-1) ∧ u 1 = upd (g 1) pg (-1) ∧ u 2 = g 2 ∧ u 5 = g 5 ∧ u 7 = g 7
theorem bz_de0 {N pg : Nat} {g u : bz_S} (V : bz_Iv N g) (a : g 0 pg = -1) (b : g 1 pg = -1) (e : u = bz_st (bz_st g 0 pg (-1)) 1 pg (-1)) : bz_De N g pg u := by
  subst e
  refine ⟨bz_Iv_mv (p := pg) (a := -1) (b := -1) V rfl rfl rfl (Or.inl ⟨rfl, rfl⟩) ?_ ?_, rfl, rfl, rfl, rfl, rfl⟩
  · rw [bz_uself a]; exact V.2.2.2.2.1
  · rw [bz_uself b]; exact V.2.2.2.2.2
theorem bz_de1 {N pg f : Nat} {g u : bz_S} (V : bz_Iv N g) (hp : pg < 24) (hf : f < N) (a : g 0 pg = nI f) (b : g 1 pg = -1) (e : u = bz_st (bz_st (bz_st g 3 f (g 3 f - nI 1)) 0 pg (-1)) 1 pg (-1)) : bz_De N g pg u := by
  subst e
  have hN := V.1
  refine ⟨bz_Iv_mv (p := pg) (a := -1) (b := -1) V rfl rfl rfl (Or.inl ⟨rfl, rfl⟩) ?_ ?_, rfl, rfl, rfl, rfl, rfl⟩
  · exact bz_h1 (by omega) hp hf V.2.2.2.2.1 a
  · rw [bz_uself b]; exact V.2.2.2.2.2
theorem bz_de2 {N pg t : Nat} {g u : bz_S} (V : bz_Iv N g) (hp : pg < 24) (ht : t < 24) (a : g 0 pg = -1) (b : g 1 pg = nI t) (e : u = bz_st (bz_st (bz_st g 6 t (g 6 t - nI 1)) 0 pg (-1)) 1 pg (-1)) : bz_De N g pg u := by
  subst e
  refine ⟨bz_Iv_mv (p := pg) (a := -1) (b := -1) V rfl rfl rfl (Or.inl ⟨rfl, rfl⟩) ?_ ?_, rfl, rfl, rfl, rfl, rfl⟩
  · rw [bz_uself a]; exact V.2.2.2.2.1
  · exact bz_h1 (by omega) hp ht V.2.2.2.2.2 b
set_option maxHeartbeats 4000000 in
/-- a page lets go -/
theorem metX1_detach {l : Launch} {D : va_G} {h : Nat → Nat} {dI dZ : ClassId} {g : bz_S} {N : Nat} (V : bz_Iv N g) {pg : Nat} (hp : pg < 24) : bc_v l D (bz_T dI dZ) (BW h dI dZ) yX1_detach cX1_detach 2 rmX1_detach [.ref (h 0), .int (nI pg)] g (fun u => bz_De N g pg u) := by
  refine bc_v_of RX1 (by decide) rfl (Nat.le_of_ble_eq_true rfl) ?_
  intro p e s m args below meth c A Q ls F hl I hret
  have hx := F.1.1
  have hb := F.1.2.1
  have hl : lv_has ls 2 [(0, .ref (h 0)), (1, .int (nI pg))] := hl
  have hN := V.1
  rcases V.2.2.2.1 pg hp with ⟨a, b⟩ | ⟨f, hf, a, b⟩ | ⟨t, ht, a, b⟩
  · refine lv_aload_n hx hb dX1_detach_0 rfl (lv_at hl 0 rfl) ?_
    refine bs_frameOf F I dX1_detach_1 ?_
    refine lv_iload_n hx hb dX1_detach_4 rfl (lv_at hl 1 rfl) ?_
    refine bs_ld0 (v := (-1)) F I (hp) (a) dX1_detach_5 ?_
    refine bm_iflt (tgt := 24) hx hb dX1_detach_6 (by decide) ?_
    refine lv_aload_n hx hb dX1_detach_24 rfl (lv_at hl 0 rfl) ?_
    refine bs_slotOf F I dX1_detach_25 ?_
    refine lv_iload_n hx hb dX1_detach_28 rfl (lv_at hl 1 rfl) ?_
    refine bs_ld1 (v := (-1)) F I (hp) (b) dX1_detach_29 ?_
    refine bm_iflt (tgt := 48) hx hb dX1_detach_30 (by decide) ?_
    refine lv_aload_n hx hb dX1_detach_48 rfl (lv_at hl 0 rfl) ?_
    refine bs_frameOf F I dX1_detach_49 ?_
    refine lv_iload_n hx hb dX1_detach_52 rfl (lv_at hl 1 rfl) ?_
    refine lv_iconst (v := (-1)) hx hb dX1_detach_53 (by decide) ?_
    refine bs_st0 F I (by omega) dX1_detach_54 (fun H locs u1 eu1 I => ?_)
    refine lv_aload_n hx hb dX1_detach_55 rfl (lv_at hl 0 rfl) ?_
    refine bs_slotOf F I dX1_detach_56 ?_
    refine lv_iload_n hx hb dX1_detach_59 rfl (lv_at hl 1 rfl) ?_
    refine lv_iconst (v := (-1)) hx hb dX1_detach_60 (by decide) ?_
    refine bs_st1 F I (by omega) dX1_detach_61 (fun H locs u2 eu2 I => ?_)
    exact hret _ _ _ _ _ (bz_de0 V a b (by rw [eu2, eu1])) I dX1_detach_62
  · refine lv_aload_n hx hb dX1_detach_0 rfl (lv_at hl 0 rfl) ?_
    refine bs_frameOf F I dX1_detach_1 ?_
    refine lv_iload_n hx hb dX1_detach_4 rfl (lv_at hl 1 rfl) ?_
    refine bs_ld0 (v := nI f) F I (hp) (a) dX1_detach_5 ?_
    refine bn_iflt (tgt := 24) hx hb dX1_detach_6 (by decide) (by omega) ?_
    refine lv_aload_n hx hb dX1_detach_9 rfl (lv_at hl 0 rfl) ?_
    refine bs_holders F I dX1_detach_10 ?_
    refine lv_aload_n hx hb dX1_detach_13 rfl (lv_at hl 0 rfl) ?_
    refine bs_frameOf F I dX1_detach_14 ?_
    refine lv_iload_n hx hb dX1_detach_17 rfl (lv_at hl 1 rfl) ?_
    refine bs_ld0 (v := nI f) F I (hp) (a) dX1_detach_18 ?_
    refine lv_dup2_11 hx hb dX1_detach_19 rfl rfl ?_
    refine bs_ld3 F I (by omega) (rfl) dX1_detach_20 ?_
    refine lv_iconst (v := nI 1) hx hb dX1_detach_21 (by decide) ?_
    refine lv_isub hx hb dX1_detach_22 ?_
    refine bs_st3 F I (by omega) dX1_detach_23 (fun H locs u3 eu3 I => ?_)
    refine lv_aload_n hx hb dX1_detach_24 rfl (lv_at hl 0 rfl) ?_
    refine bs_slotOf F I dX1_detach_25 ?_
    refine lv_iload_n hx hb dX1_detach_28 rfl (lv_at hl 1 rfl) ?_
    refine bs_ld1 (v := (-1)) F I (hp) (by rw [eu3]; exact b) dX1_detach_29 ?_
    refine bm_iflt (tgt := 48) hx hb dX1_detach_30 (by decide) ?_
    refine lv_aload_n hx hb dX1_detach_48 rfl (lv_at hl 0 rfl) ?_
    refine bs_frameOf F I dX1_detach_49 ?_
    refine lv_iload_n hx hb dX1_detach_52 rfl (lv_at hl 1 rfl) ?_
    refine lv_iconst (v := (-1)) hx hb dX1_detach_53 (by decide) ?_
    refine bs_st0 F I (by omega) dX1_detach_54 (fun H locs u4 eu4 I => ?_)
    refine lv_aload_n hx hb dX1_detach_55 rfl (lv_at hl 0 rfl) ?_
    refine bs_slotOf F I dX1_detach_56 ?_
    refine lv_iload_n hx hb dX1_detach_59 rfl (lv_at hl 1 rfl) ?_
    refine lv_iconst (v := (-1)) hx hb dX1_detach_60 (by decide) ?_
    refine bs_st1 F I (by omega) dX1_detach_61 (fun H locs u5 eu5 I => ?_)
    exact hret _ _ _ _ _ (bz_de1 V hp hf a b (by rw [eu5, eu4, eu3])) I dX1_detach_62
  · refine lv_aload_n hx hb dX1_detach_0 rfl (lv_at hl 0 rfl) ?_
    refine bs_frameOf F I dX1_detach_1 ?_
    refine lv_iload_n hx hb dX1_detach_4 rfl (lv_at hl 1 rfl) ?_
    refine bs_ld0 (v := (-1)) F I (hp) (a) dX1_detach_5 ?_
    refine bm_iflt (tgt := 24) hx hb dX1_detach_6 (by decide) ?_
    refine lv_aload_n hx hb dX1_detach_24 rfl (lv_at hl 0 rfl) ?_
    refine bs_slotOf F I dX1_detach_25 ?_
    refine lv_iload_n hx hb dX1_detach_28 rfl (lv_at hl 1 rfl) ?_
    refine bs_ld1 (v := nI t) F I (hp) (b) dX1_detach_29 ?_
    refine bn_iflt (tgt := 48) hx hb dX1_detach_30 (by decide) (by omega) ?_
    refine lv_aload_n hx hb dX1_detach_33 rfl (lv_at hl 0 rfl) ?_
    refine bs_slotHolders F I dX1_detach_34 ?_
    refine lv_aload_n hx hb dX1_detach_37 rfl (lv_at hl 0 rfl) ?_
    refine bs_slotOf F I dX1_detach_38 ?_
    refine lv_iload_n hx hb dX1_detach_41 rfl (lv_at hl 1 rfl) ?_
    refine bs_ld1 (v := nI t) F I (hp) (b) dX1_detach_42 ?_
    refine lv_dup2_11 hx hb dX1_detach_43 rfl rfl ?_
    refine bs_ld6 F I (by omega) (rfl) dX1_detach_44 ?_
    refine lv_iconst (v := nI 1) hx hb dX1_detach_45 (by decide) ?_
    refine lv_isub hx hb dX1_detach_46 ?_
    refine bs_st6 F I (by omega) dX1_detach_47 (fun H locs u6 eu6 I => ?_)
    refine lv_aload_n hx hb dX1_detach_48 rfl (lv_at hl 0 rfl) ?_
    refine bs_frameOf F I dX1_detach_49 ?_
    refine lv_iload_n hx hb dX1_detach_52 rfl (lv_at hl 1 rfl) ?_
    refine lv_iconst (v := (-1)) hx hb dX1_detach_53 (by decide) ?_
    refine bs_st0 F I (by omega) dX1_detach_54 (fun H locs u7 eu7 I => ?_)
    refine lv_aload_n hx hb dX1_detach_55 rfl (lv_at hl 0 rfl) ?_
    refine bs_slotOf F I dX1_detach_56 ?_
    refine lv_iload_n hx hb dX1_detach_59 rfl (lv_at hl 1 rfl) ?_
    refine lv_iconst (v := (-1)) hx hb dX1_detach_60 (by decide) ?_
    refine bs_st1 F I (by omega) dX1_detach_61 (fun H locs u8 eu8 I => ?_)
    exact hret _ _ _ _ _ (bz_de2 V hp ht a b (by rw [eu8, eu7, eu6])) I dX1_detach_62
/-- page pg is held by what holds page po -/
def bz_At (N : Nat) (g : bz_S) (pg po : Nat) (u : bz_S) : Prop := bz_Iv N u ∧ u 0 = upd (g 0) pg (g 0 po) ∧ u 1 = upd (g 1) pg (g 1 po) ∧ u 2 = g 2 ∧ u 5 = g 5 ∧ u 7 = g 7
theorem bz_at_of {N pg po : Nat} {g v u : bz_S} {x y : Int32} (d : bz_De N g pg v) (ne : ¬ pg = po) (hx : v 0 po = x) (hy : v 1 po = y) (h0 : u 0 = upd (v 0) pg x) (h1 : u 1 = upd (v 1) pg y) (h2 : u 2 = v 2) (h5 : u 5 = v 5) (h7 : u 7 = v 7) (hI : bz_Iv N u) : bz_At N g pg po u := by
  obtain ⟨dI, d0, d1, d2, d5, d7⟩ := d
  have ex : x = g 0 po := by rw [← hx, d0, bz_un (Ne.symm ne)]
  have ey : y = g 1 po := by rw [← hy, d1, bz_un (Ne.symm ne)]
  refine ⟨hI, ?_, ?_, by rw [h2, d2], by rw [h5, d5], by rw [h7, d7]⟩
  · rw [h0, d0, bz_uu, ex]
  · rw [h1, d1, bz_uu, ey]
theorem bz_at0 {N pg po : Nat} {g v u : bz_S} (d : bz_De N g pg v) (ne : ¬ pg = po) (a : v 0 po = -1) (b : v 1 po = -1) (e : u = bz_st (bz_st v 0 pg (-1)) 1 pg (-1)) : bz_At N g pg po u := by
  subst e
  have z0 : v 0 pg = -1 := by rw [d.2.1, bz_us]
  have z1 : v 1 pg = -1 := by rw [d.2.2.1, bz_us]
  refine bz_at_of d ne a b rfl rfl rfl rfl rfl (bz_Iv_mv (p := pg) (a := -1) (b := -1) d.1 rfl rfl rfl (Or.inl ⟨rfl, rfl⟩) ?_ ?_)
  · rw [bz_uself z0]; exact d.1.2.2.2.2.1
  · rw [bz_uself z1]; exact d.1.2.2.2.2.2
theorem bz_at1 {N pg po f : Nat} {g v u : bz_S} (d : bz_De N g pg v) (hp : pg < 24) (hf : f < N) (ne : ¬ pg = po) (a : v 0 po = nI f) (b : v 1 po = -1) (e : u = bz_st (bz_st (bz_st v 0 pg (nI f)) 1 pg (-1)) 3 f (v 3 f + nI 1)) : bz_At N g pg po u := by
  subst e
  have hN := d.1.1
  have z0 : v 0 pg = -1 := by rw [d.2.1, bz_us]
  have z1 : v 1 pg = -1 := by rw [d.2.2.1, bz_us]
  refine bz_at_of d ne a b rfl rfl rfl rfl rfl (bz_Iv_mv (p := pg) (a := nI f) (b := -1) d.1 rfl rfl rfl (Or.inr (Or.inl ⟨f, hf, rfl, rfl⟩)) ?_ ?_)
  · exact bz_h2 (by omega) hp hf d.1.2.2.2.2.1 z0
  · rw [bz_uself z1]; exact d.1.2.2.2.2.2
theorem bz_at2 {N pg po t : Nat} {g v u : bz_S} (d : bz_De N g pg v) (hp : pg < 24) (ht : t < 24) (ne : ¬ pg = po) (a : v 0 po = -1) (b : v 1 po = nI t) (e : u = bz_st (bz_st (bz_st v 0 pg (-1)) 1 pg (nI t)) 6 t (v 6 t + nI 1)) : bz_At N g pg po u := by
  subst e
  have z0 : v 0 pg = -1 := by rw [d.2.1, bz_us]
  have z1 : v 1 pg = -1 := by rw [d.2.2.1, bz_us]
  refine bz_at_of d ne a b rfl rfl rfl rfl rfl (bz_Iv_mv (p := pg) (a := -1) (b := nI t) d.1 rfl rfl rfl (Or.inr (Or.inr ⟨t, ht, rfl, rfl⟩)) ?_ ?_)
  · rw [bz_uself z0]; exact d.1.2.2.2.2.1
  · exact bz_h2 (by omega) hp ht d.1.2.2.2.2.2 z1
theorem bz_at_same {N pg : Nat} {g : bz_S} (V : bz_Iv N g) : bz_At N g pg pg g := ⟨V, (bz_uself rfl).symm, (bz_uself rfl).symm, rfl, rfl, rfl⟩
set_option maxHeartbeats 4000000 in
/-- a page is held by what holds another -/
theorem metX1_attachLike {l : Launch} {D : va_G} {h : Nat → Nat} {dI dZ : ClassId} {g : bz_S} {N : Nat} (V : bz_Iv N g) {pg po : Nat} (hp : pg < 24) (hq : po < 24) : bc_v l D (bz_T dI dZ) (BW h dI dZ) yX1_attachLike cX1_attachLike 3 rmX1_attachLike [.ref (h 0), .int (nI pg), .int (nI po)] g (fun u => bz_At N g pg po u) := by
  refine bc_v_of RX1 (by decide) rfl (Nat.le_of_ble_eq_true rfl) ?_
  intro p e s m args below meth c A Q ls F hl I hret
  have hx := F.1.1
  have hb := F.1.2.1
  have hl : lv_has ls 3 [(0, .ref (h 0)), (1, .int (nI pg)), (2, .int (nI po))] := hl
  have hN := V.1
  refine lv_iload_n hx hb dX1_attachLike_0 rfl (lv_at hl 1 rfl) ?_
  refine lv_iload_n hx hb dX1_attachLike_1 rfl (lv_at hl 2 rfl) ?_
  refine bn_ne (tgt := 6) hx hb dX1_attachLike_2 (by decide) (by omega) (by omega) (fun ne => ?_) (fun ne => ?_)
  · refine lv_aload_n hx hb dX1_attachLike_6 rfl (lv_at hl 0 rfl) ?_
    refine lv_iload_n hx hb dX1_attachLike_7 rfl (lv_at hl 1 rfl) ?_
    refine bx_cv (wd := BW h dI dZ) (rest := []) F I (metX1_detach V hp) (cwX1_detach F.1.2.2.2.2 ⟨by decide, by decide⟩) (q0 := 0) rfl rfl rfl hl.1 rfl (Nat.le_of_ble_eq_true rfl) dX1_attachLike_8 (fun v H locs d I => ?_)
    rcases d.1.2.2.2.1 po hq with ⟨a, b⟩ | ⟨f, hf, a, b⟩ | ⟨t, ht, a, b⟩
    · refine lv_aload_n hx hb dX1_attachLike_11 rfl (lv_at hl 0 rfl) ?_
      refine bs_frameOf F I dX1_attachLike_12 ?_
      refine lv_iload_n hx hb dX1_attachLike_15 rfl (lv_at hl 1 rfl) ?_
      refine lv_aload_n hx hb dX1_attachLike_16 rfl (lv_at hl 0 rfl) ?_
      refine bs_frameOf F I dX1_attachLike_17 ?_
      refine lv_iload_n hx hb dX1_attachLike_20 rfl (lv_at hl 2 rfl) ?_
      refine bs_ld0 (v := (-1)) F I (hq) (a) dX1_attachLike_21 ?_
      refine bs_st0 F I (by omega) dX1_attachLike_22 (fun H locs u1 eu1 I => ?_)
      refine lv_aload_n hx hb dX1_attachLike_23 rfl (lv_at hl 0 rfl) ?_
      refine bs_slotOf F I dX1_attachLike_24 ?_
      refine lv_iload_n hx hb dX1_attachLike_27 rfl (lv_at hl 1 rfl) ?_
      refine lv_aload_n hx hb dX1_attachLike_28 rfl (lv_at hl 0 rfl) ?_
      refine bs_slotOf F I dX1_attachLike_29 ?_
      refine lv_iload_n hx hb dX1_attachLike_32 rfl (lv_at hl 2 rfl) ?_
      refine bs_ld1 (v := (-1)) F I (hq) (by rw [eu1]; exact b) dX1_attachLike_33 ?_
      refine bs_st1 F I (by omega) dX1_attachLike_34 (fun H locs u2 eu2 I => ?_)
      refine lv_aload_n hx hb dX1_attachLike_35 rfl (lv_at hl 0 rfl) ?_
      refine bs_frameOf F I dX1_attachLike_36 ?_
      refine lv_iload_n hx hb dX1_attachLike_39 rfl (lv_at hl 1 rfl) ?_
      refine bs_ld0 (v := (-1)) F I (hp) (by simp [eu2, eu1, bz_st, upd]) dX1_attachLike_40 ?_
      refine bm_iflt (tgt := 59) hx hb dX1_attachLike_41 (by decide) ?_
      refine lv_aload_n hx hb dX1_attachLike_59 rfl (lv_at hl 0 rfl) ?_
      refine bs_slotOf F I dX1_attachLike_60 ?_
      refine lv_iload_n hx hb dX1_attachLike_63 rfl (lv_at hl 1 rfl) ?_
      refine bs_ld1 (v := (-1)) F I (hp) (by simp [eu2, eu1, bz_st, upd]) dX1_attachLike_64 ?_
      refine bm_iflt (tgt := 83) hx hb dX1_attachLike_65 (by decide) ?_
      exact hret _ _ _ _ _ (bz_at0 d ne a b (by rw [eu2, eu1])) I dX1_attachLike_83
    · refine lv_aload_n hx hb dX1_attachLike_11 rfl (lv_at hl 0 rfl) ?_
      refine bs_frameOf F I dX1_attachLike_12 ?_
      refine lv_iload_n hx hb dX1_attachLike_15 rfl (lv_at hl 1 rfl) ?_
      refine lv_aload_n hx hb dX1_attachLike_16 rfl (lv_at hl 0 rfl) ?_
      refine bs_frameOf F I dX1_attachLike_17 ?_
      refine lv_iload_n hx hb dX1_attachLike_20 rfl (lv_at hl 2 rfl) ?_
      refine bs_ld0 (v := nI f) F I (hq) (a) dX1_attachLike_21 ?_
      refine bs_st0 F I (by omega) dX1_attachLike_22 (fun H locs u3 eu3 I => ?_)
      refine lv_aload_n hx hb dX1_attachLike_23 rfl (lv_at hl 0 rfl) ?_
      refine bs_slotOf F I dX1_attachLike_24 ?_
      refine lv_iload_n hx hb dX1_attachLike_27 rfl (lv_at hl 1 rfl) ?_
      refine lv_aload_n hx hb dX1_attachLike_28 rfl (lv_at hl 0 rfl) ?_
      refine bs_slotOf F I dX1_attachLike_29 ?_
      refine lv_iload_n hx hb dX1_attachLike_32 rfl (lv_at hl 2 rfl) ?_
      refine bs_ld1 (v := (-1)) F I (hq) (by rw [eu3]; exact b) dX1_attachLike_33 ?_
      refine bs_st1 F I (by omega) dX1_attachLike_34 (fun H locs u4 eu4 I => ?_)
      refine lv_aload_n hx hb dX1_attachLike_35 rfl (lv_at hl 0 rfl) ?_
      refine bs_frameOf F I dX1_attachLike_36 ?_
      refine lv_iload_n hx hb dX1_attachLike_39 rfl (lv_at hl 1 rfl) ?_
      refine bs_ld0 (v := nI f) F I (hp) (by simp [eu4, eu3, bz_st, upd]) dX1_attachLike_40 ?_
      refine bn_iflt (tgt := 59) hx hb dX1_attachLike_41 (by decide) (by omega) ?_
      refine lv_aload_n hx hb dX1_attachLike_44 rfl (lv_at hl 0 rfl) ?_
      refine bs_holders F I dX1_attachLike_45 ?_
      refine lv_aload_n hx hb dX1_attachLike_48 rfl (lv_at hl 0 rfl) ?_
      refine bs_frameOf F I dX1_attachLike_49 ?_
      refine lv_iload_n hx hb dX1_attachLike_52 rfl (lv_at hl 1 rfl) ?_
      refine bs_ld0 (v := nI f) F I (hp) (by simp [eu4, eu3, bz_st, upd]) dX1_attachLike_53 ?_
      refine lv_dup2_11 hx hb dX1_attachLike_54 rfl rfl ?_
      refine bs_ld3 F I (by omega) (rfl) dX1_attachLike_55 ?_
      refine lv_iconst (v := nI 1) hx hb dX1_attachLike_56 (by decide) ?_
      refine lv_iadd hx hb dX1_attachLike_57 ?_
      refine bs_st3 F I (by omega) dX1_attachLike_58 (fun H locs u5 eu5 I => ?_)
      refine lv_aload_n hx hb dX1_attachLike_59 rfl (lv_at hl 0 rfl) ?_
      refine bs_slotOf F I dX1_attachLike_60 ?_
      refine lv_iload_n hx hb dX1_attachLike_63 rfl (lv_at hl 1 rfl) ?_
      refine bs_ld1 (v := (-1)) F I (hp) (by simp [eu5, eu4, eu3, bz_st, upd]) dX1_attachLike_64 ?_
      refine bm_iflt (tgt := 83) hx hb dX1_attachLike_65 (by decide) ?_
      exact hret _ _ _ _ _ (bz_at1 d hp hf ne a b (by rw [eu5, eu4, eu3]; rfl)) I dX1_attachLike_83
    · refine lv_aload_n hx hb dX1_attachLike_11 rfl (lv_at hl 0 rfl) ?_
      refine bs_frameOf F I dX1_attachLike_12 ?_
      refine lv_iload_n hx hb dX1_attachLike_15 rfl (lv_at hl 1 rfl) ?_
      refine lv_aload_n hx hb dX1_attachLike_16 rfl (lv_at hl 0 rfl) ?_
      refine bs_frameOf F I dX1_attachLike_17 ?_
      refine lv_iload_n hx hb dX1_attachLike_20 rfl (lv_at hl 2 rfl) ?_
      refine bs_ld0 (v := (-1)) F I (hq) (a) dX1_attachLike_21 ?_
      refine bs_st0 F I (by omega) dX1_attachLike_22 (fun H locs u6 eu6 I => ?_)
      refine lv_aload_n hx hb dX1_attachLike_23 rfl (lv_at hl 0 rfl) ?_
      refine bs_slotOf F I dX1_attachLike_24 ?_
      refine lv_iload_n hx hb dX1_attachLike_27 rfl (lv_at hl 1 rfl) ?_
      refine lv_aload_n hx hb dX1_attachLike_28 rfl (lv_at hl 0 rfl) ?_
      refine bs_slotOf F I dX1_attachLike_29 ?_
      refine lv_iload_n hx hb dX1_attachLike_32 rfl (lv_at hl 2 rfl) ?_
      refine bs_ld1 (v := nI t) F I (hq) (by rw [eu6]; exact b) dX1_attachLike_33 ?_
      refine bs_st1 F I (by omega) dX1_attachLike_34 (fun H locs u7 eu7 I => ?_)
      refine lv_aload_n hx hb dX1_attachLike_35 rfl (lv_at hl 0 rfl) ?_
      refine bs_frameOf F I dX1_attachLike_36 ?_
      refine lv_iload_n hx hb dX1_attachLike_39 rfl (lv_at hl 1 rfl) ?_
      refine bs_ld0 (v := (-1)) F I (hp) (by simp [eu7, eu6, bz_st, upd]) dX1_attachLike_40 ?_
      refine bm_iflt (tgt := 59) hx hb dX1_attachLike_41 (by decide) ?_
      refine lv_aload_n hx hb dX1_attachLike_59 rfl (lv_at hl 0 rfl) ?_
      refine bs_slotOf F I dX1_attachLike_60 ?_
      refine lv_iload_n hx hb dX1_attachLike_63 rfl (lv_at hl 1 rfl) ?_
      refine bs_ld1 (v := nI t) F I (hp) (by simp [eu7, eu6, bz_st, upd]) dX1_attachLike_64 ?_
      refine bn_iflt (tgt := 83) hx hb dX1_attachLike_65 (by decide) (by omega) ?_
      refine lv_aload_n hx hb dX1_attachLike_68 rfl (lv_at hl 0 rfl) ?_
      refine bs_slotHolders F I dX1_attachLike_69 ?_
      refine lv_aload_n hx hb dX1_attachLike_72 rfl (lv_at hl 0 rfl) ?_
      refine bs_slotOf F I dX1_attachLike_73 ?_
      refine lv_iload_n hx hb dX1_attachLike_76 rfl (lv_at hl 1 rfl) ?_
      refine bs_ld1 (v := nI t) F I (hp) (by simp [eu7, eu6, bz_st, upd]) dX1_attachLike_77 ?_
      refine lv_dup2_11 hx hb dX1_attachLike_78 rfl rfl ?_
      refine bs_ld6 F I (by omega) (rfl) dX1_attachLike_79 ?_
      refine lv_iconst (v := nI 1) hx hb dX1_attachLike_80 (by decide) ?_
      refine lv_iadd hx hb dX1_attachLike_81 ?_
      refine bs_st6 F I (by omega) dX1_attachLike_82 (fun H locs u8 eu8 I => ?_)
      exact hret _ _ _ _ _ (bz_at2 d hp ht ne a b (by rw [eu8, eu7, eu6]; rfl)) I dX1_attachLike_83
  · subst ne
    exact hret _ _ _ _ _ (bz_at_same V) I dX1_attachLike_5
set_option maxHeartbeats 4000000 in
/-- the first guest that has a page in the frame -/
theorem metX1_payer {l : Launch} {D : va_G} {h : Nat → Nat} {dI dZ : ClassId} {g : bz_S} (x : Int32) : bc_i l D (bz_T dI dZ) (BW h dI dZ) yX1_payer cX1_payer 3 .int rmX1_payer [.ref (h 0), .int x] g (fun r u => (∃ k, k < 3 ∧ r = nI k) ∧ u = g) := by
  refine bc_i_of RX1 (by decide) rfl (Nat.le_of_ble_eq_true rfl) ?_
  intro p e s m args below meth c A Q ls F hl I hret
  have hx := F.1.1
  have hb := F.1.2.1
  have hl : lv_has ls 3 [(0, .ref (h 0)), (1, .int x)] := hl
  refine lv_iconst (v := nI 0) hx hb dX1_payer_0 (by decide) ?_
  refine lv_istore_n (lv' := [(2, .int (nI 0)), (0, .ref (h 0)), (1, .int x)]) hx hb dX1_payer_1 rfl hl (by decide) rfl (fun ls hl => ?_)
  have loop : ∀ (n i : Nat) (H : Heap) (locs : List Loc) (ls : Array Slot), i ≤ 24 → 24 < i + n → bx_I D A (BW h dI dZ g) s H locs → lv_has ls 3 [(2, .int (nI i)), (0, .ref (h 0)), (1, .int x)] → W p l e rmX1_payer s m args below meth c H locs 0 0 Q (F0 m 2 ls []) := by
    intro n
    induction n with
    | zero => intro i H locs ls h1 h2; exact absurd h2 (by omega)
    | succ n ih =>
      intro i H locs ls h1 h2 I hl
      refine lv_iload_n hx hb dX1_payer_2 rfl (lv_at hl 0 rfl) ?_
      refine lv_bipush (v := nI 24) hx hb dX1_payer_3 (by decide) ?_
      refine bn_ge (tgt := 29) hx hb dX1_payer_5 (by decide) (by omega) (by omega) (fun c1 => ?_) (fun c1 => ?_)
      · refine lv_iconst (v := nI 0) hx hb dX1_payer_29 (by decide) ?_
        exact hret _ _ _ _ _ _ (⟨⟨0, by omega, rfl⟩, rfl⟩) I (rfl) dX1_payer_30
      · refine lv_aload_n hx hb dX1_payer_8 rfl (lv_at hl 1 rfl) ?_
        refine bs_frameOf F I dX1_payer_9 ?_
        refine lv_iload_n hx hb dX1_payer_12 rfl (lv_at hl 0 rfl) ?_
        refine bs_ld0 F I (by omega) (rfl) dX1_payer_13 ?_
        refine lv_iload_n hx hb dX1_payer_14 rfl (lv_at hl 2 rfl) ?_
        refine lv_icmp_ne (tgt := 23) hx hb dX1_payer_15 (by decide) (fun c2 => ?_) (fun c2 => ?_)
        · refine lv_iinc (v := nI (i + 1)) (lv' := [(2, .int (nI (i + 1))), (0, .ref (h 0)), (1, .int x)]) hx hb dX1_payer_23 hl (k := 0) rfl (bn_inc _) (by decide) rfl (fun ls hl => ?_)
          refine lv_goto (tgt := 2) hx hb dX1_payer_26 (by decide) ?_
          exact ih (i + 1) H locs ls (by omega) (by omega) I hl
        · refine lv_iload_n hx hb dX1_payer_18 rfl (lv_at hl 0 rfl) ?_
          refine lv_bipush (v := nI 8) hx hb dX1_payer_19 (by decide) ?_
          refine bn_div hx hb dX1_payer_21 (by omega) (by omega) (by omega) ?_
          exact hret _ _ _ _ _ _ (⟨⟨i / 8, by omega, rfl⟩, rfl⟩) I (rfl) dX1_payer_22
  exact loop 25 0 _ _ _ (by omega) (by omega) I hl
end
section
/-! BalloonShare: charge, poorest, victim -/
set_option maxHeartbeats 4000000 in
/-- frames are charged: busy and idle alone change -/
theorem metX1_charge {l : Launch} {D : va_G} {h : Nat → Nat} {dI dZ : ClassId} {g : bz_S} {N : Nat} (V : bz_Iv N g) : bc_v l D (bz_T dI dZ) (BW h dI dZ) yX1_charge cX1_charge 3 rmX1_charge [.ref (h 0)] g (fun u => ∀ k, k ≠ 8 → k ≠ 9 → u k = g k) := by
  refine bc_v_of RX1 (by decide) rfl (Nat.le_of_ble_eq_true rfl) ?_
  intro p e s m args below meth c A Q ls F hl I hret
  have hx := F.1.1
  have hb := F.1.2.1
  have hl : lv_has ls 3 [(0, .ref (h 0))] := hl
  have hN := V.1
  have loop2 : ∀ (n i : Nat) (g' : bz_S) (H : Heap) (locs : List Loc) (ls : Array Slot), i ≤ N → N < i + n → (∀ k, k ≠ 8 → k ≠ 9 → g' k = g k) → bx_I D A (BW h dI dZ g') s H locs → lv_has ls 3 [(1, .int (nI i)), (0, .ref (h 0))] → W p l e rmX1_charge s m args below meth c H locs 0 0 Q (F0 m 29 ls []) := by
    intro n
    induction n with
    | zero => intro i g' H locs ls h1 h2; exact absurd h2 (by omega)
    | succ n ih =>
      intro i g' H locs ls h1 h2 hE I hl
      refine lv_iload_n hx hb dX1_charge_29 rfl (lv_at hl 0 rfl) ?_
      refine lv_aload_n hx hb dX1_charge_30 rfl (lv_at hl 1 rfl) ?_
      refine bs_frames (v := nI N) F I (by rw [hE 10 (by decide) (by decide)]; exact V.2.1) dX1_charge_31 ?_
      refine bn_ge (tgt := 81) hx hb dX1_charge_34 (by decide) (by omega) (by omega) (fun c1 => ?_) (fun c1 => ?_)
      · exact hret _ _ _ _ _ (hE) I dX1_charge_81
      · refine lv_aload_n hx hb dX1_charge_37 rfl (lv_at hl 1 rfl) ?_
        refine lv_iload_n hx hb dX1_charge_38 rfl (lv_at hl 0 rfl) ?_
        refine bx_ci (wd := BW h dI dZ) (rest := []) F I (metX1_payer (nI i)) (cwX1_payer F.1.2.2.2.2 ⟨by decide, by decide⟩) (q0 := 0) rfl rfl rfl hl.1 rfl (Nat.le_of_ble_eq_true rfl) dX1_charge_39 (fun r u0 H locs hq I => ?_)
        obtain ⟨⟨kk, hk, rfl⟩, eu0⟩ := hq
        rw [eu0] at I
        refine lv_istore_n (lv' := [(2, .int (nI kk)), (1, .int (nI i)), (0, .ref (h 0))]) hx hb dX1_charge_42 rfl hl (by decide) rfl (fun ls hl => ?_)
        refine lv_aload_n hx hb dX1_charge_43 rfl (lv_at hl 2 rfl) ?_
        refine bs_lately F I dX1_charge_44 ?_
        refine lv_iload_n hx hb dX1_charge_47 rfl (lv_at hl 1 rfl) ?_
        refine bs_ld4 F I (by omega) (rfl) dX1_charge_48 ?_
        refine lv_if_eq (tgt := 65) hx hb dX1_charge_49 (by decide) (fun c2 => ?_) (fun c2 => ?_)
        · refine lv_aload_n hx hb dX1_charge_65 rfl (lv_at hl 2 rfl) ?_
          refine bs_idle F I dX1_charge_66 ?_
          refine lv_iload_n hx hb dX1_charge_69 rfl (lv_at hl 0 rfl) ?_
          refine lv_dup2_11 hx hb dX1_charge_70 rfl rfl ?_
          refine bs_ld9 F I (by omega) (rfl) dX1_charge_71 ?_
          refine lv_iconst (v := nI 1) hx hb dX1_charge_72 (by decide) ?_
          refine lv_iadd hx hb dX1_charge_73 ?_
          refine bs_st9 F I (by omega) dX1_charge_74 (fun H locs u1 eu1 I => ?_)
          refine lv_iinc (v := nI (i + 1)) (lv' := [(1, .int (nI (i + 1))), (2, .int (nI kk)), (0, .ref (h 0))]) hx hb dX1_charge_75 hl (k := 1) rfl (bn_inc _) (by decide) rfl (fun ls hl => ?_)
          refine lv_goto (tgt := 29) hx hb dX1_charge_78 (by decide) ?_
          exact ih (i + 1) u1 H locs ls (by omega) (by omega) (fun k h8 h9 => by rw [eu1, bz_st_n h9]; exact hE k h8 h9) I (lv_sub hl [0, 2] rfl)
        · refine lv_aload_n hx hb dX1_charge_52 rfl (lv_at hl 2 rfl) ?_
          refine bs_busy F I dX1_charge_53 ?_
          refine lv_iload_n hx hb dX1_charge_56 rfl (lv_at hl 0 rfl) ?_
          refine lv_dup2_11 hx hb dX1_charge_57 rfl rfl ?_
          refine bs_ld8 F I (by omega) (rfl) dX1_charge_58 ?_
          refine lv_iconst (v := nI 1) hx hb dX1_charge_59 (by decide) ?_
          refine lv_iadd hx hb dX1_charge_60 ?_
          refine bs_st8 F I (by omega) dX1_charge_61 (fun H locs u2 eu2 I => ?_)
          refine lv_goto (tgt := 75) hx hb dX1_charge_62 (by decide) ?_
          refine lv_iinc (v := nI (i + 1)) (lv' := [(1, .int (nI (i + 1))), (2, .int (nI kk)), (0, .ref (h 0))]) hx hb dX1_charge_75 hl (k := 1) rfl (bn_inc _) (by decide) rfl (fun ls hl => ?_)
          refine lv_goto (tgt := 29) hx hb dX1_charge_78 (by decide) ?_
          exact ih (i + 1) u2 H locs ls (by omega) (by omega) (fun k h8 h9 => by rw [eu2, bz_st_n h8]; exact hE k h8 h9) I (lv_sub hl [0, 2] rfl)
  have loop1 : ∀ (n i : Nat) (g' : bz_S) (H : Heap) (locs : List Loc) (ls : Array Slot), i ≤ 3 → 3 < i + n → (∀ k, k ≠ 8 → k ≠ 9 → g' k = g k) → bx_I D A (BW h dI dZ g') s H locs → lv_has ls 3 [(1, .int (nI i)), (0, .ref (h 0))] → W p l e rmX1_charge s m args below meth c H locs 0 0 Q (F0 m 2 ls []) := by
    intro n
    induction n with
    | zero => intro i g' H locs ls h1 h2; exact absurd h2 (by omega)
    | succ n ih =>
      intro i g' H locs ls h1 h2 hE I hl
      refine lv_iload_n hx hb dX1_charge_2 rfl (lv_at hl 0 rfl) ?_
      refine lv_iconst (v := nI 3) hx hb dX1_charge_3 (by decide) ?_
      refine bn_ge (tgt := 27) hx hb dX1_charge_4 (by decide) (by omega) (by omega) (fun c1 => ?_) (fun c1 => ?_)
      · refine lv_iconst (v := nI 0) hx hb dX1_charge_27 (by decide) ?_
        refine lv_istore_n (lv' := [(1, .int (nI 0)), (0, .ref (h 0))]) hx hb dX1_charge_28 rfl hl (by decide) rfl (fun ls hl => ?_)
        exact loop2 (N + 1) 0 g' H locs ls (by omega) (by omega) hE I hl
      · refine lv_aload_n hx hb dX1_charge_7 rfl (lv_at hl 1 rfl) ?_
        refine bs_busy F I dX1_charge_8 ?_
        refine lv_iload_n hx hb dX1_charge_11 rfl (lv_at hl 0 rfl) ?_
        refine lv_iconst (v := nI 0) hx hb dX1_charge_12 (by decide) ?_
        refine bs_st8 F I (by omega) dX1_charge_13 (fun H locs u3 eu3 I => ?_)
        refine lv_aload_n hx hb dX1_charge_14 rfl (lv_at hl 1 rfl) ?_
        refine bs_idle F I dX1_charge_15 ?_
        refine lv_iload_n hx hb dX1_charge_18 rfl (lv_at hl 0 rfl) ?_
        refine lv_iconst (v := nI 0) hx hb dX1_charge_19 (by decide) ?_
        refine bs_st9 F I (by omega) dX1_charge_20 (fun H locs u4 eu4 I => ?_)
        refine lv_iinc (v := nI (i + 1)) (lv' := [(1, .int (nI (i + 1))), (0, .ref (h 0))]) hx hb dX1_charge_21 hl (k := 0) rfl (bn_inc _) (by decide) rfl (fun ls hl => ?_)
        refine lv_goto (tgt := 2) hx hb dX1_charge_24 (by decide) ?_
        exact ih (i + 1) u4 H locs ls (by omega) (by omega) (fun k h8 h9 => by rw [eu4, bz_st_n h9, eu3, bz_st_n h8]; exact hE k h8 h9) I hl
  refine lv_iconst (v := nI 0) hx hb dX1_charge_0 (by decide) ?_
  refine lv_istore_n (lv' := [(1, .int (nI 0)), (0, .ref (h 0))]) hx hb dX1_charge_1 rfl hl (by decide) rfl (fun ls hl => ?_)
  exact loop1 4 0 g _ _ _ (by omega) (by omega) (fun _ _ _ => rfl) I hl
set_option maxHeartbeats 4000000 in
/-- a guest; nothing changes -/
theorem metX1_poorest {l : Launch} {D : va_G} {h : Nat → Nat} {dI dZ : ClassId} {g : bz_S} (x : Int32) : bc_i l D (bz_T dI dZ) (BW h dI dZ) yX1_poorest cX1_poorest 7 .int rmX1_poorest [.ref (h 0), .int x] g (fun r u => u = g) := by
  refine bc_i_of RX1 (by decide) rfl (Nat.le_of_ble_eq_true rfl) ?_
  intro p e s m args below meth c A Q ls F hl I hret
  have hx := F.1.1
  have hb := F.1.2.1
  have hl : lv_has ls 7 [(0, .ref (h 0)), (1, .int x)] := hl
  have loop : ∀ (n i : Nat) (b : Int32) (H : Heap) (locs : List Loc) (ls : Array Slot), i ≤ 3 → 3 < i + n → (b = -1 ∨ ∃ k, k < 3 ∧ b = nI k) → bx_I D A (BW h dI dZ g) s H locs → lv_has ls 7 [(3, .int (nI i)), (2, .int b), (0, .ref (h 0)), (1, .int x)] → W p l e rmX1_poorest s m args below meth c H locs 0 0 Q (F0 m 4 ls []) := by
    intro n
    induction n with
    | zero => intro i b H locs ls h1 h2; exact absurd h2 (by omega)
    | succ n ih =>
      intro i b H locs ls h1 h2 hbs I hl
      refine lv_iload_n hx hb dX1_poorest_4 rfl (lv_at hl 0 rfl) ?_
      refine lv_iconst (v := nI 3) hx hb dX1_poorest_5 (by decide) ?_
      refine bn_ge (tgt := 117) hx hb dX1_poorest_6 (by decide) (by omega) (by omega) (fun c1 => ?_) (fun c1 => ?_)
      · rcases hbs with rfl | ⟨k, hk, rfl⟩
        · refine lv_iload_n hx hb dX1_poorest_117 rfl (lv_at hl 1 rfl) ?_
          refine bm_ifge (tgt := 125) hx hb dX1_poorest_118 (by decide) ?_
          refine lv_iconst (v := nI 0) hx hb dX1_poorest_121 (by decide) ?_
          refine lv_goto (tgt := 126) hx hb dX1_poorest_122 (by decide) ?_
          exact hret _ _ _ _ _ _ (rfl) I (rfl) dX1_poorest_126
        · refine lv_iload_n hx hb dX1_poorest_117 rfl (lv_at hl 1 rfl) ?_
          refine bn_ifge (tgt := 125) hx hb dX1_poorest_118 (by decide) (by omega) ?_
          refine lv_iload_n hx hb dX1_poorest_125 rfl (lv_at hl 1 rfl) ?_
          exact hret _ _ _ _ _ _ (rfl) I (rfl) dX1_poorest_126
      · have inc : ∀ (b' : Int32) (H : Heap) (locs : List Loc) (ls : Array Slot), (b' = -1 ∨ ∃ k, k < 3 ∧ b' = nI k) → bx_I D A (BW h dI dZ g) s H locs → lv_has ls 7 [(3, .int (nI i)), (2, .int b'), (0, .ref (h 0)), (1, .int x)] → W p l e rmX1_poorest s m args below meth c H locs 0 0 Q (F0 m 111 ls []) := by
          intro b' H locs ls hb' I hl
          refine lv_iinc (v := nI (i + 1)) (lv' := [(3, .int (nI (i + 1))), (2, .int b'), (0, .ref (h 0)), (1, .int x)]) hx hb dX1_poorest_111 hl (k := 0) rfl (bn_inc _) (by decide) rfl (fun ls hl => ?_)
          refine lv_goto (tgt := 4) hx hb dX1_poorest_114 (by decide) ?_
          exact ih (i + 1) b' H locs ls (by omega) (by omega) hb' I hl
        have tail : ∀ (ow co : Int32) (H : Heap) (locs : List Loc) (ls : Array Slot), bx_I D A (BW h dI dZ g) s H locs → lv_has ls 7 [(5, .int ow), (4, .int co), (3, .int (nI i)), (2, .int b), (0, .ref (h 0)), (1, .int x)] → W p l e rmX1_poorest s m args below meth c H locs 0 0 Q (F0 m 61 ls []) := by
          intro ow co H locs ls I hl
          refine lv_iload hx hb dX1_poorest_61 (lv_at hl 0 rfl) ?_
          refine lv_if_le (tgt := 111) hx hb dX1_poorest_63 (by decide) (fun c2 => ?_) (fun c2 => ?_)
          · exact inc b H locs ls hbs I (lv_sub hl [2, 3, 4, 5] rfl)
          · rcases hbs with rfl | ⟨k, hk, rfl⟩
            · refine lv_iload_n hx hb dX1_poorest_66 rfl (lv_at hl 3 rfl) ?_
              refine bm_ifge (tgt := 75) hx hb dX1_poorest_67 (by decide) ?_
              refine lv_iload_n hx hb dX1_poorest_70 rfl (lv_at hl 2 rfl) ?_
              refine lv_istore_n (lv' := [(2, .int (nI i)), (5, .int ow), (4, .int co), (3, .int (nI i)), (0, .ref (h 0)), (1, .int x)]) hx hb dX1_poorest_71 rfl hl (by decide) rfl (fun ls hl => ?_)
              refine lv_goto (tgt := 111) hx hb dX1_poorest_72 (by decide) ?_
              exact inc (nI i) H locs ls (Or.inr ⟨i, by omega, rfl⟩) I (lv_sub hl [3, 0, 4, 5] rfl)
            · refine lv_iload_n hx hb dX1_poorest_66 rfl (lv_at hl 3 rfl) ?_
              refine bn_ifge (tgt := 75) hx hb dX1_poorest_67 (by decide) (by omega) ?_
              refine lv_aload_n hx hb dX1_poorest_75 rfl (lv_at hl 4 rfl) ?_
              refine bs_sharesOf F I dX1_poorest_76 ?_
              refine lv_iload_n hx hb dX1_poorest_79 rfl (lv_at hl 2 rfl) ?_
              refine bs_ld7 F I (by omega) (rfl) dX1_poorest_80 ?_
              refine lv_aload_n hx hb dX1_poorest_81 rfl (lv_at hl 4 rfl) ?_
              refine bs_busy F I dX1_poorest_82 ?_
              refine lv_iload_n hx hb dX1_poorest_85 rfl (lv_at hl 3 rfl) ?_
              refine bs_ld8 F I (by omega) (rfl) dX1_poorest_86 ?_
              refine lv_iconst (v := nI 4) hx hb dX1_poorest_87 (by decide) ?_
              refine lv_aload_n hx hb dX1_poorest_88 rfl (lv_at hl 4 rfl) ?_
              refine bs_idle F I dX1_poorest_89 ?_
              refine lv_iload_n hx hb dX1_poorest_92 rfl (lv_at hl 3 rfl) ?_
              refine bs_ld9 F I (by omega) (rfl) dX1_poorest_93 ?_
              refine lv_imul hx hb dX1_poorest_94 ?_
              refine lv_iadd hx hb dX1_poorest_95 ?_
              refine lv_imul hx hb dX1_poorest_96 ?_
              refine lv_aload_n hx hb dX1_poorest_97 rfl (lv_at hl 4 rfl) ?_
              refine bs_sharesOf F I dX1_poorest_98 ?_
              refine lv_iload_n hx hb dX1_poorest_101 rfl (lv_at hl 3 rfl) ?_
              refine bs_ld7 F I (by omega) (rfl) dX1_poorest_102 ?_
              refine lv_iload hx hb dX1_poorest_103 (lv_at hl 1 rfl) ?_
              refine lv_imul hx hb dX1_poorest_105 ?_
              refine lv_icmp_ge (tgt := 111) hx hb dX1_poorest_106 (by decide) (fun c3 => ?_) (fun c3 => ?_)
              · exact inc (nI k) H locs ls (Or.inr ⟨k, hk, rfl⟩) I (lv_sub hl [2, 3, 4, 5] rfl)
              · refine lv_iload_n hx hb dX1_poorest_109 rfl (lv_at hl 2 rfl) ?_
                refine lv_istore_n (lv' := [(2, .int (nI i)), (5, .int ow), (4, .int co), (3, .int (nI i)), (0, .ref (h 0)), (1, .int x)]) hx hb dX1_poorest_110 rfl hl (by decide) rfl (fun ls hl => ?_)
                exact inc (nI i) H locs ls (Or.inr ⟨i, by omega, rfl⟩) I (lv_sub hl [3, 0, 4, 5] rfl)
        refine lv_aload_n hx hb dX1_poorest_9 rfl (lv_at hl 2 rfl) ?_
        refine bs_busy F I dX1_poorest_10 ?_
        refine lv_iload_n hx hb dX1_poorest_13 rfl (lv_at hl 0 rfl) ?_
        refine bs_ld8 F I (by omega) (rfl) dX1_poorest_14 ?_
        refine lv_iconst (v := nI 4) hx hb dX1_poorest_15 (by decide) ?_
        refine lv_aload_n hx hb dX1_poorest_16 rfl (lv_at hl 2 rfl) ?_
        refine bs_idle F I dX1_poorest_17 ?_
        refine lv_iload_n hx hb dX1_poorest_20 rfl (lv_at hl 0 rfl) ?_
        refine bs_ld9 F I (by omega) (rfl) dX1_poorest_21 ?_
        refine lv_imul hx hb dX1_poorest_22 ?_
        refine lv_iadd hx hb dX1_poorest_23 ?_
        refine lv_istore (lv' := [(4, .int ((g 8 i) + ((nI 4) * (g 9 i)))), (3, .int (nI i)), (2, .int b), (0, .ref (h 0)), (1, .int x)]) hx hb dX1_poorest_24 hl (by decide) rfl (fun ls hl => ?_)
        refine lv_aload_n hx hb dX1_poorest_26 rfl (lv_at hl 3 rfl) ?_
        refine bs_busy F I dX1_poorest_27 ?_
        refine lv_iload_n hx hb dX1_poorest_30 rfl (lv_at hl 1 rfl) ?_
        refine bs_ld8 F I (by omega) (rfl) dX1_poorest_31 ?_
        refine lv_aload_n hx hb dX1_poorest_32 rfl (lv_at hl 3 rfl) ?_
        refine bs_idle F I dX1_poorest_33 ?_
        refine lv_iload_n hx hb dX1_poorest_36 rfl (lv_at hl 1 rfl) ?_
        refine bs_ld9 F I (by omega) (rfl) dX1_poorest_37 ?_
        refine lv_iadd hx hb dX1_poorest_38 ?_
        refine lv_istore (lv' := [(5, .int ((g 8 i) + (g 9 i))), (4, .int ((g 8 i) + ((nI 4) * (g 9 i)))), (3, .int (nI i)), (2, .int b), (0, .ref (h 0)), (1, .int x)]) hx hb dX1_poorest_39 hl (by decide) rfl (fun ls hl => ?_)
        refine lv_iload_n hx hb dX1_poorest_41 rfl (lv_at hl 5 rfl) ?_
        refine lv_if_lt (tgt := 61) hx hb dX1_poorest_42 (by decide) (fun c4 => ?_) (fun c4 => ?_)
        · exact tail _ _ H locs ls I (lv_sub hl [0, 1, 2, 3, 4, 5] rfl)
        · refine lv_aload_n hx hb dX1_poorest_45 rfl (lv_at hl 4 rfl) ?_
          refine lv_iload_n hx hb dX1_poorest_46 rfl (lv_at hl 5 rfl) ?_
          refine bx_ci (wd := BW h dI dZ) (rest := []) F I (metX1_payer x) (cwX1_payer F.1.2.2.2.2 ⟨by decide, by decide⟩) (q0 := 0) rfl rfl rfl hl.1 rfl (Nat.le_of_ble_eq_true rfl) dX1_poorest_47 (fun r u0 H locs hq I => ?_)
          obtain ⟨⟨kk, hkk, rfl⟩, eu0⟩ := hq
          rw [eu0] at I
          refine lv_istore (lv' := [(6, .int (nI kk)), (5, .int ((g 8 i) + (g 9 i))), (4, .int ((g 8 i) + ((nI 4) * (g 9 i)))), (3, .int (nI i)), (2, .int b), (0, .ref (h 0)), (1, .int x)]) hx hb dX1_poorest_50 hl (by decide) rfl (fun ls hl => ?_)
          refine lv_iload hx hb dX1_poorest_52 (lv_at hl 0 rfl) ?_
          refine lv_iload_n hx hb dX1_poorest_54 rfl (lv_at hl 3 rfl) ?_
          refine bn_ne (tgt := 61) hx hb dX1_poorest_55 (by decide) (by omega) (by omega) (fun c5 => ?_) (fun c5 => ?_)
          · exact tail _ _ H locs ls I (lv_sub hl [1, 2, 3, 4, 5, 6] rfl)
          · refine lv_iinc (v := (g 8 i) + (g 9 i) + Int32.ofInt (-1)) (lv' := [(5, .int ((g 8 i) + (g 9 i) + Int32.ofInt (-1))), (6, .int (nI kk)), (4, .int ((g 8 i) + ((nI 4) * (g 9 i)))), (3, .int (nI i)), (2, .int b), (0, .ref (h 0)), (1, .int x)]) hx hb dX1_poorest_58 hl (k := 1) rfl rfl (by decide) rfl (fun ls hl => ?_)
            exact tail _ _ H locs ls I (lv_sub hl [0, 2, 3, 4, 5, 6] rfl)
  refine lv_iconst (v := (-1)) hx hb dX1_poorest_0 (by decide) ?_
  refine lv_istore_n (lv' := [(2, .int (-1)), (0, .ref (h 0)), (1, .int x)]) hx hb dX1_poorest_1 rfl hl (by decide) rfl (fun ls hl => ?_)
  refine lv_iconst (v := nI 0) hx hb dX1_poorest_2 (by decide) ?_
  refine lv_istore_n (lv' := [(3, .int (nI 0)), (2, .int (-1)), (0, .ref (h 0)), (1, .int x)]) hx hb dX1_poorest_3 rfl hl (by decide) rfl (fun ls hl => ?_)
  exact loop 4 0 (-1) _ _ _ (by omega) (by omega) (Or.inl rfl) I hl
set_option maxHeartbeats 4000000 in
/-- a frame; marks and the hand alone change -/
theorem metX1_victim {l : Launch} {D : va_G} {h : Nat → Nat} {dI dZ : ClassId} {g : bz_S} {N : Nat} (V : bz_Iv N g) (x y : Int32) : bc_i l D (bz_T dI dZ) (BW h dI dZ) yX1_victim cX1_victim 6 .int rmX1_victim [.ref (h 0), .int x, .int y] g (fun r u => (∃ f, f < N ∧ r = nI f) ∧ bz_Iv N u ∧ ∀ k, k ≠ 4 → k ≠ 10 → u k = g k) := by
  refine bc_i_of RX1 (by decide) rfl (Nat.le_of_ble_eq_true rfl) ?_
  intro p e s m args below meth c A Q ls F hl I hret
  have hx := F.1.1
  have hb := F.1.2.1
  have hl : lv_has ls 6 [(0, .ref (h 0)), (1, .int x), (2, .int y)] := hl
  have hN := V.1
  have loop : ∀ (n i la : Nat) (g' : bz_S) (H : Heap) (locs : List Loc) (ls : Array Slot), i ≤ 2 * N → 2 * N < i + n → la < N → bz_Iv N g' → (∀ k, k ≠ 4 → k ≠ 10 → g' k = g k) → bx_I D A (BW h dI dZ g') s H locs → lv_has ls 6 [(4, .int (nI i)), (3, .int (nI la)), (0, .ref (h 0)), (1, .int x), (2, .int y)] → W p l e rmX1_victim s m args below meth c H locs 0 0 Q (F0 m 13 ls []) := by
    intro n
    induction n with
    | zero => intro i la g' H locs ls h1 h2; exact absurd h2 (by omega)
    | succ n ih =>
      intro i la g' H locs ls h1 h2 hla V' hE I hl
      obtain ⟨hd, hhd, eh⟩ := V'.2.2.1
      refine lv_iload hx hb dX1_victim_13 (lv_at hl 0 rfl) ?_
      refine lv_iconst (v := nI 2) hx hb dX1_victim_15 (by decide) ?_
      refine lv_aload_n hx hb dX1_victim_16 rfl (lv_at hl 2 rfl) ?_
      refine bs_frames (v := nI N) F I (V'.2.1) dX1_victim_17 ?_
      refine bn_mul hx hb dX1_victim_20 ?_
      refine bn_ge (tgt := 113) hx hb dX1_victim_21 (by decide) (by omega) (by omega) (fun c1 => ?_) (fun c1 => ?_)
      · refine lv_iload_n hx hb dX1_victim_113 rfl (lv_at hl 1 rfl) ?_
        exact hret _ _ _ _ _ _ (⟨⟨la, hla, rfl⟩, V', hE⟩) I (rfl) dX1_victim_114
      · have put : ∀ nh : Nat, nh < N → W p l e rmX1_victim s m args below meth c H locs 0 0 Q (F0 m 48 ls [.int (nI nh), .ref (h 0)]) := by
          intro nh hnh
          refine bs_puthand F I dX1_victim_48 (fun H locs u1 eu1 I => ?_)
          have V1 : bz_Iv N u1 := bz_Iv_same V' (by rw [eu1]; rfl) (by rw [eu1]; rfl) (by rw [eu1]; rfl) (by rw [eu1]; rfl) (by simp [eu1, bz_st, upd]) ⟨nh, hnh, by simp [eu1, bz_st, upd]⟩
          have E1 : ∀ k, k ≠ 4 → k ≠ 10 → u1 k = g k := fun k h4 h10 => by rw [eu1, bz_st_n h10]; exact hE k h4 h10
          refine lv_aload_n hx hb dX1_victim_51 rfl (lv_at hl 2 rfl) ?_
          refine lv_aload_n hx hb dX1_victim_52 rfl (lv_at hl 2 rfl) ?_
          refine bs_hand (v := nI nh) F I (by simp [eu1, bz_st, upd]) dX1_victim_53 ?_
          refine bx_ci (wd := BW h dI dZ) (rest := []) F I (metX1_payer (nI nh)) (cwX1_payer F.1.2.2.2.2 ⟨by decide, by decide⟩) (q0 := 0) rfl rfl rfl hl.1 rfl (Nat.le_of_ble_eq_true rfl) dX1_victim_56 (fun r u0 H locs hq I => ?_)
          obtain ⟨⟨kk, hkk, rfl⟩, eu0⟩ := hq
          rw [eu0] at I
          refine lv_istore (lv' := [(5, .int (nI kk)), (4, .int (nI i)), (3, .int (nI la)), (0, .ref (h 0)), (1, .int x), (2, .int y)]) hx hb dX1_victim_59 hl (by decide) rfl (fun ls hl => ?_)
          refine lv_aload_n hx hb dX1_victim_61 rfl (lv_at hl 3 rfl) ?_
          refine bs_hand (v := nI nh) F I (by simp [eu1, bz_st, upd]) dX1_victim_62 ?_
          refine lv_iload_n hx hb dX1_victim_65 rfl (lv_at hl 5 rfl) ?_
          refine lv_icmp_eq (tgt := 107) hx hb dX1_victim_66 (by decide) (fun c2 => ?_) (fun c2 => ?_)
          · refine lv_iinc (v := nI (i + 1)) (lv' := [(4, .int (nI (i + 1))), (5, .int (nI kk)), (3, .int (nI la)), (0, .ref (h 0)), (1, .int x), (2, .int y)]) hx hb dX1_victim_107 hl (k := 1) rfl (bn_inc _) (by decide) rfl (fun ls hl => ?_)
            refine lv_goto (tgt := 13) hx hb dX1_victim_110 (by decide) ?_
            exact ih (i + 1) la u1 H locs ls (by omega) (by omega) hla V1 E1 I (lv_sub hl [0, 2, 3, 4, 5] rfl)
          · refine lv_iload hx hb dX1_victim_69 (lv_at hl 0 rfl) ?_
            refine lv_iload_n hx hb dX1_victim_71 rfl (lv_at hl 4 rfl) ?_
            refine lv_icmp_ne (tgt := 107) hx hb dX1_victim_72 (by decide) (fun c3 => ?_) (fun c3 => ?_)
            · refine lv_iinc (v := nI (i + 1)) (lv' := [(4, .int (nI (i + 1))), (5, .int (nI kk)), (3, .int (nI la)), (0, .ref (h 0)), (1, .int x), (2, .int y)]) hx hb dX1_victim_107 hl (k := 1) rfl (bn_inc _) (by decide) rfl (fun ls hl => ?_)
              refine lv_goto (tgt := 13) hx hb dX1_victim_110 (by decide) ?_
              exact ih (i + 1) la u1 H locs ls (by omega) (by omega) hla V1 E1 I (lv_sub hl [0, 2, 3, 4, 5] rfl)
            · refine lv_aload_n hx hb dX1_victim_75 rfl (lv_at hl 3 rfl) ?_
              refine bs_lately F I dX1_victim_76 ?_
              refine lv_aload_n hx hb dX1_victim_79 rfl (lv_at hl 3 rfl) ?_
              refine bs_hand (v := nI nh) F I (by simp [eu1, bz_st, upd]) dX1_victim_80 ?_
              refine bs_ld4 F I (by omega) (rfl) dX1_victim_83 ?_
              refine lv_if_ne (tgt := 92) hx hb dX1_victim_84 (by decide) (fun c4 => ?_) (fun c4 => ?_)
              · refine lv_aload_n hx hb dX1_victim_92 rfl (lv_at hl 3 rfl) ?_
                refine bs_lately F I dX1_victim_93 ?_
                refine lv_aload_n hx hb dX1_victim_96 rfl (lv_at hl 3 rfl) ?_
                refine bs_hand (v := nI nh) F I (by simp [eu1, bz_st, upd]) dX1_victim_97 ?_
                refine lv_iconst (v := nI 0) hx hb dX1_victim_100 (by decide) ?_
                refine bs_st4 F I (by omega) (by decide) dX1_victim_101 (fun H locs u2 eu2 I => ?_)
                refine lv_aload_n hx hb dX1_victim_102 rfl (lv_at hl 3 rfl) ?_
                refine bs_hand (v := nI nh) F I (by simp [eu2, eu1, bz_st, upd]) dX1_victim_103 ?_
                refine lv_istore_n (lv' := [(3, .int (nI nh)), (5, .int (nI kk)), (4, .int (nI i)), (0, .ref (h 0)), (1, .int x), (2, .int y)]) hx hb dX1_victim_106 rfl hl (by decide) rfl (fun ls hl => ?_)
                refine lv_iinc (v := nI (i + 1)) (lv' := [(4, .int (nI (i + 1))), (3, .int (nI nh)), (5, .int (nI kk)), (0, .ref (h 0)), (1, .int x), (2, .int y)]) hx hb dX1_victim_107 hl (k := 2) rfl (bn_inc _) (by decide) rfl (fun ls hl => ?_)
                refine lv_goto (tgt := 13) hx hb dX1_victim_110 (by decide) ?_
                have V2 : bz_Iv N u2 := bz_Iv_same V1 (by rw [eu2]; rfl) (by rw [eu2]; rfl) (by rw [eu2]; rfl) (by rw [eu2]; rfl) (by rw [eu2]; rfl) ⟨nh, hnh, by simp [eu2, eu1, bz_st, upd]⟩
                exact ih (i + 1) nh u2 H locs ls (by omega) (by omega) hnh V2 (fun k h4 h10 => by rw [eu2, bz_st_n h4]; exact E1 k h4 h10) I (lv_sub hl [0, 1, 3, 4, 5] rfl)
              · refine lv_aload_n hx hb dX1_victim_87 rfl (lv_at hl 3 rfl) ?_
                refine bs_hand (v := nI nh) F I (by simp [eu1, bz_st, upd]) dX1_victim_88 ?_
                exact hret _ _ _ _ _ _ (⟨⟨nh, hnh, rfl⟩, V1, E1⟩) I (rfl) dX1_victim_91
        refine lv_aload_n hx hb dX1_victim_24 rfl (lv_at hl 2 rfl) ?_
        refine lv_aload_n hx hb dX1_victim_25 rfl (lv_at hl 2 rfl) ?_
        refine bs_hand (v := nI hd) F I (eh) dX1_victim_26 ?_
        refine lv_iconst (v := nI 1) hx hb dX1_victim_29 (by decide) ?_
        refine bn_add hx hb dX1_victim_30 ?_
        refine lv_aload_n hx hb dX1_victim_31 rfl (lv_at hl 2 rfl) ?_
        refine bs_frames (v := nI N) F I (V'.2.1) dX1_victim_32 ?_
        refine bn_lt (tgt := 42) hx hb dX1_victim_35 (by decide) (by omega) (by omega) (fun c5 => ?_) (fun c5 => ?_)
        · refine lv_aload_n hx hb dX1_victim_42 rfl (lv_at hl 2 rfl) ?_
          refine bs_hand (v := nI hd) F I (eh) dX1_victim_43 ?_
          refine lv_iconst (v := nI 1) hx hb dX1_victim_46 (by decide) ?_
          refine bn_add hx hb dX1_victim_47 ?_
          exact put (hd + 1) (by omega)
        · refine lv_iconst (v := nI 0) hx hb dX1_victim_38 (by decide) ?_
          refine lv_goto (tgt := 48) hx hb dX1_victim_39 (by decide) ?_
          exact put 0 (by omega)
  refine lv_iload_n hx hb dX1_victim_0 rfl (lv_at hl 2 rfl) ?_
  refine lv_if_ne (tgt := 8) hx hb dX1_victim_1 (by decide) (fun c0 => ?_) (fun c0 => ?_)
  · refine lv_iconst (v := nI 0) hx hb dX1_victim_8 (by decide) ?_
    refine lv_istore_n (lv' := [(3, .int (nI 0)), (0, .ref (h 0)), (1, .int x), (2, .int y)]) hx hb dX1_victim_9 rfl hl (by decide) rfl (fun ls hl => ?_)
    refine lv_iconst (v := nI 0) hx hb dX1_victim_10 (by decide) ?_
    refine lv_istore (lv' := [(4, .int (nI 0)), (3, .int (nI 0)), (0, .ref (h 0)), (1, .int x), (2, .int y)]) hx hb dX1_victim_11 hl (by decide) rfl (fun ls hl => ?_)
    exact loop (2 * N + 1) 0 0 g _ _ _ (by omega) (by omega) (by omega) V (fun _ _ _ => rfl) I hl
  · refine lv_iconst (v := nI 1) hx hb dX1_victim_4 (by decide) ?_
    refine lv_goto (tgt := 9) hx hb dX1_victim_5 (by decide) ?_
    refine lv_istore_n (lv' := [(3, .int (nI 1)), (0, .ref (h 0)), (1, .int x), (2, .int y)]) hx hb dX1_victim_9 rfl hl (by decide) rfl (fun ls hl => ?_)
    refine lv_iconst (v := nI 0) hx hb dX1_victim_10 (by decide) ?_
    refine lv_istore (lv' := [(4, .int (nI 0)), (3, .int (nI 1)), (0, .ref (h 0)), (1, .int x), (2, .int y)]) hx hb dX1_victim_11 hl (by decide) rfl (fun ls hl => ?_)
    exact loop (2 * N + 1) 0 1 g _ _ _ (by omega) (by omega) (by omega) V (fun _ _ _ => rfl) I hl
end
section
/-! BalloonShare: swapOut, freeFrame, ownFrame -/
/-- a page of a frame goes to no slot (its words are zeros) -/
theorem bz_sw0 {N i f : Nat} {g v u : bz_S} (V : bz_Iv N g) (d : bz_De N g i v) (hf : f < N) (ha : g 0 i = nI f) (hz : ∀ w, w < 4 → g 2 (f * 4 + w) = 0) (e : u = bz_st v 1 i (-1)) : bz_Iv N u ∧ u 2 = g 2 ∧ u 5 = g 5 ∧ bz_Sv g u ∧ u 0 = upd (g 0) i (-1) := by
  subst e
  have hN := V.1
  obtain ⟨dI, d0, d1, d2, d5, d7⟩ := d
  have z1 : v 1 i = -1 := by rw [d1, bz_us]
  have e1 : bz_st v 1 i (-1) 1 = v 1 := bz_uself z1
  have hI : bz_Iv N (bz_st v 1 i (-1)) := bz_Iv_same dI rfl e1 rfl rfl rfl dI.2.2.1
  refine ⟨hI, d2, d5, ⟨fun q hq w hw => ?_, d7⟩, d0⟩
  rw [bz_vl_de (g := g) (u := bz_st v 1 i (-1)) (p := i) d0 (by rw [e1, d1]) d2 d5 q w]
  by_cases z : q = i
  · rw [if_pos z, z, bz_vl_f (show f < 2 ^ 31 by omega) ha, hz w hw]
  · rw [if_neg z]
/-- a page of a frame goes to a slot that holds the same words -/
theorem bz_sw1 {N i f t : Nat} {g v u : bz_S} (V : bz_Iv N g) (d : bz_De N g i v) (hi : i < 24) (hf : f < N) (ht : t < 24) (ha : g 0 i = nI f) (hz : ∀ w, w < 4 → g 5 (t * 4 + w) = g 2 (f * 4 + w)) (e : u = bz_st (bz_st v 1 i (nI t)) 6 t (v 6 t + nI 1)) : bz_Iv N u ∧ u 2 = g 2 ∧ u 5 = g 5 ∧ bz_Sv g u ∧ u 0 = upd (g 0) i (-1) := by
  subst e
  have hN := V.1
  obtain ⟨dI, d0, d1, d2, d5, d7⟩ := d
  have z0 : v 0 i = -1 := by rw [d0, bz_us]
  have z1 : v 1 i = -1 := by rw [d1, bz_us]
  have hI : bz_Iv N (bz_st (bz_st v 1 i (nI t)) 6 t (v 6 t + nI 1)) := by
    refine bz_Iv_mv (p := i) (a := -1) (b := nI t) dI rfl (bz_uself z0).symm rfl (Or.inr (Or.inr ⟨t, ht, rfl, rfl⟩)) ?_ ?_
    · rw [bz_uself z0]; exact dI.2.2.2.2.1
    · exact bz_h2 (by omega) hi ht dI.2.2.2.2.2 z1
  refine ⟨hI, d2, d5, ⟨fun q hq w hw => ?_, d7⟩, d0⟩
  by_cases z : q = i
  · subst z
    rw [bz_vl_f (show f < 2 ^ 31 by omega) ha, ← hz w hw]
    rw [bz_vl_t (g := bz_st (bz_st v 1 q (nI t)) 6 t (v 6 t + nI 1)) (t := t) (by omega) z0 (show upd (v 1) q (nI t) q = nI t from bz_us)]
    show v 5 _ = g 5 _
    rw [d5]
  · refine bz_vl_congr ?_ ?_ d2 d5
    · show v 0 q = g 0 q
      rw [d0, bz_un z]
    · show upd (v 1) i (nI t) q = g 1 q
      rw [bz_un z, d1, bz_un z]
set_option maxHeartbeats 4000000 in
/-- a frame is emptied -/
theorem metX1_swapOut {l : Launch} {D : va_G} {h : Nat → Nat} {dI dZ : ClassId} {g : bz_S} {N : Nat} (V : bz_Iv N g) {f : Nat} (hf : f < N) (hz : 0 < bz_ct (g 0) f 24) : bc_v l D (bz_T dI dZ) (BW h dI dZ) yX1_swapOut cX1_swapOut 5 rmX1_swapOut [.ref (h 0), .int (nI f)] g (fun u => bz_Iv N u ∧ bz_Sv g u ∧ bz_ct (u 0) f 24 = 0) := by
  refine bc_v_of RX1 (by decide) rfl (Nat.le_of_ble_eq_true rfl) ?_
  intro p e s m args below meth c A Q ls F hl I hret
  have hx := F.1.1
  have hb := F.1.2.1
  have hl : lv_has ls 5 [(0, .ref (h 0)), (1, .int (nI f))] := hl
  have hN := V.1
  have hpg : ∃ q, q < 24 ∧ g 1 q = -1 := by
    rcases Classical.em (∃ q, q < 24 ∧ g 0 q = nI f) with ⟨q, hq, e1⟩ | hne
    · rcases V.2.2.2.1 q hq with ⟨a, b⟩ | ⟨f', hf', a, b⟩ | ⟨t, ht, a, b⟩
      · exact ⟨q, hq, b⟩
      · exact ⟨q, hq, b⟩
      · exact absurd (a.symm.trans e1) (bz_m1 (by omega))
    · have := bz_ct_none (f := g 0) (v := f) 24 (fun q hq e1 => hne ⟨q, hq, e1⟩)
      omega
  have loop4 : ∀ (sv : Int32) (g1 : bz_S) (hs : (sv = -1 ∧ ∀ w, w < 4 → g1 2 (f * 4 + w) = 0) ∨ (∃ t, t < 24 ∧ sv = nI t ∧ ∀ w, w < 4 → g1 5 (t * 4 + w) = g1 2 (f * 4 + w))) (n i : Nat) (g' : bz_S) (H : Heap) (locs : List Loc) (ls : Array Slot), i ≤ 24 → 24 < i + n → bz_Iv N g' → bz_Sv g g' → g' 2 = g1 2 → g' 5 = g1 5 → (∀ q, q < i → ¬ g' 0 q = nI f) → bx_I D A (BW h dI dZ g') s H locs → lv_has ls 5 [(4, .int (nI i)), (3, .int sv), (0, .ref (h 0)), (1, .int (nI f))] → W p l e rmX1_swapOut s m args below meth c H locs 0 0 Q (F0 m 107 ls []) := by
    intro sv g1 hs
    intro n
    induction n with
    | zero => intro i g' H locs ls h1 h2; exact absurd h2 (by omega)
    | succ n ih =>
      intro i g' H locs ls h1 h2 V' S' e2 e5 hno I hl
      refine lv_iload hx hb dX1_swapOut_107 (lv_at hl 0 rfl) ?_
      refine lv_bipush (v := nI 24) hx hb dX1_swapOut_109 (by decide) ?_
      refine bn_ge (tgt := 159) hx hb dX1_swapOut_111 (by decide) (by omega) (by omega) (fun c1 => ?_) (fun c1 => ?_)
      · refine lv_aload_n hx hb dX1_swapOut_159 rfl (lv_at hl 2 rfl) ?_
        refine bs_lately F I dX1_swapOut_160 ?_
        refine lv_iload_n hx hb dX1_swapOut_163 rfl (lv_at hl 3 rfl) ?_
        refine lv_iconst (v := nI 0) hx hb dX1_swapOut_164 (by decide) ?_
        refine bs_st4 F I (by omega) (by decide) dX1_swapOut_165 (fun H locs u1 eu1 I => ?_)
        exact hret _ _ _ _ _ (⟨bz_Iv_same V' (by rw [eu1]; rfl) (by rw [eu1]; rfl) (by rw [eu1]; rfl) (by rw [eu1]; rfl) (by rw [eu1]; rfl) (by rw [eu1]; exact V'.2.2.1), S'.trans (bz_Sv.of (by rw [eu1]; rfl) (by rw [eu1]; rfl) (by rw [eu1]; rfl) (by rw [eu1]; rfl) (by rw [eu1]; rfl)), by rw [eu1]; exact bz_ct_none 24 (fun q hq => hno q (by omega))⟩) I dX1_swapOut_166
      · refine lv_aload_n hx hb dX1_swapOut_114 rfl (lv_at hl 2 rfl) ?_
        refine bs_frameOf F I dX1_swapOut_115 ?_
        refine lv_iload hx hb dX1_swapOut_118 (lv_at hl 0 rfl) ?_
        refine bs_ld0 F I (by omega) (rfl) dX1_swapOut_120 ?_
        refine lv_iload_n hx hb dX1_swapOut_121 rfl (lv_at hl 3 rfl) ?_
        refine lv_icmp_ne (tgt := 153) hx hb dX1_swapOut_122 (by decide) (fun c2 => ?_) (fun c2 => ?_)
        · refine lv_iinc (v := nI (i + 1)) (lv' := [(4, .int (nI (i + 1))), (3, .int sv), (0, .ref (h 0)), (1, .int (nI f))]) hx hb dX1_swapOut_153 hl (k := 0) rfl (bn_inc _) (by decide) rfl (fun ls hl => ?_)
          refine lv_goto (tgt := 107) hx hb dX1_swapOut_156 (by decide) ?_
          exact ih (i + 1) g' H locs ls (by omega) (by omega) V' S' e2 e5 (fun q hq => (Nat.lt_or_eq_of_le (Nat.le_of_lt_succ hq)).elim (hno q) (fun z => by rw [z]; exact c2)) I hl
        · refine lv_aload_n hx hb dX1_swapOut_125 rfl (lv_at hl 2 rfl) ?_
          refine lv_iload hx hb dX1_swapOut_126 (lv_at hl 0 rfl) ?_
          refine bx_cv (wd := BW h dI dZ) (rest := []) F I (metX1_detach V' (show i < 24 by omega)) (cwX1_detach F.1.2.2.2.2 ⟨by decide, by decide⟩) (q0 := 0) rfl rfl rfl hl.1 rfl (Nat.le_of_ble_eq_true rfl) dX1_swapOut_128 (fun v H locs d I => ?_)
          refine lv_aload_n hx hb dX1_swapOut_131 rfl (lv_at hl 2 rfl) ?_
          refine bs_slotOf F I dX1_swapOut_132 ?_
          refine lv_iload hx hb dX1_swapOut_135 (lv_at hl 0 rfl) ?_
          refine lv_iload_n hx hb dX1_swapOut_137 rfl (lv_at hl 1 rfl) ?_
          refine bs_st1 F I (by omega) dX1_swapOut_138 (fun H locs u2 eu2 I => ?_)
          rcases hs with ⟨rfl, hz0⟩ | ⟨t, ht, rfl, hz1⟩
          · refine lv_iload_n hx hb dX1_swapOut_139 rfl (lv_at hl 1 rfl) ?_
            refine bm_iflt (tgt := 153) hx hb dX1_swapOut_140 (by decide) ?_
            refine lv_iinc (v := nI (i + 1)) (lv' := [(4, .int (nI (i + 1))), (3, .int (-1)), (0, .ref (h 0)), (1, .int (nI f))]) hx hb dX1_swapOut_153 hl (k := 0) rfl (bn_inc _) (by decide) rfl (fun ls hl => ?_)
            refine lv_goto (tgt := 107) hx hb dX1_swapOut_156 (by decide) ?_
            obtain ⟨W1, W2, W5, W3, W0⟩ := bz_sw0 V' d hf c2 (fun w hw => by rw [e2]; exact hz0 w hw) eu2
            exact ih (i + 1) u2 H locs ls (by omega) (by omega) W1 (S'.trans W3) (W2.trans e2) (W5.trans e5) (fun q hq z => by
              rw [W0] at z
              by_cases y : q = i
              · rw [y, bz_us] at z; exact bz_m1 (by omega) z
              · rw [bz_un y] at z; exact hno q (by omega) z) I hl
          · refine lv_iload_n hx hb dX1_swapOut_139 rfl (lv_at hl 1 rfl) ?_
            refine bn_iflt (tgt := 153) hx hb dX1_swapOut_140 (by decide) (by omega) ?_
            refine lv_aload_n hx hb dX1_swapOut_143 rfl (lv_at hl 2 rfl) ?_
            refine bs_slotHolders F I dX1_swapOut_144 ?_
            refine lv_iload_n hx hb dX1_swapOut_147 rfl (lv_at hl 1 rfl) ?_
            refine lv_dup2_11 hx hb dX1_swapOut_148 rfl rfl ?_
            refine bs_ld6 F I (by omega) (rfl) dX1_swapOut_149 ?_
            refine lv_iconst (v := nI 1) hx hb dX1_swapOut_150 (by decide) ?_
            refine lv_iadd hx hb dX1_swapOut_151 ?_
            refine bs_st6 F I (by omega) dX1_swapOut_152 (fun H locs u3 eu3 I => ?_)
            refine lv_iinc (v := nI (i + 1)) (lv' := [(4, .int (nI (i + 1))), (3, .int (nI t)), (0, .ref (h 0)), (1, .int (nI f))]) hx hb dX1_swapOut_153 hl (k := 0) rfl (bn_inc _) (by decide) rfl (fun ls hl => ?_)
            refine lv_goto (tgt := 107) hx hb dX1_swapOut_156 (by decide) ?_
            obtain ⟨W1, W2, W5, W3, W0⟩ := bz_sw1 (u := u3) V' d (by omega) hf ht c2 (fun w hw => by rw [e2, e5]; exact hz1 w hw) (by rw [eu3, eu2]; rfl)
            exact ih (i + 1) u3 H locs ls (by omega) (by omega) W1 (S'.trans W3) (W2.trans e2) (W5.trans e5) (fun q hq z => by
              rw [W0] at z
              by_cases y : q = i
              · rw [y, bz_us] at z; exact bz_m1 (by omega) z
              · rw [bz_un y] at z; exact hno q (by omega) z) I hl
  have loop3 : ∀ (t b : Nat) (ht : t < 24) (hct : bz_ct (g 1) t 24 = 0) (n w : Nat) (g' : bz_S) (H : Heap) (locs : List Loc) (ls : Array Slot), w ≤ 4 → 4 < w + n → (∀ k, k ≠ 5 → g' k = g k) → (∀ j, ¬ (t * 4 ≤ j ∧ j < t * 4 + 4) → g' 5 j = g 5 j) → (∀ j, j < w → g' 5 (t * 4 + j) = g 2 (f * 4 + j)) → bx_I D A (BW h dI dZ g') s H locs → lv_has ls 5 [(4, .int (nI w)), (3, .int (nI t)), (2, .int (nI b)), (0, .ref (h 0)), (1, .int (nI f))] → W p l e rmX1_swapOut s m args below meth c H locs 0 0 Q (F0 m 70 ls []) := by
    intro t b ht hct
    intro n
    induction n with
    | zero => intro w g' H locs ls h1 h2; exact absurd h2 (by omega)
    | succ n ih =>
      intro w g' H locs ls h1 h2 hE hO hC I hl
      refine lv_iload hx hb dX1_swapOut_70 (lv_at hl 0 rfl) ?_
      refine lv_iconst (v := nI 4) hx hb dX1_swapOut_72 (by decide) ?_
      refine bn_ge (tgt := 104) hx hb dX1_swapOut_73 (by decide) (by omega) (by omega) (fun c1 => ?_) (fun c1 => ?_)
      · refine lv_iconst (v := nI 0) hx hb dX1_swapOut_104 (by decide) ?_
        refine lv_istore (lv' := [(4, .int (nI 0)), (3, .int (nI t)), (2, .int (nI b)), (0, .ref (h 0)), (1, .int (nI f))]) hx hb dX1_swapOut_105 hl (by decide) rfl (fun ls hl => ?_)
        have V' : bz_Iv N g' := bz_Iv_same V (hE 0 (by decide)) (hE 1 (by decide)) (hE 3 (by decide)) (hE 6 (by decide)) (by rw [hE 10 (by decide)]) (by rw [hE 10 (by decide)]; exact V.2.2.1)
        have S' : bz_Sv g g' := ⟨fun p hp w hw => bz_vl_sl V ht hct (hE 0 (by decide)) (hE 1 (by decide)) (hE 2 (by decide)) hO hp hw, hE 7 (by decide)⟩
        exact loop4 (nI t) g' (Or.inr ⟨t, ht, rfl, fun w hw => by rw [hE 2 (by decide)]; exact hC w (by omega)⟩) 25 0 g' H locs ls (by omega) (by omega) V' S' rfl rfl (fun q hq => absurd hq (by omega)) I (lv_sub hl [0, 1, 3, 4] rfl)
      · refine lv_aload_n hx hb dX1_swapOut_76 rfl (lv_at hl 3 rfl) ?_
        refine bs_inSlot F I dX1_swapOut_77 ?_
        refine lv_iload_n hx hb dX1_swapOut_80 rfl (lv_at hl 1 rfl) ?_
        refine lv_iconst (v := nI 4) hx hb dX1_swapOut_81 (by decide) ?_
        refine bn_mul hx hb dX1_swapOut_82 ?_
        refine lv_iload hx hb dX1_swapOut_83 (lv_at hl 0 rfl) ?_
        refine bn_add hx hb dX1_swapOut_85 ?_
        refine lv_aload_n hx hb dX1_swapOut_86 rfl (lv_at hl 3 rfl) ?_
        refine bs_inFrame F I dX1_swapOut_87 ?_
        refine lv_iload_n hx hb dX1_swapOut_90 rfl (lv_at hl 4 rfl) ?_
        refine lv_iconst (v := nI 4) hx hb dX1_swapOut_91 (by decide) ?_
        refine bn_mul hx hb dX1_swapOut_92 ?_
        refine lv_iload hx hb dX1_swapOut_93 (lv_at hl 0 rfl) ?_
        refine bn_add hx hb dX1_swapOut_95 ?_
        refine bs_ld2 F I (by omega) (rfl) dX1_swapOut_96 ?_
        refine bs_st5 F I (by omega) dX1_swapOut_97 (fun H locs u4 eu4 I => ?_)
        refine lv_iinc (v := nI (w + 1)) (lv' := [(4, .int (nI (w + 1))), (3, .int (nI t)), (2, .int (nI b)), (0, .ref (h 0)), (1, .int (nI f))]) hx hb dX1_swapOut_98 hl (k := 0) rfl (bn_inc _) (by decide) rfl (fun ls hl => ?_)
        refine lv_goto (tgt := 70) hx hb dX1_swapOut_101 (by decide) ?_
        exact ih (w + 1) u4 H locs ls (by omega) (by omega) (fun k hk => by rw [eu4, bz_st_n hk]; exact hE k hk) (fun j hj => by rw [eu4, bz_st_s, bz_un (by omega)]; exact hO j hj) (fun j hj => by
          rw [eu4, bz_st_s]
          by_cases z : j = w
          · rw [z, bz_us, hE 2 (by decide)]
          · rw [bz_un (by omega)]; exact hC j (by omega)) I hl
  have loop2 : ∀ (b n t : Nat) (H : Heap) (locs : List Loc) (ls : Array Slot), t ≤ 23 → 23 < t + n → (∀ v, v < t → 0 < bz_ct (g 1) v 24) → bx_I D A (BW h dI dZ g) s H locs → lv_has ls 5 [(3, .int (nI t)), (2, .int (nI b)), (0, .ref (h 0)), (1, .int (nI f))] → W p l e rmX1_swapOut s m args below meth c H locs 0 0 Q (F0 m 46 ls []) := by
    intro b
    intro n
    induction n with
    | zero => intro t H locs ls h1 h2; exact absurd h2 (by omega)
    | succ n ih =>
      intro t H locs ls h1 h2 hH I hl
      have hcl := bz_ct_le (g 1) t 24
      have go : ∀ (H : Heap) (locs : List Loc) (ls : Array Slot), bz_ct (g 1) t 24 = 0 → bx_I D A (BW h dI dZ g) s H locs → lv_has ls 5 [(3, .int (nI t)), (2, .int (nI b)), (0, .ref (h 0)), (1, .int (nI f))] → W p l e rmX1_swapOut s m args below meth c H locs 0 0 Q (F0 m 67 ls []) := by
        intro H locs ls hct I hl
        refine lv_iconst (v := nI 0) hx hb dX1_swapOut_67 (by decide) ?_
        refine lv_istore (lv' := [(4, .int (nI 0)), (3, .int (nI t)), (2, .int (nI b)), (0, .ref (h 0)), (1, .int (nI f))]) hx hb dX1_swapOut_68 hl (by decide) rfl (fun ls hl => ?_)
        exact loop3 t b (by omega) hct 5 0 g H locs ls (by omega) (by omega) (fun _ _ => rfl) (fun _ _ => rfl) (fun j hj => absurd hj (by omega)) I hl
      refine lv_iload_n hx hb dX1_swapOut_46 rfl (lv_at hl 0 rfl) ?_
      refine lv_bipush (v := nI 23) hx hb dX1_swapOut_47 (by decide) ?_
      refine bn_ge (tgt := 67) hx hb dX1_swapOut_49 (by decide) (by omega) (by omega) (fun c1 => ?_) (fun c1 => ?_)
      · have e23 : t = 23 := by omega
        obtain ⟨q, hq, hq1⟩ := hpg
        exact go H locs ls (by rw [e23]; exact bz_free23 hq hq1 (fun v hv => hH v (by omega))) I hl
      · refine lv_aload_n hx hb dX1_swapOut_52 rfl (lv_at hl 2 rfl) ?_
        refine bs_slotHolders F I dX1_swapOut_53 ?_
        refine lv_iload_n hx hb dX1_swapOut_56 rfl (lv_at hl 0 rfl) ?_
        refine bs_ld6 (v := nI (bz_ct (g 1) t 24)) F I (by omega) (V.2.2.2.2.2 t (by omega)) dX1_swapOut_57 ?_
        refine bn_ifle (tgt := 67) hx hb dX1_swapOut_58 (by decide) (by omega) (fun c2 => ?_) (fun c2 => ?_)
        · exact go H locs ls c2 I hl
        · refine lv_iinc (v := nI (t + 1)) (lv' := [(3, .int (nI (t + 1))), (2, .int (nI b)), (0, .ref (h 0)), (1, .int (nI f))]) hx hb dX1_swapOut_61 hl (k := 0) rfl (bn_inc _) (by decide) rfl (fun ls hl => ?_)
          refine lv_goto (tgt := 46) hx hb dX1_swapOut_64 (by decide) ?_
          exact ih (t + 1) H locs ls (by omega) (by omega) (fun v hv => (Nat.lt_or_eq_of_le (Nat.le_of_lt_succ hv)).elim (hH v) (fun z => by rw [z]; exact c2)) I hl
  have loop1 : ∀ (n w b : Nat) (H : Heap) (locs : List Loc) (ls : Array Slot), w ≤ 4 → 4 < w + n → b ≤ 1 → (0 < b → ∀ j, j < w → g 2 (f * 4 + j) = 0) → bx_I D A (BW h dI dZ g) s H locs → lv_has ls 5 [(3, .int (nI w)), (2, .int (nI b)), (0, .ref (h 0)), (1, .int (nI f))] → W p l e rmX1_swapOut s m args below meth c H locs 0 0 Q (F0 m 4 ls []) := by
    intro n
    induction n with
    | zero => intro w b H locs ls h1 h2; exact absurd h2 (by omega)
    | succ n ih =>
      intro w b H locs ls h1 h2 hb1 hZ I hl
      refine lv_iload_n hx hb dX1_swapOut_4 rfl (lv_at hl 0 rfl) ?_
      refine lv_iconst (v := nI 4) hx hb dX1_swapOut_5 (by decide) ?_
      refine bn_ge (tgt := 38) hx hb dX1_swapOut_6 (by decide) (by omega) (by omega) (fun c1 => ?_) (fun c1 => ?_)
      · refine lv_iconst (v := (-1)) hx hb dX1_swapOut_38 (by decide) ?_
        refine lv_istore_n (lv' := [(3, .int (-1)), (2, .int (nI b)), (0, .ref (h 0)), (1, .int (nI f))]) hx hb dX1_swapOut_39 rfl hl (by decide) rfl (fun ls hl => ?_)
        refine lv_iload_n hx hb dX1_swapOut_40 rfl (lv_at hl 1 rfl) ?_
        refine bn_ifne (tgt := 104) hx hb dX1_swapOut_41 (by decide) (by omega) (fun c2 => ?_) (fun c2 => ?_)
        · refine lv_iconst (v := nI 0) hx hb dX1_swapOut_104 (by decide) ?_
          refine lv_istore (lv' := [(4, .int (nI 0)), (3, .int (-1)), (2, .int (nI b)), (0, .ref (h 0)), (1, .int (nI f))]) hx hb dX1_swapOut_105 hl (by decide) rfl (fun ls hl => ?_)
          exact loop4 (-1) g (Or.inl ⟨rfl, fun w hw => hZ c2 w (by omega)⟩) 25 0 g H locs ls (by omega) (by omega) V bz_Sv.refl rfl rfl (fun q hq => absurd hq (by omega)) I (lv_sub hl [0, 1, 3, 4] rfl)
        · refine lv_iconst (v := nI 0) hx hb dX1_swapOut_44 (by decide) ?_
          refine lv_istore_n (lv' := [(3, .int (nI 0)), (2, .int (nI b)), (0, .ref (h 0)), (1, .int (nI f))]) hx hb dX1_swapOut_45 rfl hl (by decide) rfl (fun ls hl => ?_)
          exact loop2 b 24 0 H locs ls (by omega) (by omega) (fun v hv => absurd hv (by omega)) I hl
      · refine lv_iload_n hx hb dX1_swapOut_9 rfl (lv_at hl 1 rfl) ?_
        refine bn_ifeq (tgt := 30) hx hb dX1_swapOut_10 (by decide) (by omega) (fun c2 => ?_) (fun c2 => ?_)
        · refine lv_iconst (v := nI 0) hx hb dX1_swapOut_30 (by decide) ?_
          refine lv_istore_n (lv' := [(2, .int (nI 0)), (3, .int (nI w)), (0, .ref (h 0)), (1, .int (nI f))]) hx hb dX1_swapOut_31 rfl hl (by decide) rfl (fun ls hl => ?_)
          refine lv_iinc (v := nI (w + 1)) (lv' := [(3, .int (nI (w + 1))), (2, .int (nI 0)), (0, .ref (h 0)), (1, .int (nI f))]) hx hb dX1_swapOut_32 hl (k := 1) rfl (bn_inc _) (by decide) rfl (fun ls hl => ?_)
          refine lv_goto (tgt := 4) hx hb dX1_swapOut_35 (by decide) ?_
          exact ih (w + 1) 0 H locs ls (by omega) (by omega) (by omega) (fun z => absurd z (by omega)) I hl
        · refine lv_aload_n hx hb dX1_swapOut_13 rfl (lv_at hl 2 rfl) ?_
          refine bs_inFrame F I dX1_swapOut_14 ?_
          refine lv_iload_n hx hb dX1_swapOut_17 rfl (lv_at hl 3 rfl) ?_
          refine lv_iconst (v := nI 4) hx hb dX1_swapOut_18 (by decide) ?_
          refine bn_mul hx hb dX1_swapOut_19 ?_
          refine lv_iload_n hx hb dX1_swapOut_20 rfl (lv_at hl 0 rfl) ?_
          refine bn_add hx hb dX1_swapOut_21 ?_
          refine bs_ld2 F I (by omega) (rfl) dX1_swapOut_22 ?_
          refine lv_if_ne (tgt := 30) hx hb dX1_swapOut_23 (by decide) (fun c3 => ?_) (fun c3 => ?_)
          · refine lv_iconst (v := nI 0) hx hb dX1_swapOut_30 (by decide) ?_
            refine lv_istore_n (lv' := [(2, .int (nI 0)), (3, .int (nI w)), (0, .ref (h 0)), (1, .int (nI f))]) hx hb dX1_swapOut_31 rfl hl (by decide) rfl (fun ls hl => ?_)
            refine lv_iinc (v := nI (w + 1)) (lv' := [(3, .int (nI (w + 1))), (2, .int (nI 0)), (0, .ref (h 0)), (1, .int (nI f))]) hx hb dX1_swapOut_32 hl (k := 1) rfl (bn_inc _) (by decide) rfl (fun ls hl => ?_)
            refine lv_goto (tgt := 4) hx hb dX1_swapOut_35 (by decide) ?_
            exact ih (w + 1) 0 H locs ls (by omega) (by omega) (by omega) (fun z => absurd z (by omega)) I hl
          · refine lv_iconst (v := nI 1) hx hb dX1_swapOut_26 (by decide) ?_
            refine lv_goto (tgt := 31) hx hb dX1_swapOut_27 (by decide) ?_
            refine lv_istore_n (lv' := [(2, .int (nI 1)), (3, .int (nI w)), (0, .ref (h 0)), (1, .int (nI f))]) hx hb dX1_swapOut_31 rfl hl (by decide) rfl (fun ls hl => ?_)
            refine lv_iinc (v := nI (w + 1)) (lv' := [(3, .int (nI (w + 1))), (2, .int (nI 1)), (0, .ref (h 0)), (1, .int (nI f))]) hx hb dX1_swapOut_32 hl (k := 1) rfl (bn_inc _) (by decide) rfl (fun ls hl => ?_)
            refine lv_goto (tgt := 4) hx hb dX1_swapOut_35 (by decide) ?_
            exact ih (w + 1) 1 H locs ls (by omega) (by omega) (by omega) (fun _ j hj => (Nat.lt_or_eq_of_le (Nat.le_of_lt_succ hj)).elim (hZ c2 j) (fun z => by rw [z]; exact c3)) I hl
  refine lv_iconst (v := nI 1) hx hb dX1_swapOut_0 (by decide) ?_
  refine lv_istore_n (lv' := [(2, .int (nI 1)), (0, .ref (h 0)), (1, .int (nI f))]) hx hb dX1_swapOut_1 rfl hl (by decide) rfl (fun ls hl => ?_)
  refine lv_iconst (v := nI 0) hx hb dX1_swapOut_2 (by decide) ?_
  refine lv_istore_n (lv' := [(3, .int (nI 0)), (2, .int (nI 1)), (0, .ref (h 0)), (1, .int (nI f))]) hx hb dX1_swapOut_3 rfl hl (by decide) rfl (fun ls hl => ?_)
  exact loop1 5 0 1 _ _ _ (by omega) (by omega) (by omega) (fun _ j hj => absurd hj (by omega)) I hl
set_option maxHeartbeats 4000000 in
/-- a frame that no page holds -/
theorem metX1_freeFrame {l : Launch} {D : va_G} {h : Nat → Nat} {dI dZ : ClassId} {g : bz_S} {N : Nat} (V : bz_Iv N g) (x : Int32) : bc_i l D (bz_T dI dZ) (BW h dI dZ) yX1_freeFrame cX1_freeFrame 4 .int rmX1_freeFrame [.ref (h 0), .int x] g (fun r u => ∃ f, f < N ∧ r = nI f ∧ bz_Iv N u ∧ bz_Sv g u ∧ bz_ct (u 0) f 24 = 0) := by
  refine bc_i_of RX1 (by decide) rfl (Nat.le_of_ble_eq_true rfl) ?_
  intro p e s m args below meth c A Q ls F hl I hret
  have hx := F.1.1
  have hb := F.1.2.1
  have hl : lv_has ls 4 [(0, .ref (h 0)), (1, .int x)] := hl
  have hN := V.1
  have loop : ∀ (n i : Nat) (H : Heap) (locs : List Loc) (ls : Array Slot), i ≤ N → N < i + n → (∀ f, f < i → 0 < bz_ct (g 0) f 24) → bx_I D A (BW h dI dZ g) s H locs → lv_has ls 4 [(2, .int (nI i)), (0, .ref (h 0)), (1, .int x)] → W p l e rmX1_freeFrame s m args below meth c H locs 0 0 Q (F0 m 2 ls []) := by
    intro n
    induction n with
    | zero => intro i H locs ls h1 h2; exact absurd h2 (by omega)
    | succ n ih =>
      intro i H locs ls h1 h2 hH I hl
      have hcl := bz_ct_le (g 0) i 24
      refine lv_iload_n hx hb dX1_freeFrame_2 rfl (lv_at hl 0 rfl) ?_
      refine lv_aload_n hx hb dX1_freeFrame_3 rfl (lv_at hl 1 rfl) ?_
      refine bs_frames (v := nI N) F I (V.2.1) dX1_freeFrame_4 ?_
      refine bn_ge (tgt := 27) hx hb dX1_freeFrame_7 (by decide) (by omega) (by omega) (fun c1 => ?_) (fun c1 => ?_)
      · refine lv_aload_n hx hb dX1_freeFrame_27 rfl (lv_at hl 1 rfl) ?_
        refine bx_cv (wd := BW h dI dZ) (rest := []) F I (metX1_charge V) (cwX1_charge F.1.2.2.2.2 ⟨by decide, by decide⟩) (q0 := 0) rfl rfl rfl hl.1 rfl (Nat.le_of_ble_eq_true rfl) dX1_freeFrame_28 (fun v1 H locs E1 I => ?_)
        have V1 : bz_Iv N v1 := bz_Iv_same V (E1 0 (by decide) (by decide)) (E1 1 (by decide) (by decide)) (E1 3 (by decide) (by decide)) (E1 6 (by decide) (by decide)) (by rw [E1 10 (by decide) (by decide)]) (by rw [E1 10 (by decide) (by decide)]; exact V.2.2.1)
        have S1 : bz_Sv g v1 := bz_Sv.of (E1 0 (by decide) (by decide)) (E1 1 (by decide) (by decide)) (E1 2 (by decide) (by decide)) (E1 5 (by decide) (by decide)) (E1 7 (by decide) (by decide))
        refine lv_aload_n hx hb dX1_freeFrame_31 rfl (lv_at hl 1 rfl) ?_
        refine lv_iload_n hx hb dX1_freeFrame_32 rfl (lv_at hl 2 rfl) ?_
        refine bx_ci (wd := BW h dI dZ) (rest := []) F I (metX1_poorest x) (cwX1_poorest F.1.2.2.2.2 ⟨by decide, by decide⟩) (q0 := 0) rfl rfl rfl hl.1 rfl (Nat.le_of_ble_eq_true rfl) dX1_freeFrame_33 (fun po v2 H locs ev2 I => ?_)
        rw [ev2] at I
        refine lv_istore_n (lv' := [(2, .int po), (0, .ref (h 0)), (1, .int x)]) hx hb dX1_freeFrame_36 rfl hl (by decide) rfl (fun ls hl => ?_)
        refine lv_aload_n hx hb dX1_freeFrame_37 rfl (lv_at hl 1 rfl) ?_
        refine lv_iload_n hx hb dX1_freeFrame_38 rfl (lv_at hl 0 rfl) ?_
        refine lv_iload_n hx hb dX1_freeFrame_39 rfl (lv_at hl 2 rfl) ?_
        refine bx_ci (wd := BW h dI dZ) (rest := []) F I (metX1_victim V1 po x) (cwX1_victim F.1.2.2.2.2 ⟨by decide, by decide⟩) (q0 := 0) rfl rfl rfl hl.1 rfl (Nat.le_of_ble_eq_true rfl) dX1_freeFrame_40 (fun r3 v3 H locs hq I => ?_)
        obtain ⟨⟨f, hf, rfl⟩, V3, E3⟩ := hq
        have S3 : bz_Sv v1 v3 := bz_Sv.of (E3 0 (by decide) (by decide)) (E3 1 (by decide) (by decide)) (E3 2 (by decide) (by decide)) (E3 5 (by decide) (by decide)) (E3 7 (by decide) (by decide))
        have hct : 0 < bz_ct (v3 0) f 24 := by rw [E3 0 (by decide) (by decide), E1 0 (by decide) (by decide)]; exact hH f (by omega)
        refine lv_istore_n (lv' := [(3, .int (nI f)), (2, .int po), (0, .ref (h 0)), (1, .int x)]) hx hb dX1_freeFrame_43 rfl hl (by decide) rfl (fun ls hl => ?_)
        refine lv_aload_n hx hb dX1_freeFrame_44 rfl (lv_at hl 2 rfl) ?_
        refine lv_iload_n hx hb dX1_freeFrame_45 rfl (lv_at hl 0 rfl) ?_
        refine bx_cv (wd := BW h dI dZ) (rest := []) F I (metX1_swapOut V3 hf hct) (cwX1_swapOut F.1.2.2.2.2 ⟨by decide, by decide⟩) (q0 := 0) rfl rfl rfl hl.1 rfl (Nat.le_of_ble_eq_true rfl) dX1_freeFrame_46 (fun v4 H locs hs I => ?_)
        refine lv_iload_n hx hb dX1_freeFrame_49 rfl (lv_at hl 0 rfl) ?_
        exact hret _ _ _ _ _ _ (⟨f, hf, rfl, hs.1, (S1.trans S3).trans hs.2.1, hs.2.2⟩) I (rfl) dX1_freeFrame_50
      · refine lv_aload_n hx hb dX1_freeFrame_10 rfl (lv_at hl 1 rfl) ?_
        refine bs_holders F I dX1_freeFrame_11 ?_
        refine lv_iload_n hx hb dX1_freeFrame_14 rfl (lv_at hl 0 rfl) ?_
        refine bs_ld3 (v := nI (bz_ct (g 0) i 24)) F I (by omega) (V.2.2.2.2.1 i (by omega)) dX1_freeFrame_15 ?_
        refine bn_ifne (tgt := 21) hx hb dX1_freeFrame_16 (by decide) (by omega) (fun c2 => ?_) (fun c2 => ?_)
        · refine lv_iinc (v := nI (i + 1)) (lv' := [(2, .int (nI (i + 1))), (0, .ref (h 0)), (1, .int x)]) hx hb dX1_freeFrame_21 hl (k := 0) rfl (bn_inc _) (by decide) rfl (fun ls hl => ?_)
          refine lv_goto (tgt := 2) hx hb dX1_freeFrame_24 (by decide) ?_
          exact ih (i + 1) H locs ls (by omega) (by omega) (fun v hv => (Nat.lt_or_eq_of_le (Nat.le_of_lt_succ hv)).elim (hH v) (fun z => by rw [z]; exact c2)) I hl
        · refine lv_iload_n hx hb dX1_freeFrame_19 rfl (lv_at hl 0 rfl) ?_
          exact hret _ _ _ _ _ _ (⟨i, by omega, rfl, V, bz_Sv.refl, c2⟩) I (rfl) dX1_freeFrame_20
  refine lv_iconst (v := nI 0) hx hb dX1_freeFrame_0 (by decide) ?_
  refine lv_istore_n (lv' := [(2, .int (nI 0)), (0, .ref (h 0)), (1, .int x)]) hx hb dX1_freeFrame_1 rfl hl (by decide) rfl (fun ls hl => ?_)
  exact loop (N + 1) 0 _ _ _ (by omega) (by omega) (fun f hf => absurd hf (by omega)) I hl
/-- page pg is alone in frame f, which holds its words -/
def bz_Ow (N : Nat) (g : bz_S) (pg f : Nat) (u : bz_S) : Prop := bz_Iv N u ∧ bz_Sv g u ∧ u 0 pg = nI f ∧ ∀ q, q < 24 → q ≠ pg → ¬ u 0 q = nI f
theorem bz_own {N pg f : Nat} {g g' v u : bz_S} (V' : bz_Iv N g') (S' : bz_Sv g g') (hp : pg < 24) (hf : f < N) (hct : bz_ct (g' 0) f 24 = 0) (hw : ∀ j, j < 4 → g' 2 (f * 4 + j) = bz_vl g pg j) (d : bz_De N g' pg v) (e : u = bz_st (bz_st (bz_st v 0 pg (nI f)) 3 f (nI 1)) 4 f (nI 1)) : bz_Ow N g pg f u := by
  have hN := V'.1
  obtain ⟨dI, d0, d1, d2, d5, d7⟩ := d
  have z0 : v 0 pg = -1 := by rw [d0, bz_us]
  have z1 : v 1 pg = -1 := by rw [d1, bz_us]
  have nz := bz_ct_zero 24 hct
  have c0 : bz_ct (v 0) f 24 = 0 := bz_ct_none 24 (fun q hq z => by
    rw [d0] at z
    by_cases y : q = pg
    · rw [y, bz_us] at z; exact bz_m1 (by omega) z
    · rw [bz_un y] at z; exact nz q hq z)
  have h3f : v 3 f + nI 1 = nI 1 := by rw [dI.2.2.2.2.1 f hf, c0, nI_add]
  have e0 : u 0 = upd (v 0) pg (nI f) := by rw [e]; rfl
  have e1 : u 1 = upd (v 1) pg (-1) := by rw [e]; exact (bz_uself z1).symm
  have hI : bz_Iv N u := by
    refine bz_Iv_mv (p := pg) (a := nI f) (b := -1) dI (by rw [e]; rfl) e0 e1 (Or.inr (Or.inl ⟨f, hf, rfl, rfl⟩)) ?_ ?_
    · have q := bz_h2 (show N ≤ 24 by omega) hp hf dI.2.2.2.2.1 z0
      have h3 : u 3 = upd (v 3) f (v 3 f + 1) := by
        rw [e, show v 3 f + 1 = nI 1 from h3f]
        rfl
      rw [h3]
      exact q
    · rw [bz_uself z1, show u 6 = v 6 by rw [e]; rfl]
      exact dI.2.2.2.2.2
  refine ⟨hI, ⟨fun q hq w hw4 => ?_, by rw [show u 7 = v 7 by rw [e]; rfl, d7]; exact S'.2⟩, by rw [e0, bz_us], fun q hq y z => ?_⟩
  · have e2 : u 2 = g' 2 := by rw [show u 2 = v 2 by rw [e]; rfl, d2]
    have e5 : u 5 = g' 5 := by rw [show u 5 = v 5 by rw [e]; rfl, d5]
    by_cases y : q = pg
    · rw [y, bz_vl_f (show f < 2 ^ 31 by omega) (show u 0 pg = nI f by rw [e0, bz_us]), e2]
      exact hw w hw4
    · rw [← S'.1 q hq w hw4]
      exact bz_vl_congr (by rw [e0, bz_un y, d0, bz_un y]) (by rw [e1, bz_un y, d1, bz_un y]) e2 e5
  · rw [e0, bz_un y, d0, bz_un y] at z
    exact nz q hq z
set_option maxHeartbeats 4000000 in
/-- a page in a frame of its own -/
theorem metX1_ownFrame {l : Launch} {D : va_G} {h : Nat → Nat} {dI dZ : ClassId} {g : bz_S} {N : Nat} (V : bz_Iv N g) {pg : Nat} (hp : pg < 24) : bc_i l D (bz_T dI dZ) (BW h dI dZ) yX1_ownFrame cX1_ownFrame 5 .int rmX1_ownFrame [.ref (h 0), .int (nI pg)] g (fun r u => ∃ f, f < N ∧ r = nI f ∧ bz_Ow N g pg f u) := by
  refine bc_i_of RX1 (by decide) rfl (Nat.le_of_ble_eq_true rfl) ?_
  intro p e s m args below meth c A Q ls F hl I hret
  have hx := F.1.1
  have hb := F.1.2.1
  have hl : lv_has ls 5 [(0, .ref (h 0)), (1, .int (nI pg))] := hl
  have hN := V.1
  have at30 : ∀ (od : Int32) (H : Heap) (locs : List Loc) (ls : Array Slot), bx_I D A (BW h dI dZ g) s H locs → lv_has ls 5 [(2, .int od), (0, .ref (h 0)), (1, .int (nI pg))] → W p l e rmX1_ownFrame s m args below meth c H locs 0 0 Q (F0 m 30 ls []) := by
    intro od H locs ls I hl
    refine lv_aload_n hx hb dX1_ownFrame_30 rfl (lv_at hl 1 rfl) ?_
    refine lv_iload_n hx hb dX1_ownFrame_31 rfl (lv_at hl 0 rfl) ?_
    refine bx_ci (wd := BW h dI dZ) (rest := []) F I (metX1_freeFrame V od) (cwX1_freeFrame F.1.2.2.2.2 ⟨by decide, by decide⟩) (q0 := 0) rfl rfl rfl hl.1 rfl (Nat.le_of_ble_eq_true rfl) dX1_ownFrame_32 (fun r1 v1 H locs hq I => ?_)
    obtain ⟨f, hf, rfl, V1, S1, hct⟩ := hq
    have loop : ∀ (n w : Nat) (g' : bz_S) (H : Heap) (locs : List Loc) (ls : Array Slot), w ≤ 4 → 4 < w + n → bz_Iv N g' → bz_Sv g g' → bz_ct (g' 0) f 24 = 0 → (∀ j, j < w → g' 2 (f * 4 + j) = bz_vl g pg j) → bx_I D A (BW h dI dZ g') s H locs → lv_has ls 5 [(4, .int (nI w)), (3, .int (nI f)), (2, .int od), (0, .ref (h 0)), (1, .int (nI pg))] → W p l e rmX1_ownFrame s m args below meth c H locs 0 0 Q (F0 m 39 ls []) := by
      intro n
      induction n with
      | zero => intro w g' H locs ls h1 h2; exact absurd h2 (by omega)
      | succ n ih =>
        intro w g' H locs ls h1 h2 V' S' hc' hw' I hl
        refine lv_iload hx hb dX1_ownFrame_39 (lv_at hl 0 rfl) ?_
        refine lv_iconst (v := nI 4) hx hb dX1_ownFrame_41 (by decide) ?_
        refine bn_ge (tgt := 69) hx hb dX1_ownFrame_42 (by decide) (by omega) (by omega) (fun c1 => ?_) (fun c1 => ?_)
        · refine lv_aload_n hx hb dX1_ownFrame_69 rfl (lv_at hl 3 rfl) ?_
          refine lv_iload_n hx hb dX1_ownFrame_70 rfl (lv_at hl 4 rfl) ?_
          refine bx_cv (wd := BW h dI dZ) (rest := []) F I (metX1_detach V' hp) (cwX1_detach F.1.2.2.2.2 ⟨by decide, by decide⟩) (q0 := 0) rfl rfl rfl hl.1 rfl (Nat.le_of_ble_eq_true rfl) dX1_ownFrame_71 (fun v H locs d I => ?_)
          refine lv_aload_n hx hb dX1_ownFrame_74 rfl (lv_at hl 3 rfl) ?_
          refine bs_frameOf F I dX1_ownFrame_75 ?_
          refine lv_iload_n hx hb dX1_ownFrame_78 rfl (lv_at hl 4 rfl) ?_
          refine lv_iload_n hx hb dX1_ownFrame_79 rfl (lv_at hl 1 rfl) ?_
          refine bs_st0 F I (by omega) dX1_ownFrame_80 (fun H locs u1 eu1 I => ?_)
          refine lv_aload_n hx hb dX1_ownFrame_81 rfl (lv_at hl 3 rfl) ?_
          refine bs_holders F I dX1_ownFrame_82 ?_
          refine lv_iload_n hx hb dX1_ownFrame_85 rfl (lv_at hl 1 rfl) ?_
          refine lv_iconst (v := nI 1) hx hb dX1_ownFrame_86 (by decide) ?_
          refine bs_st3 F I (by omega) dX1_ownFrame_87 (fun H locs u2 eu2 I => ?_)
          refine lv_aload_n hx hb dX1_ownFrame_88 rfl (lv_at hl 3 rfl) ?_
          refine bs_lately F I dX1_ownFrame_89 ?_
          refine lv_iload_n hx hb dX1_ownFrame_92 rfl (lv_at hl 1 rfl) ?_
          refine lv_iconst (v := nI 1) hx hb dX1_ownFrame_93 (by decide) ?_
          refine bs_st4 F I (by omega) (by decide) dX1_ownFrame_94 (fun H locs u3 eu3 I => ?_)
          refine lv_iload_n hx hb dX1_ownFrame_95 rfl (lv_at hl 1 rfl) ?_
          exact hret _ _ _ _ _ _ (⟨f, hf, rfl, bz_own V' S' hp hf hc' (fun j hj => hw' j (by omega)) d (by rw [eu3, eu2, eu1])⟩) I (rfl) dX1_ownFrame_96
        · refine lv_aload_n hx hb dX1_ownFrame_45 rfl (lv_at hl 3 rfl) ?_
          refine bs_inFrame F I dX1_ownFrame_46 ?_
          refine lv_iload_n hx hb dX1_ownFrame_49 rfl (lv_at hl 1 rfl) ?_
          refine lv_iconst (v := nI 4) hx hb dX1_ownFrame_50 (by decide) ?_
          refine bn_mul hx hb dX1_ownFrame_51 ?_
          refine lv_iload hx hb dX1_ownFrame_52 (lv_at hl 0 rfl) ?_
          refine bn_add hx hb dX1_ownFrame_54 ?_
          refine lv_aload_n hx hb dX1_ownFrame_55 rfl (lv_at hl 3 rfl) ?_
          refine lv_iload_n hx hb dX1_ownFrame_56 rfl (lv_at hl 4 rfl) ?_
          refine lv_iload hx hb dX1_ownFrame_57 (lv_at hl 0 rfl) ?_
          refine bx_ci (wd := BW h dI dZ) (rest := [.int (nI ((f * 4) + w)), .ref (h 3)]) F I (metX1_wordOf V' hp (show w < 4 by omega)) (cwX1_wordOf F.1.2.2.2.2 ⟨by decide, by decide⟩) (q0 := 0) rfl rfl rfl hl.1 rfl (Nat.le_of_ble_eq_true rfl) dX1_ownFrame_59 (fun r2 v2 H locs hq2 I => ?_)
          rw [hq2.2] at I
          refine bs_st2 F I (by omega) dX1_ownFrame_62 (fun H locs u4 eu4 I => ?_)
          refine lv_iinc (v := nI (w + 1)) (lv' := [(4, .int (nI (w + 1))), (3, .int (nI f)), (2, .int od), (0, .ref (h 0)), (1, .int (nI pg))]) hx hb dX1_ownFrame_63 hl (k := 0) rfl (bn_inc _) (by decide) rfl (fun ls hl => ?_)
          refine lv_goto (tgt := 39) hx hb dX1_ownFrame_66 (by decide) ?_
          have er : r2 = bz_vl g pg w := hq2.1.trans (S'.1 pg hp w (by omega))
          have V2 : bz_Iv N u4 := bz_Iv_same V' (by rw [eu4]; rfl) (by rw [eu4]; rfl) (by rw [eu4]; rfl) (by rw [eu4]; rfl) (by rw [eu4]; rfl) (by rw [eu4]; exact V'.2.2.1)
          have S2 : bz_Sv g' u4 := ⟨fun q hq k hk => bz_vl_fr V' hf hc' (by rw [eu4]; rfl) (by rw [eu4]; rfl) (by rw [eu4]; rfl) (fun j hj => by rw [eu4, bz_st_s, bz_un (by omega)]) hq hk, by rw [eu4]; rfl⟩
          exact ih (w + 1) u4 H locs ls (by omega) (by omega) V2 (S'.trans S2) (by rw [eu4]; exact hc') (fun j hj => by
            rw [eu4, bz_st_s]
            by_cases z : j = w
            · rw [z, bz_us]; exact er
            · rw [bz_un (by omega)]; exact hw' j (by omega)) I hl
    refine lv_istore_n (lv' := [(3, .int (nI f)), (2, .int od), (0, .ref (h 0)), (1, .int (nI pg))]) hx hb dX1_ownFrame_35 rfl hl (by decide) rfl (fun ls hl => ?_)
    refine lv_iconst (v := nI 0) hx hb dX1_ownFrame_36 (by decide) ?_
    refine lv_istore (lv' := [(4, .int (nI 0)), (3, .int (nI f)), (2, .int od), (0, .ref (h 0)), (1, .int (nI pg))]) hx hb dX1_ownFrame_37 hl (by decide) rfl (fun ls hl => ?_)
    exact loop 5 0 v1 _ _ _ (by omega) (by omega) V1 S1 hct (fun j hj => absurd hj (by omega)) I hl
  rcases V.2.2.2.1 pg hp with ⟨a, b⟩ | ⟨f, hf, a, b⟩ | ⟨t, ht, a, b⟩
  · refine lv_aload_n hx hb dX1_ownFrame_0 rfl (lv_at hl 0 rfl) ?_
    refine bs_frameOf F I dX1_ownFrame_1 ?_
    refine lv_iload_n hx hb dX1_ownFrame_4 rfl (lv_at hl 1 rfl) ?_
    refine bs_ld0 (v := (-1)) F I (hp) (a) dX1_ownFrame_5 ?_
    refine lv_istore_n (lv' := [(2, .int (-1)), (0, .ref (h 0)), (1, .int (nI pg))]) hx hb dX1_ownFrame_6 rfl hl (by decide) rfl (fun ls hl => ?_)
    refine lv_iload_n hx hb dX1_ownFrame_7 rfl (lv_at hl 0 rfl) ?_
    refine bm_iflt (tgt := 30) hx hb dX1_ownFrame_8 (by decide) ?_
    exact at30 _ _ _ _ I hl
  · have hcl := bz_ct_le (g 0) f 24
    refine lv_aload_n hx hb dX1_ownFrame_0 rfl (lv_at hl 0 rfl) ?_
    refine bs_frameOf F I dX1_ownFrame_1 ?_
    refine lv_iload_n hx hb dX1_ownFrame_4 rfl (lv_at hl 1 rfl) ?_
    refine bs_ld0 (v := nI f) F I (hp) (a) dX1_ownFrame_5 ?_
    refine lv_istore_n (lv' := [(2, .int (nI f)), (0, .ref (h 0)), (1, .int (nI pg))]) hx hb dX1_ownFrame_6 rfl hl (by decide) rfl (fun ls hl => ?_)
    refine lv_iload_n hx hb dX1_ownFrame_7 rfl (lv_at hl 0 rfl) ?_
    refine bn_iflt (tgt := 30) hx hb dX1_ownFrame_8 (by decide) (by omega) ?_
    refine lv_aload_n hx hb dX1_ownFrame_11 rfl (lv_at hl 1 rfl) ?_
    refine bs_holders F I dX1_ownFrame_12 ?_
    refine lv_iload_n hx hb dX1_ownFrame_15 rfl (lv_at hl 0 rfl) ?_
    refine bs_ld3 (v := nI (bz_ct (g 0) f 24)) F I (by omega) (V.2.2.2.2.1 f hf) dX1_ownFrame_16 ?_
    refine lv_iconst (v := nI 1) hx hb dX1_ownFrame_17 (by decide) ?_
    refine bn_ne (tgt := 30) hx hb dX1_ownFrame_18 (by decide) (by omega) (by omega) (fun c1 => ?_) (fun c1 => ?_)
    · exact at30 _ _ _ _ I hl
    · refine lv_aload_n hx hb dX1_ownFrame_21 rfl (lv_at hl 1 rfl) ?_
      refine bs_lately F I dX1_ownFrame_22 ?_
      refine lv_iload_n hx hb dX1_ownFrame_25 rfl (lv_at hl 0 rfl) ?_
      refine lv_iconst (v := nI 1) hx hb dX1_ownFrame_26 (by decide) ?_
      refine bs_st4 F I (by omega) (by decide) dX1_ownFrame_27 (fun H locs u5 eu5 I => ?_)
      refine lv_iload_n hx hb dX1_ownFrame_28 rfl (lv_at hl 0 rfl) ?_
      exact hret _ _ _ _ _ _ (⟨f, hf, rfl, bz_Iv_same V (by rw [eu5]; rfl) (by rw [eu5]; rfl) (by rw [eu5]; rfl) (by rw [eu5]; rfl) (by rw [eu5]; rfl) (by rw [eu5]; exact V.2.2.1), bz_Sv.of (by rw [eu5]; rfl) (by rw [eu5]; rfl) (by rw [eu5]; rfl) (by rw [eu5]; rfl) (by rw [eu5]; rfl), by rw [eu5]; exact a, by rw [eu5]; exact bz_ct_one (by omega) hp a c1⟩) I (rfl) dX1_ownFrame_29
  · refine lv_aload_n hx hb dX1_ownFrame_0 rfl (lv_at hl 0 rfl) ?_
    refine bs_frameOf F I dX1_ownFrame_1 ?_
    refine lv_iload_n hx hb dX1_ownFrame_4 rfl (lv_at hl 1 rfl) ?_
    refine bs_ld0 (v := (-1)) F I (hp) (a) dX1_ownFrame_5 ?_
    refine lv_istore_n (lv' := [(2, .int (-1)), (0, .ref (h 0)), (1, .int (nI pg))]) hx hb dX1_ownFrame_6 rfl hl (by decide) rfl (fun ls hl => ?_)
    refine lv_iload_n hx hb dX1_ownFrame_7 rfl (lv_at hl 0 rfl) ?_
    refine bm_iflt (tgt := 30) hx hb dX1_ownFrame_8 (by decide) ?_
    exact at30 _ _ _ _ I hl
end
section
/-! what every public method answers, and what it does to the 96 words and the shares -/
def sp_put (c : Nat → Int32) (b n : Nat) (f : Nat → Int32) : Nat → Int32 := fun j => if b ≤ j ∧ j < b + n then f (j - b) else c j
theorem sp_put_0 {c : Nat → Int32} {b : Nat} {f : Nat → Int32} : sp_put c b 0 f = c := by
  funext j
  exact if_neg (by omega)
theorem sp_put_s {c : Nat → Int32} {b n k : Nat} {f : Nat → Int32} {x : Int32} (hk : k = b + n) (hx : x = f n) : upd (sp_put c b n f) k x = sp_put c b (n + 1) f := by
  subst hk; subst hx
  funext j
  by_cases e : j = b + n
  · subst e
    rw [bz_us, sp_put, if_pos (by omega)]
    congr 1
    omega
  · rw [bz_un e]
    unfold sp_put
    by_cases q : b ≤ j ∧ j < b + n
    · rw [if_pos q, if_pos (by omega)]
    · rw [if_neg q, if_neg (by omega)]
def sr_write (gu a : Int32) : Int32 := if bz_bg gu then (-1) else if bz_bw a then (-3) else nI 0
def sp_write (c : Nat → Int32) (gu a v : Int32) : Nat → Int32 := if bz_bg gu then c else if bz_bw a then c else upd c (gu.toNatClampNeg * 32 + a.toNatClampNeg) v
def sr_fill (gu q : Int32) : Int32 := if bz_bg gu then (-1) else if bz_bp q then (-2) else nI 0
def sp_fill (c : Nat → Int32) (gu q v d : Int32) : Nat → Int32 := if bz_bg gu then c else if bz_bp q then c else sp_put c (gu.toNatClampNeg * 32 + q.toNatClampNeg * 4) 4 (fun k => v + nI k * d)
def sr_copy (a q b r : Int32) : Int32 := if bz_bg a ∨ bz_bg b then (-1) else if bz_bp q ∨ bz_bp r then (-2) else nI 0
def sp_copy (c : Nat → Int32) (a q b r : Int32) : Nat → Int32 := if bz_bg a ∨ bz_bg b then c else if bz_bp q ∨ bz_bp r then c else sp_put c (b.toNatClampNeg * 32 + r.toNatClampNeg * 4) 4 (fun k => c (a.toNatClampNeg * 32 + q.toNatClampNeg * 4 + k))
def sr_clone (a b : Int32) : Int32 := if bz_bg a ∨ bz_bg b then (-1) else nI 0
def sp_clone (c : Nat → Int32) (a b : Int32) : Nat → Int32 := if bz_bg a ∨ bz_bg b then c else sp_put c (b.toNatClampNeg * 32) 32 (fun k => c (a.toNatClampNeg * 32 + k))
abbrev bz_bs (x : Int32) : Prop := x < nI 1 ∨ nI 100 < x
def sr_shares (sh : Nat → Int32) (gu x : Int32) : Int32 := if bz_bg gu then (-1) else if bz_bs x then (-4) else sh gu.toNatClampNeg
def sp_shares (sh : Nat → Int32) (gu x : Int32) : Nat → Int32 := if bz_bg gu then sh else if bz_bs x then sh else upd sh gu.toNatClampNeg x
def sr_read (c : Nat → Int32) (gu a : Int32) : Int32 := if bz_bg gu ∨ bz_bw a then nI 0 else c (gu.toNatClampNeg * 32 + a.toNatClampNeg)
def sp_sum (c : Nat → Int32) (b : Nat) : Nat → Int32
  | 0 => nI 0
  | k + 1 => sp_sum c b k + nI (k + 1) * c (b + k)
def sr_sum (c : Nat → Int32) (gu q : Int32) : Int32 := if bz_bg gu ∨ bz_bp q then nI 0 else sp_sum c (gu.toNatClampNeg * 32 + q.toNatClampNeg * 4) 4
abbrev sp_al (c : Nat → Int32) (a b : Nat) : Prop := ∀ w, w < 4 → c (a * 4 + w) = c (b * 4 + w)
def sr_same (c : Nat → Int32) (a q b r : Int32) : Int32 := if bz_bg a ∨ bz_bg b ∨ bz_bp q ∨ bz_bp r then nI 0 else if sp_al c (a.toNatClampNeg * 8 + q.toNatClampNeg) (b.toNatClampNeg * 8 + r.toNatClampNeg) then nI 1 else nI 0
def sp_tw (c : Nat → Int32) (a : Nat) : Nat → Nat
  | 0 => 0
  | k + 1 => sp_tw c a k + (if sp_al c a k then 1 else 0)
def sr_twins (c : Nat → Int32) (gu q : Int32) : Int32 := if bz_bg gu then (-1) else if bz_bp q then (-2) else nI (sp_tw c (gu.toNatClampNeg * 8 + q.toNatClampNeg) 24)
abbrev sp_fr (c : Nat → Int32) (b k n : Nat) : Prop := ∀ e, e < n → ¬ sp_al c (b + k) (b + e)
def sp_cs (c : Nat → Int32) (b : Nat) : Nat → Nat
  | 0 => 0
  | k + 1 => sp_cs c b k + (if sp_fr c b k k then 1 else 0)
def sr_contents (c : Nat → Int32) (gu : Int32) : Int32 := if bz_bg gu then (-1) else nI (sp_cs c (gu.toNatClampNeg * 8) 8)
/-- the class' state against the model's words c and shares sh -/
def bz_RR (N : Nat) (g : bz_S) (c sh : Nat → Int32) : Prop := bz_Iv N g ∧ bz_Abs g c ∧ ∀ i, i < 3 → g 7 i = sh i
theorem bz_RR.sv {N : Nat} {g u : bz_S} {c sh : Nat → Int32} (h : bz_RR N g c sh) (V : bz_Iv N u) (S : bz_Sv g u) : bz_RR N u c sh := ⟨V, S.abs h.2.1, by rw [S.2]; exact h.2.2⟩
/-- one word of a page that is alone in its frame -/
theorem bz_wr_abs {N pg f k : Nat} {g u : bz_S} {c sh : Nat → Int32} {x : Int32} (hp : pg < 24) (hf : f < N) (hk : k < 4) (h : bz_RR N g c sh) (ea : g 0 pg = nI f) (eo : ∀ q, q < 24 → q ≠ pg → ¬ g 0 q = nI f) (e : u = bz_st g 2 (f * 4 + k) x) : bz_RR N u (upd c (pg * 4 + k) x) sh ∧ u 0 = g 0 := by
  obtain ⟨V, hA, hS⟩ := h
  refine ⟨⟨bz_Iv_same V (by rw [e]; rfl) (by rw [e]; rfl) (by rw [e]; rfl) (by rw [e]; rfl) (by rw [e]; rfl) (by rw [e]; exact V.2.2.1), fun q hq w hw => ?_, by rw [e]; exact hS⟩, by rw [e]; rfl⟩
  rw [bz_vl_wr V hf ea eo hk (u := u) (by rw [e]; rfl) (by rw [e]; rfl) (by rw [e]; rfl) (by rw [e]; rfl) hq hw]
  by_cases z : q = pg ∧ w = k
  · rw [if_pos z, z.1, z.2, bz_us]
  · rw [if_neg z, bz_un (by omega)]
    exact hA q hq w hw
theorem bz_at_abs {N pg po : Nat} {g u : bz_S} {c sh : Nat → Int32} (hq : po < 24) (h : bz_RR N g c sh) (a : bz_At N g pg po u) : bz_RR N u (sp_put c (pg * 4) 4 (fun k => c (po * 4 + k))) sh := by
  obtain ⟨V, hA, hS⟩ := h
  obtain ⟨aI, a0, a1, a2, a5, a7⟩ := a
  refine ⟨aI, fun q hq4 w hw => ?_, by rw [a7]; exact hS⟩
  rw [bz_vl_at a0 a1 a2 a5]
  unfold sp_put
  by_cases z : q = pg
  · rw [if_pos z, if_pos (by omega), z]
    rw [← hA po hq w hw]
    congr 1
    omega
  · rw [if_neg z, if_neg (by omega)]
    exact hA q hq4 w hw
theorem bz_de_abs {N pg : Nat} {g u : bz_S} {c sh : Nat → Int32} {f : Nat → Int32} (hf : ∀ k, f k = 0) (h : bz_RR N g c sh) (a : bz_De N g pg u) : bz_RR N u (sp_put c (pg * 4) 4 f) sh := by
  obtain ⟨V, hA, hS⟩ := h
  obtain ⟨aI, a0, a1, a2, a5, a7⟩ := a
  refine ⟨aI, fun q hq4 w hw => ?_, by rw [a7]; exact hS⟩
  rw [bz_vl_de a0 a1 a2 a5]
  unfold sp_put
  by_cases z : q = pg
  · rw [if_pos z, if_pos (by omega), hf]
  · rw [if_neg z, if_neg (by omega)]
    exact hA q hq4 w hw
theorem bz_zz (k : Nat) : nI 0 + nI k * nI 0 = 0 := by
  rw [pk_mul, nI_add]
  simp [nI_0]
/-- a guest's page copied: the next four words of a clone -/
theorem sp_put_clone {c : Nat → Int32} {a b k : Nat} (ha : a < 3) (hb : b < 3) (hk : k < 8) : sp_put (sp_put c (b * 32) (k * 4) (fun j => c (a * 32 + j))) ((b * 8 + k) * 4) 4 (fun j => sp_put c (b * 32) (k * 4) (fun j => c (a * 32 + j)) ((a * 8 + k) * 4 + j)) = sp_put c (b * 32) ((k + 1) * 4) (fun j => c (a * 32 + j)) := by
  funext j
  unfold sp_put
  by_cases z : (b * 8 + k) * 4 ≤ j ∧ j < (b * 8 + k) * 4 + 4
  · rw [if_pos z, if_pos (show b * 32 ≤ j ∧ j < b * 32 + (k + 1) * 4 by omega)]
    dsimp only
    rw [if_neg (by omega)]
    congr 1
    omega
  · rw [if_neg z]
    by_cases y : b * 32 ≤ j ∧ j < b * 32 + k * 4
    · rw [if_pos y, if_pos (by omega)]
    · rw [if_neg y, if_neg (by omega)]
end
section
/-! BalloonShare: write, fill, copy, release, cloneGuest, shares -/
set_option maxHeartbeats 4000000 in
theorem metX1_write {l : Launch} {D : va_G} {h : Nat → Nat} {dI dZ : ClassId} {g : bz_S} {N : Nat} {wc sh : Nat → Int32} (RR : bz_RR N g wc sh) (gu a v : Int32) : bc_i l D (bz_T dI dZ) (BW h dI dZ) yX1_write cX1_write 6 .int rmX1_write [.ref (h 0), .int gu, .int a, .int v] g (fun r u => r = sr_write gu a ∧ bz_RR N u (sp_write wc gu a v) sh) := by
  refine bc_i_of RX1 (by decide) rfl (Nat.le_of_ble_eq_true rfl) ?_
  intro p e s m args below meth c A Q ls F hl I hret
  have hx := F.1.1
  have hb := F.1.2.1
  have hl : lv_has ls 6 [(0, .ref (h 0)), (1, .int gu), (2, .int a), (3, .int v)] := hl
  have V := RR.1
  have hN := V.1
  by_cases hg : bz_bg gu
  · refine lv_iload_n hx hb dX1_write_0 rfl (lv_at hl 1 rfl) ?_
    refine bx_cs (rest := []) F I (metX1_badGuest gu) (cwX1_badGuest F.1.2.2.2.2 ⟨by decide, by decide⟩) rfl hl.1 rfl (Nat.le_of_ble_eq_true rfl) dX1_write_1 (fun rg locs hq I => ?_)
    rw [if_pos hg] at hq
    subst hq
    refine bn_if1_eq (tgt := 9) hx hb dX1_write_4 (by decide) ?_
    refine lv_iconst (v := (-1)) hx hb dX1_write_7 (by decide) ?_
    exact hret _ _ _ _ _ _ (⟨(if_pos hg).symm, by rw [sp_write, if_pos hg]; exact RR⟩) I (rfl) dX1_write_8
  · by_cases ha : bz_bw a
    · refine lv_iload_n hx hb dX1_write_0 rfl (lv_at hl 1 rfl) ?_
      refine bx_cs (rest := []) F I (metX1_badGuest gu) (cwX1_badGuest F.1.2.2.2.2 ⟨by decide, by decide⟩) rfl hl.1 rfl (Nat.le_of_ble_eq_true rfl) dX1_write_1 (fun rg locs hq I => ?_)
      rw [if_neg hg] at hq
      subst hq
      refine bn_if0_eq (tgt := 9) hx hb dX1_write_4 (by decide) ?_
      refine lv_iload_n hx hb dX1_write_9 rfl (lv_at hl 2 rfl) ?_
      refine lv_if_lt (tgt := 19) hx hb dX1_write_10 (by decide) (fun c1 => ?_) (fun c1 => ?_)
      · refine lv_bipush (v := (-3)) hx hb dX1_write_19 (by decide) ?_
        exact hret _ _ _ _ _ _ (⟨by rw [sr_write, if_neg hg, if_pos ha], by rw [sp_write, if_neg hg, if_pos ha]; exact RR⟩) I (rfl) dX1_write_21
      · refine lv_iload_n hx hb dX1_write_13 rfl (lv_at hl 2 rfl) ?_
        refine lv_bipush (v := nI 31) hx hb dX1_write_14 (by decide) ?_
        refine lv_icmp_le (tgt := 22) hx hb dX1_write_16 (by decide) (fun c2 => ?_) (fun c2 => ?_)
        · exact absurd ha (fun q => q.elim c1 (fun z => Int32.not_le.mpr z c2))
        · refine lv_bipush (v := (-3)) hx hb dX1_write_19 (by decide) ?_
          exact hret _ _ _ _ _ _ (⟨by rw [sr_write, if_neg hg, if_pos ha], by rw [sp_write, if_neg hg, if_pos ha]; exact RR⟩) I (rfl) dX1_write_21
    · obtain ⟨gn, hgn, rfl⟩ := bz_bg_no hg
      obtain ⟨an, han, rfl⟩ := bz_bw_no ha
      refine lv_iload_n hx hb dX1_write_0 rfl (lv_at hl 1 rfl) ?_
      refine bx_cs (rest := []) F I (metX1_badGuest (nI gn)) (cwX1_badGuest F.1.2.2.2.2 ⟨by decide, by decide⟩) rfl hl.1 rfl (Nat.le_of_ble_eq_true rfl) dX1_write_1 (fun rg locs hq I => ?_)
      rw [if_neg hg] at hq
      subst hq
      refine bn_if0_eq (tgt := 9) hx hb dX1_write_4 (by decide) ?_
      refine lv_iload_n hx hb dX1_write_9 rfl (lv_at hl 2 rfl) ?_
      refine bn_iflt (tgt := 19) hx hb dX1_write_10 (by decide) (by omega) ?_
      refine lv_iload_n hx hb dX1_write_13 rfl (lv_at hl 2 rfl) ?_
      refine lv_bipush (v := nI 31) hx hb dX1_write_14 (by decide) ?_
      refine bn_le (tgt := 22) hx hb dX1_write_16 (by decide) (by omega) (by omega) (fun c1 => ?_) (fun c1 => ?_)
      · refine lv_iload_n hx hb dX1_write_22 rfl (lv_at hl 1 rfl) ?_
        refine lv_bipush (v := nI 8) hx hb dX1_write_23 (by decide) ?_
        refine bn_mul hx hb dX1_write_25 ?_
        refine lv_iload_n hx hb dX1_write_26 rfl (lv_at hl 2 rfl) ?_
        refine lv_iconst (v := nI 4) hx hb dX1_write_27 (by decide) ?_
        refine bn_div hx hb dX1_write_28 (by omega) (by omega) (by omega) ?_
        refine bn_add hx hb dX1_write_29 ?_
        refine lv_istore (lv' := [(4, .int (nI ((gn * 8) + (an / 4)))), (0, .ref (h 0)), (1, .int (nI gn)), (2, .int (nI an)), (3, .int v)]) hx hb dX1_write_30 hl (by decide) rfl (fun ls hl => ?_)
        refine lv_aload_n hx hb dX1_write_32 rfl (lv_at hl 1 rfl) ?_
        refine lv_iload hx hb dX1_write_33 (lv_at hl 0 rfl) ?_
        refine bx_ci (wd := BW h dI dZ) (rest := []) F I (metX1_ownFrame (pg := gn * 8 + an / 4) V (by omega)) (cwX1_ownFrame F.1.2.2.2.2 ⟨by decide, by decide⟩) (q0 := 0) rfl rfl rfl hl.1 rfl (Nat.le_of_ble_eq_true rfl) dX1_write_35 (fun r1 v1 H locs hq I => ?_)
        obtain ⟨f, hf, rfl, V1, S1, ea, eo⟩ := hq
        refine lv_istore (lv' := [(5, .int (nI f)), (4, .int (nI ((gn * 8) + (an / 4)))), (0, .ref (h 0)), (1, .int (nI gn)), (2, .int (nI an)), (3, .int v)]) hx hb dX1_write_38 hl (by decide) rfl (fun ls hl => ?_)
        refine lv_aload_n hx hb dX1_write_40 rfl (lv_at hl 2 rfl) ?_
        refine bs_inFrame F I dX1_write_41 ?_
        refine lv_iload hx hb dX1_write_44 (lv_at hl 0 rfl) ?_
        refine lv_iconst (v := nI 4) hx hb dX1_write_46 (by decide) ?_
        refine bn_mul hx hb dX1_write_47 ?_
        refine lv_iload_n hx hb dX1_write_48 rfl (lv_at hl 4 rfl) ?_
        refine lv_iconst (v := nI 4) hx hb dX1_write_49 (by decide) ?_
        refine bn_rem hx hb dX1_write_50 (by omega) (by omega) (by omega) ?_
        refine bn_add hx hb dX1_write_51 ?_
        refine lv_iload_n hx hb dX1_write_52 rfl (lv_at hl 5 rfl) ?_
        refine bs_st2 F I (by omega) dX1_write_53 (fun H locs u1 eu1 I => ?_)
        refine lv_iconst (v := nI 0) hx hb dX1_write_54 (by decide) ?_
        obtain ⟨RF, -⟩ := bz_wr_abs (k := an % 4) (show gn * 8 + an / 4 < 24 by omega) hf (by omega) (RR.sv V1 S1) ea eo eu1
        exact hret _ _ _ _ _ _ (⟨by rw [sr_write, if_neg hg, if_neg ha], by rw [sp_write, if_neg hg, if_neg ha, nI_clamp (by omega), nI_clamp (by omega), show gn * 32 + an = (gn * 8 + an / 4) * 4 + an % 4 by omega]; exact RF⟩) I (rfl) dX1_write_55
      · exact absurd c1 (by omega)
set_option maxHeartbeats 4000000 in
theorem metX1_fill {l : Launch} {D : va_G} {h : Nat → Nat} {dI dZ : ClassId} {g : bz_S} {N : Nat} {wc sh : Nat → Int32} (RR : bz_RR N g wc sh) (gu q v st : Int32) : bc_i l D (bz_T dI dZ) (BW h dI dZ) yX1_fill cX1_fill 7 .int rmX1_fill [.ref (h 0), .int gu, .int q, .int v, .int st] g (fun r u => r = sr_fill gu q ∧ bz_RR N u (sp_fill wc gu q v st) sh) := by
  refine bc_i_of RX1 (by decide) rfl (Nat.le_of_ble_eq_true rfl) ?_
  intro p e s m args below meth c A Q ls F hl I hret
  have hx := F.1.1
  have hb := F.1.2.1
  have hl : lv_has ls 7 [(0, .ref (h 0)), (1, .int gu), (2, .int q), (3, .int v), (4, .int st)] := hl
  have V := RR.1
  have hN := V.1
  by_cases hg : bz_bg gu
  · refine lv_iload_n hx hb dX1_fill_0 rfl (lv_at hl 1 rfl) ?_
    refine bx_cs (rest := []) F I (metX1_badGuest gu) (cwX1_badGuest F.1.2.2.2.2 ⟨by decide, by decide⟩) rfl hl.1 rfl (Nat.le_of_ble_eq_true rfl) dX1_fill_1 (fun rg locs hq I => ?_)
    rw [if_pos hg] at hq
    subst hq
    refine bn_if1_eq (tgt := 9) hx hb dX1_fill_4 (by decide) ?_
    refine lv_iconst (v := (-1)) hx hb dX1_fill_7 (by decide) ?_
    exact hret _ _ _ _ _ _ (⟨(if_pos hg).symm, by rw [sp_fill, if_pos hg]; exact RR⟩) I (rfl) dX1_fill_8
  · by_cases ha : bz_bp q
    · refine lv_iload_n hx hb dX1_fill_0 rfl (lv_at hl 1 rfl) ?_
      refine bx_cs (rest := []) F I (metX1_badGuest gu) (cwX1_badGuest F.1.2.2.2.2 ⟨by decide, by decide⟩) rfl hl.1 rfl (Nat.le_of_ble_eq_true rfl) dX1_fill_1 (fun rg locs hq I => ?_)
      rw [if_neg hg] at hq
      subst hq
      refine bn_if0_eq (tgt := 9) hx hb dX1_fill_4 (by decide) ?_
      refine lv_iload_n hx hb dX1_fill_9 rfl (lv_at hl 2 rfl) ?_
      refine bx_cs (rest := []) F I (metX1_badPage q) (cwX1_badPage F.1.2.2.2.2 ⟨by decide, by decide⟩) rfl hl.1 rfl (Nat.le_of_ble_eq_true rfl) dX1_fill_10 (fun rg locs hq I => ?_)
      rw [if_pos ha] at hq
      subst hq
      refine bn_if1_eq (tgt := 19) hx hb dX1_fill_13 (by decide) ?_
      refine lv_bipush (v := (-2)) hx hb dX1_fill_16 (by decide) ?_
      exact hret _ _ _ _ _ _ (⟨by rw [sr_fill, if_neg hg, if_pos ha], by rw [sp_fill, if_neg hg, if_pos ha]; exact RR⟩) I (rfl) dX1_fill_18
    · obtain ⟨gn, hgn, rfl⟩ := bz_bg_no hg
      obtain ⟨qn, hqn, rfl⟩ := bz_bp_no ha
      refine lv_iload_n hx hb dX1_fill_0 rfl (lv_at hl 1 rfl) ?_
      refine bx_cs (rest := []) F I (metX1_badGuest (nI gn)) (cwX1_badGuest F.1.2.2.2.2 ⟨by decide, by decide⟩) rfl hl.1 rfl (Nat.le_of_ble_eq_true rfl) dX1_fill_1 (fun rg locs hq I => ?_)
      rw [if_neg hg] at hq
      subst hq
      refine bn_if0_eq (tgt := 9) hx hb dX1_fill_4 (by decide) ?_
      refine lv_iload_n hx hb dX1_fill_9 rfl (lv_at hl 2 rfl) ?_
      refine bx_cs (rest := []) F I (metX1_badPage (nI qn)) (cwX1_badPage F.1.2.2.2.2 ⟨by decide, by decide⟩) rfl hl.1 rfl (Nat.le_of_ble_eq_true rfl) dX1_fill_10 (fun rg locs hq I => ?_)
      rw [if_neg ha] at hq
      subst hq
      refine bn_if0_eq (tgt := 19) hx hb dX1_fill_13 (by decide) ?_
      refine lv_aload_n hx hb dX1_fill_19 rfl (lv_at hl 0 rfl) ?_
      refine lv_iload_n hx hb dX1_fill_20 rfl (lv_at hl 1 rfl) ?_
      refine lv_bipush (v := nI 8) hx hb dX1_fill_21 (by decide) ?_
      refine bn_mul hx hb dX1_fill_23 ?_
      refine lv_iload_n hx hb dX1_fill_24 rfl (lv_at hl 2 rfl) ?_
      refine bn_add hx hb dX1_fill_25 ?_
      refine bx_ci (wd := BW h dI dZ) (rest := []) F I (metX1_ownFrame (pg := gn * 8 + qn) V (by omega)) (cwX1_ownFrame F.1.2.2.2.2 ⟨by decide, by decide⟩) (q0 := 0) rfl rfl rfl hl.1 rfl (Nat.le_of_ble_eq_true rfl) dX1_fill_26 (fun r1 v1 H locs hq I => ?_)
      obtain ⟨f, hf, rfl, V1, S1, ea, eo⟩ := hq
      refine lv_istore (lv' := [(5, .int (nI f)), (0, .ref (h 0)), (1, .int (nI gn)), (2, .int (nI qn)), (3, .int v), (4, .int st)]) hx hb dX1_fill_29 hl (by decide) rfl (fun ls hl => ?_)
      refine lv_iconst (v := nI 0) hx hb dX1_fill_31 (by decide) ?_
      refine lv_istore (lv' := [(6, .int (nI 0)), (5, .int (nI f)), (0, .ref (h 0)), (1, .int (nI gn)), (2, .int (nI qn)), (3, .int v), (4, .int st)]) hx hb dX1_fill_32 hl (by decide) rfl (fun ls hl => ?_)
      have loop : ∀ (n w : Nat) (g' : bz_S) (H : Heap) (locs : List Loc) (ls : Array Slot), w ≤ 4 → 4 < w + n → g' 0 = v1 0 → bz_RR N g' (sp_put wc ((gn * 8 + qn) * 4) w (fun k => v + nI k * st)) sh → bx_I D A (BW h dI dZ g') s H locs → lv_has ls 7 [(6, .int (nI w)), (5, .int (nI f)), (0, .ref (h 0)), (1, .int (nI gn)), (2, .int (nI qn)), (3, .int v), (4, .int st)] → W p l e rmX1_fill s m args below meth c H locs 0 0 Q (F0 m 34 ls []) := by
        intro n
        induction n with
        | zero => intro w g' H locs ls h1 h2; exact absurd h2 (by omega)
        | succ n ih =>
          intro w g' H locs ls h1 h2 e0 RR' I hl
          refine lv_iload hx hb dX1_fill_34 (lv_at hl 0 rfl) ?_
          refine lv_iconst (v := nI 4) hx hb dX1_fill_36 (by decide) ?_
          refine bn_ge (tgt := 65) hx hb dX1_fill_37 (by decide) (by omega) (by omega) (fun c1 => ?_) (fun c1 => ?_)
          · have e4 : w = 4 := by omega
            subst e4
            refine lv_iconst (v := nI 0) hx hb dX1_fill_65 (by decide) ?_
            exact hret _ _ _ _ _ _ (⟨by rw [sr_fill, if_neg hg, if_neg ha], by rw [sp_fill, if_neg hg, if_neg ha, nI_clamp (by omega), nI_clamp (by omega), show gn * 32 + qn * 4 = (gn * 8 + qn) * 4 by omega]; exact RR'⟩) I (rfl) dX1_fill_66
          · refine lv_aload_n hx hb dX1_fill_40 rfl (lv_at hl 2 rfl) ?_
            refine bs_inFrame F I dX1_fill_41 ?_
            refine lv_iload hx hb dX1_fill_44 (lv_at hl 1 rfl) ?_
            refine lv_iconst (v := nI 4) hx hb dX1_fill_46 (by decide) ?_
            refine bn_mul hx hb dX1_fill_47 ?_
            refine lv_iload hx hb dX1_fill_48 (lv_at hl 0 rfl) ?_
            refine bn_add hx hb dX1_fill_50 ?_
            refine lv_iload_n hx hb dX1_fill_51 rfl (lv_at hl 5 rfl) ?_
            refine lv_iload hx hb dX1_fill_52 (lv_at hl 0 rfl) ?_
            refine lv_iload hx hb dX1_fill_54 (lv_at hl 6 rfl) ?_
            refine lv_imul hx hb dX1_fill_56 ?_
            refine lv_iadd hx hb dX1_fill_57 ?_
            refine bs_st2 F I (by omega) dX1_fill_58 (fun H locs u1 eu1 I => ?_)
            refine lv_iinc (v := nI (w + 1)) (lv' := [(6, .int (nI (w + 1))), (5, .int (nI f)), (0, .ref (h 0)), (1, .int (nI gn)), (2, .int (nI qn)), (3, .int v), (4, .int st)]) hx hb dX1_fill_59 hl (k := 0) rfl (bn_inc _) (by decide) rfl (fun ls hl => ?_)
            refine lv_goto (tgt := 34) hx hb dX1_fill_62 (by decide) ?_
            obtain ⟨RF, e0'⟩ := bz_wr_abs (k := w) (show gn * 8 + qn < 24 by omega) hf (by omega) RR' (by rw [e0]; exact ea) (by rw [e0]; exact eo) eu1
            rw [sp_put_s rfl rfl] at RF
            exact ih (w + 1) u1 H locs ls (by omega) (by omega) (e0'.trans e0) RF I hl
      exact loop 5 0 v1 _ _ _ (by omega) (by omega) rfl (by rw [sp_put_0]; exact RR.sv V1 S1) I hl
set_option maxHeartbeats 4000000 in
theorem metX1_copy {l : Launch} {D : va_G} {h : Nat → Nat} {dI dZ : ClassId} {g : bz_S} {N : Nat} {wc sh : Nat → Int32} (RR : bz_RR N g wc sh) (a q b t : Int32) : bc_i l D (bz_T dI dZ) (BW h dI dZ) yX1_copy cX1_copy 5 .int rmX1_copy [.ref (h 0), .int a, .int q, .int b, .int t] g (fun r u => r = sr_copy a q b t ∧ bz_RR N u (sp_copy wc a q b t) sh) := by
  refine bc_i_of RX1 (by decide) rfl (Nat.le_of_ble_eq_true rfl) ?_
  intro p e s m args below meth c A Q ls F hl I hret
  have hx := F.1.1
  have hb := F.1.2.1
  have hl : lv_has ls 5 [(0, .ref (h 0)), (1, .int a), (2, .int q), (3, .int b), (4, .int t)] := hl
  have V := RR.1
  have hN := V.1
  by_cases ha : bz_bg a
  · refine lv_iload_n hx hb dX1_copy_0 rfl (lv_at hl 1 rfl) ?_
    refine bx_cs (rest := []) F I (metX1_badGuest a) (cwX1_badGuest F.1.2.2.2.2 ⟨by decide, by decide⟩) rfl hl.1 rfl (Nat.le_of_ble_eq_true rfl) dX1_copy_1 (fun rg locs hq I => ?_)
    rw [if_pos ha] at hq
    subst hq
    refine bn_if1_ne (tgt := 14) hx hb dX1_copy_4 (by decide) ?_
    refine lv_iconst (v := (-1)) hx hb dX1_copy_14 (by decide) ?_
    exact hret _ _ _ _ _ _ (⟨(if_pos (Or.inl ha)).symm, by rw [sp_copy, if_pos (Or.inl ha)]; exact RR⟩) I (rfl) dX1_copy_15
  · by_cases hb2 : bz_bg b
    · refine lv_iload_n hx hb dX1_copy_0 rfl (lv_at hl 1 rfl) ?_
      refine bx_cs (rest := []) F I (metX1_badGuest a) (cwX1_badGuest F.1.2.2.2.2 ⟨by decide, by decide⟩) rfl hl.1 rfl (Nat.le_of_ble_eq_true rfl) dX1_copy_1 (fun rg locs hq I => ?_)
      rw [if_neg ha] at hq
      subst hq
      refine bn_if0_ne (tgt := 14) hx hb dX1_copy_4 (by decide) ?_
      refine lv_iload_n hx hb dX1_copy_7 rfl (lv_at hl 3 rfl) ?_
      refine bx_cs (rest := []) F I (metX1_badGuest b) (cwX1_badGuest F.1.2.2.2.2 ⟨by decide, by decide⟩) rfl hl.1 rfl (Nat.le_of_ble_eq_true rfl) dX1_copy_8 (fun rg locs hq I => ?_)
      rw [if_pos hb2] at hq
      subst hq
      refine bn_if1_eq (tgt := 16) hx hb dX1_copy_11 (by decide) ?_
      refine lv_iconst (v := (-1)) hx hb dX1_copy_14 (by decide) ?_
      exact hret _ _ _ _ _ _ (⟨(if_pos (Or.inr hb2)).symm, by rw [sp_copy, if_pos (Or.inr hb2)]; exact RR⟩) I (rfl) dX1_copy_15
    · have hab : ¬ (bz_bg a ∨ bz_bg b) := fun z => z.elim ha hb2
      by_cases hq2 : bz_bp q
      · refine lv_iload_n hx hb dX1_copy_0 rfl (lv_at hl 1 rfl) ?_
        refine bx_cs (rest := []) F I (metX1_badGuest a) (cwX1_badGuest F.1.2.2.2.2 ⟨by decide, by decide⟩) rfl hl.1 rfl (Nat.le_of_ble_eq_true rfl) dX1_copy_1 (fun rg locs hq I => ?_)
        rw [if_neg ha] at hq
        subst hq
        refine bn_if0_ne (tgt := 14) hx hb dX1_copy_4 (by decide) ?_
        refine lv_iload_n hx hb dX1_copy_7 rfl (lv_at hl 3 rfl) ?_
        refine bx_cs (rest := []) F I (metX1_badGuest b) (cwX1_badGuest F.1.2.2.2.2 ⟨by decide, by decide⟩) rfl hl.1 rfl (Nat.le_of_ble_eq_true rfl) dX1_copy_8 (fun rg locs hq I => ?_)
        rw [if_neg hb2] at hq
        subst hq
        refine bn_if0_eq (tgt := 16) hx hb dX1_copy_11 (by decide) ?_
        refine lv_iload_n hx hb dX1_copy_16 rfl (lv_at hl 2 rfl) ?_
        refine bx_cs (rest := []) F I (metX1_badPage q) (cwX1_badPage F.1.2.2.2.2 ⟨by decide, by decide⟩) rfl hl.1 rfl (Nat.le_of_ble_eq_true rfl) dX1_copy_17 (fun rg locs hq I => ?_)
        rw [if_pos hq2] at hq
        subst hq
        refine bn_if1_ne (tgt := 31) hx hb dX1_copy_20 (by decide) ?_
        refine lv_bipush (v := (-2)) hx hb dX1_copy_31 (by decide) ?_
        exact hret _ _ _ _ _ _ (⟨by rw [sr_copy, if_neg hab, if_pos (Or.inl hq2)], by rw [sp_copy, if_neg hab, if_pos (Or.inl hq2)]; exact RR⟩) I (rfl) dX1_copy_33
      · by_cases ht2 : bz_bp t
        · refine lv_iload_n hx hb dX1_copy_0 rfl (lv_at hl 1 rfl) ?_
          refine bx_cs (rest := []) F I (metX1_badGuest a) (cwX1_badGuest F.1.2.2.2.2 ⟨by decide, by decide⟩) rfl hl.1 rfl (Nat.le_of_ble_eq_true rfl) dX1_copy_1 (fun rg locs hq I => ?_)
          rw [if_neg ha] at hq
          subst hq
          refine bn_if0_ne (tgt := 14) hx hb dX1_copy_4 (by decide) ?_
          refine lv_iload_n hx hb dX1_copy_7 rfl (lv_at hl 3 rfl) ?_
          refine bx_cs (rest := []) F I (metX1_badGuest b) (cwX1_badGuest F.1.2.2.2.2 ⟨by decide, by decide⟩) rfl hl.1 rfl (Nat.le_of_ble_eq_true rfl) dX1_copy_8 (fun rg locs hq I => ?_)
          rw [if_neg hb2] at hq
          subst hq
          refine bn_if0_eq (tgt := 16) hx hb dX1_copy_11 (by decide) ?_
          refine lv_iload_n hx hb dX1_copy_16 rfl (lv_at hl 2 rfl) ?_
          refine bx_cs (rest := []) F I (metX1_badPage q) (cwX1_badPage F.1.2.2.2.2 ⟨by decide, by decide⟩) rfl hl.1 rfl (Nat.le_of_ble_eq_true rfl) dX1_copy_17 (fun rg locs hq I => ?_)
          rw [if_neg hq2] at hq
          subst hq
          refine bn_if0_ne (tgt := 31) hx hb dX1_copy_20 (by decide) ?_
          refine lv_iload hx hb dX1_copy_23 (lv_at hl 4 rfl) ?_
          refine bx_cs (rest := []) F I (metX1_badPage t) (cwX1_badPage F.1.2.2.2.2 ⟨by decide, by decide⟩) rfl hl.1 rfl (Nat.le_of_ble_eq_true rfl) dX1_copy_25 (fun rg locs hq I => ?_)
          rw [if_pos ht2] at hq
          subst hq
          refine bn_if1_eq (tgt := 34) hx hb dX1_copy_28 (by decide) ?_
          refine lv_bipush (v := (-2)) hx hb dX1_copy_31 (by decide) ?_
          exact hret _ _ _ _ _ _ (⟨by rw [sr_copy, if_neg hab, if_pos (Or.inr ht2)], by rw [sp_copy, if_neg hab, if_pos (Or.inr ht2)]; exact RR⟩) I (rfl) dX1_copy_33
        · have hqt : ¬ (bz_bp q ∨ bz_bp t) := fun z => z.elim hq2 ht2
          obtain ⟨an, han, rfl⟩ := bz_bg_no ha
          obtain ⟨bn, hbn, rfl⟩ := bz_bg_no hb2
          obtain ⟨qn, hqn, rfl⟩ := bz_bp_no hq2
          obtain ⟨tn, htn, rfl⟩ := bz_bp_no ht2
          refine lv_iload_n hx hb dX1_copy_0 rfl (lv_at hl 1 rfl) ?_
          refine bx_cs (rest := []) F I (metX1_badGuest (nI an)) (cwX1_badGuest F.1.2.2.2.2 ⟨by decide, by decide⟩) rfl hl.1 rfl (Nat.le_of_ble_eq_true rfl) dX1_copy_1 (fun rg locs hq I => ?_)
          rw [if_neg ha] at hq
          subst hq
          refine bn_if0_ne (tgt := 14) hx hb dX1_copy_4 (by decide) ?_
          refine lv_iload_n hx hb dX1_copy_7 rfl (lv_at hl 3 rfl) ?_
          refine bx_cs (rest := []) F I (metX1_badGuest (nI bn)) (cwX1_badGuest F.1.2.2.2.2 ⟨by decide, by decide⟩) rfl hl.1 rfl (Nat.le_of_ble_eq_true rfl) dX1_copy_8 (fun rg locs hq I => ?_)
          rw [if_neg hb2] at hq
          subst hq
          refine bn_if0_eq (tgt := 16) hx hb dX1_copy_11 (by decide) ?_
          refine lv_iload_n hx hb dX1_copy_16 rfl (lv_at hl 2 rfl) ?_
          refine bx_cs (rest := []) F I (metX1_badPage (nI qn)) (cwX1_badPage F.1.2.2.2.2 ⟨by decide, by decide⟩) rfl hl.1 rfl (Nat.le_of_ble_eq_true rfl) dX1_copy_17 (fun rg locs hq I => ?_)
          rw [if_neg hq2] at hq
          subst hq
          refine bn_if0_ne (tgt := 31) hx hb dX1_copy_20 (by decide) ?_
          refine lv_iload hx hb dX1_copy_23 (lv_at hl 4 rfl) ?_
          refine bx_cs (rest := []) F I (metX1_badPage (nI tn)) (cwX1_badPage F.1.2.2.2.2 ⟨by decide, by decide⟩) rfl hl.1 rfl (Nat.le_of_ble_eq_true rfl) dX1_copy_25 (fun rg locs hq I => ?_)
          rw [if_neg ht2] at hq
          subst hq
          refine bn_if0_eq (tgt := 34) hx hb dX1_copy_28 (by decide) ?_
          refine lv_aload_n hx hb dX1_copy_34 rfl (lv_at hl 0 rfl) ?_
          refine lv_iload_n hx hb dX1_copy_35 rfl (lv_at hl 3 rfl) ?_
          refine lv_bipush (v := nI 8) hx hb dX1_copy_36 (by decide) ?_
          refine bn_mul hx hb dX1_copy_38 ?_
          refine lv_iload hx hb dX1_copy_39 (lv_at hl 4 rfl) ?_
          refine bn_add hx hb dX1_copy_41 ?_
          refine lv_iload_n hx hb dX1_copy_42 rfl (lv_at hl 1 rfl) ?_
          refine lv_bipush (v := nI 8) hx hb dX1_copy_43 (by decide) ?_
          refine bn_mul hx hb dX1_copy_45 ?_
          refine lv_iload_n hx hb dX1_copy_46 rfl (lv_at hl 2 rfl) ?_
          refine bn_add hx hb dX1_copy_47 ?_
          refine bx_cv (wd := BW h dI dZ) (rest := []) F I (metX1_attachLike (pg := bn * 8 + tn) (po := an * 8 + qn) V (by omega) (by omega)) (cwX1_attachLike F.1.2.2.2.2 ⟨by decide, by decide⟩) (q0 := 0) rfl rfl rfl hl.1 rfl (Nat.le_of_ble_eq_true rfl) dX1_copy_48 (fun v1 H locs hq I => ?_)
          have RF := bz_at_abs (by omega) RR hq
          refine lv_iconst (v := nI 0) hx hb dX1_copy_51 (by decide) ?_
          exact hret _ _ _ _ _ _ (⟨by rw [sr_copy, if_neg hab, if_neg hqt], by rw [sp_copy, if_neg hab, if_neg hqt, nI_clamp (by omega), nI_clamp (by omega), nI_clamp (by omega), nI_clamp (by omega), show bn * 32 + tn * 4 = (bn * 8 + tn) * 4 by omega, show an * 32 + qn * 4 = (an * 8 + qn) * 4 by omega]; exact RF⟩) I (rfl) dX1_copy_52
set_option maxHeartbeats 4000000 in
theorem metX1_release {l : Launch} {D : va_G} {h : Nat → Nat} {dI dZ : ClassId} {g : bz_S} {N : Nat} {wc sh : Nat → Int32} (RR : bz_RR N g wc sh) (gu q : Int32) : bc_i l D (bz_T dI dZ) (BW h dI dZ) yX1_release cX1_release 3 .int rmX1_release [.ref (h 0), .int gu, .int q] g (fun r u => r = sr_fill gu q ∧ bz_RR N u (sp_fill wc gu q (nI 0) (nI 0)) sh) := by
  refine bc_i_of RX1 (by decide) rfl (Nat.le_of_ble_eq_true rfl) ?_
  intro p e s m args below meth c A Q ls F hl I hret
  have hx := F.1.1
  have hb := F.1.2.1
  have hl : lv_has ls 3 [(0, .ref (h 0)), (1, .int gu), (2, .int q)] := hl
  have V := RR.1
  have hN := V.1
  by_cases hg : bz_bg gu
  · refine lv_iload_n hx hb dX1_release_0 rfl (lv_at hl 1 rfl) ?_
    refine bx_cs (rest := []) F I (metX1_badGuest gu) (cwX1_badGuest F.1.2.2.2.2 ⟨by decide, by decide⟩) rfl hl.1 rfl (Nat.le_of_ble_eq_true rfl) dX1_release_1 (fun rg locs hq I => ?_)
    rw [if_pos hg] at hq
    subst hq
    refine bn_if1_eq (tgt := 9) hx hb dX1_release_4 (by decide) ?_
    refine lv_iconst (v := (-1)) hx hb dX1_release_7 (by decide) ?_
    exact hret _ _ _ _ _ _ (⟨(if_pos hg).symm, by rw [sp_fill, if_pos hg]; exact RR⟩) I (rfl) dX1_release_8
  · by_cases ha : bz_bp q
    · refine lv_iload_n hx hb dX1_release_0 rfl (lv_at hl 1 rfl) ?_
      refine bx_cs (rest := []) F I (metX1_badGuest gu) (cwX1_badGuest F.1.2.2.2.2 ⟨by decide, by decide⟩) rfl hl.1 rfl (Nat.le_of_ble_eq_true rfl) dX1_release_1 (fun rg locs hq I => ?_)
      rw [if_neg hg] at hq
      subst hq
      refine bn_if0_eq (tgt := 9) hx hb dX1_release_4 (by decide) ?_
      refine lv_iload_n hx hb dX1_release_9 rfl (lv_at hl 2 rfl) ?_
      refine bx_cs (rest := []) F I (metX1_badPage q) (cwX1_badPage F.1.2.2.2.2 ⟨by decide, by decide⟩) rfl hl.1 rfl (Nat.le_of_ble_eq_true rfl) dX1_release_10 (fun rg locs hq I => ?_)
      rw [if_pos ha] at hq
      subst hq
      refine bn_if1_eq (tgt := 19) hx hb dX1_release_13 (by decide) ?_
      refine lv_bipush (v := (-2)) hx hb dX1_release_16 (by decide) ?_
      exact hret _ _ _ _ _ _ (⟨by rw [sr_fill, if_neg hg, if_pos ha], by rw [sp_fill, if_neg hg, if_pos ha]; exact RR⟩) I (rfl) dX1_release_18
    · obtain ⟨gn, hgn, rfl⟩ := bz_bg_no hg
      obtain ⟨qn, hqn, rfl⟩ := bz_bp_no ha
      refine lv_iload_n hx hb dX1_release_0 rfl (lv_at hl 1 rfl) ?_
      refine bx_cs (rest := []) F I (metX1_badGuest (nI gn)) (cwX1_badGuest F.1.2.2.2.2 ⟨by decide, by decide⟩) rfl hl.1 rfl (Nat.le_of_ble_eq_true rfl) dX1_release_1 (fun rg locs hq I => ?_)
      rw [if_neg hg] at hq
      subst hq
      refine bn_if0_eq (tgt := 9) hx hb dX1_release_4 (by decide) ?_
      refine lv_iload_n hx hb dX1_release_9 rfl (lv_at hl 2 rfl) ?_
      refine bx_cs (rest := []) F I (metX1_badPage (nI qn)) (cwX1_badPage F.1.2.2.2.2 ⟨by decide, by decide⟩) rfl hl.1 rfl (Nat.le_of_ble_eq_true rfl) dX1_release_10 (fun rg locs hq I => ?_)
      rw [if_neg ha] at hq
      subst hq
      refine bn_if0_eq (tgt := 19) hx hb dX1_release_13 (by decide) ?_
      refine lv_aload_n hx hb dX1_release_19 rfl (lv_at hl 0 rfl) ?_
      refine lv_iload_n hx hb dX1_release_20 rfl (lv_at hl 1 rfl) ?_
      refine lv_bipush (v := nI 8) hx hb dX1_release_21 (by decide) ?_
      refine bn_mul hx hb dX1_release_23 ?_
      refine lv_iload_n hx hb dX1_release_24 rfl (lv_at hl 2 rfl) ?_
      refine bn_add hx hb dX1_release_25 ?_
      refine bx_cv (wd := BW h dI dZ) (rest := []) F I (metX1_detach (pg := gn * 8 + qn) V (by omega)) (cwX1_detach F.1.2.2.2.2 ⟨by decide, by decide⟩) (q0 := 0) rfl rfl rfl hl.1 rfl (Nat.le_of_ble_eq_true rfl) dX1_release_26 (fun v1 H locs hq I => ?_)
      have RF := bz_de_abs (f := fun k => nI 0 + nI k * nI 0) bz_zz RR hq
      refine lv_iconst (v := nI 0) hx hb dX1_release_29 (by decide) ?_
      exact hret _ _ _ _ _ _ (⟨by rw [sr_fill, if_neg hg, if_neg ha], by rw [sp_fill, if_neg hg, if_neg ha, nI_clamp (by omega), nI_clamp (by omega), show gn * 32 + qn * 4 = (gn * 8 + qn) * 4 by omega]; exact RF⟩) I (rfl) dX1_release_30
set_option maxHeartbeats 4000000 in
theorem metX1_cloneGuest {l : Launch} {D : va_G} {h : Nat → Nat} {dI dZ : ClassId} {g : bz_S} {N : Nat} {wc sh : Nat → Int32} (RR : bz_RR N g wc sh) (a b : Int32) : bc_i l D (bz_T dI dZ) (BW h dI dZ) yX1_cloneGuest cX1_cloneGuest 4 .int rmX1_cloneGuest [.ref (h 0), .int a, .int b] g (fun r u => r = sr_clone a b ∧ bz_RR N u (sp_clone wc a b) sh) := by
  refine bc_i_of RX1 (by decide) rfl (Nat.le_of_ble_eq_true rfl) ?_
  intro p e s m args below meth c A Q ls F hl I hret
  have hx := F.1.1
  have hb := F.1.2.1
  have hl : lv_has ls 4 [(0, .ref (h 0)), (1, .int a), (2, .int b)] := hl
  have V := RR.1
  have hN := V.1
  by_cases ha : bz_bg a
  · refine lv_iload_n hx hb dX1_cloneGuest_0 rfl (lv_at hl 1 rfl) ?_
    refine bx_cs (rest := []) F I (metX1_badGuest a) (cwX1_badGuest F.1.2.2.2.2 ⟨by decide, by decide⟩) rfl hl.1 rfl (Nat.le_of_ble_eq_true rfl) dX1_cloneGuest_1 (fun rg locs hq I => ?_)
    rw [if_pos ha] at hq
    subst hq
    refine bn_if1_ne (tgt := 14) hx hb dX1_cloneGuest_4 (by decide) ?_
    refine lv_iconst (v := (-1)) hx hb dX1_cloneGuest_14 (by decide) ?_
    exact hret _ _ _ _ _ _ (⟨(if_pos (Or.inl ha)).symm, by rw [sp_clone, if_pos (Or.inl ha)]; exact RR⟩) I (rfl) dX1_cloneGuest_15
  · by_cases hb2 : bz_bg b
    · refine lv_iload_n hx hb dX1_cloneGuest_0 rfl (lv_at hl 1 rfl) ?_
      refine bx_cs (rest := []) F I (metX1_badGuest a) (cwX1_badGuest F.1.2.2.2.2 ⟨by decide, by decide⟩) rfl hl.1 rfl (Nat.le_of_ble_eq_true rfl) dX1_cloneGuest_1 (fun rg locs hq I => ?_)
      rw [if_neg ha] at hq
      subst hq
      refine bn_if0_ne (tgt := 14) hx hb dX1_cloneGuest_4 (by decide) ?_
      refine lv_iload_n hx hb dX1_cloneGuest_7 rfl (lv_at hl 2 rfl) ?_
      refine bx_cs (rest := []) F I (metX1_badGuest b) (cwX1_badGuest F.1.2.2.2.2 ⟨by decide, by decide⟩) rfl hl.1 rfl (Nat.le_of_ble_eq_true rfl) dX1_cloneGuest_8 (fun rg locs hq I => ?_)
      rw [if_pos hb2] at hq
      subst hq
      refine bn_if1_eq (tgt := 16) hx hb dX1_cloneGuest_11 (by decide) ?_
      refine lv_iconst (v := (-1)) hx hb dX1_cloneGuest_14 (by decide) ?_
      exact hret _ _ _ _ _ _ (⟨(if_pos (Or.inr hb2)).symm, by rw [sp_clone, if_pos (Or.inr hb2)]; exact RR⟩) I (rfl) dX1_cloneGuest_15
    · have hab : ¬ (bz_bg a ∨ bz_bg b) := fun z => z.elim ha hb2
      obtain ⟨an, han, rfl⟩ := bz_bg_no ha
      obtain ⟨bn, hbn, rfl⟩ := bz_bg_no hb2
      refine lv_iload_n hx hb dX1_cloneGuest_0 rfl (lv_at hl 1 rfl) ?_
      refine bx_cs (rest := []) F I (metX1_badGuest (nI an)) (cwX1_badGuest F.1.2.2.2.2 ⟨by decide, by decide⟩) rfl hl.1 rfl (Nat.le_of_ble_eq_true rfl) dX1_cloneGuest_1 (fun rg locs hq I => ?_)
      rw [if_neg ha] at hq
      subst hq
      refine bn_if0_ne (tgt := 14) hx hb dX1_cloneGuest_4 (by decide) ?_
      refine lv_iload_n hx hb dX1_cloneGuest_7 rfl (lv_at hl 2 rfl) ?_
      refine bx_cs (rest := []) F I (metX1_badGuest (nI bn)) (cwX1_badGuest F.1.2.2.2.2 ⟨by decide, by decide⟩) rfl hl.1 rfl (Nat.le_of_ble_eq_true rfl) dX1_cloneGuest_8 (fun rg locs hq I => ?_)
      rw [if_neg hb2] at hq
      subst hq
      refine bn_if0_eq (tgt := 16) hx hb dX1_cloneGuest_11 (by decide) ?_
      refine lv_iconst (v := nI 0) hx hb dX1_cloneGuest_16 (by decide) ?_
      refine lv_istore_n (lv' := [(3, .int (nI 0)), (0, .ref (h 0)), (1, .int (nI an)), (2, .int (nI bn))]) hx hb dX1_cloneGuest_17 rfl hl (by decide) rfl (fun ls hl => ?_)
      have loop : ∀ (n k : Nat) (g' : bz_S) (H : Heap) (locs : List Loc) (ls : Array Slot), k ≤ 8 → 8 < k + n → bz_RR N g' (sp_put wc (bn * 32) (k * 4) (fun j => wc (an * 32 + j))) sh → bx_I D A (BW h dI dZ g') s H locs → lv_has ls 4 [(3, .int (nI k)), (0, .ref (h 0)), (1, .int (nI an)), (2, .int (nI bn))] → W p l e rmX1_cloneGuest s m args below meth c H locs 0 0 Q (F0 m 18 ls []) := by
        intro n
        induction n with
        | zero => intro k g' H locs ls h1 h2; exact absurd h2 (by omega)
        | succ n ih =>
          intro k g' H locs ls h1 h2 RR' I hl
          refine lv_iload_n hx hb dX1_cloneGuest_18 rfl (lv_at hl 0 rfl) ?_
          refine lv_bipush (v := nI 8) hx hb dX1_cloneGuest_19 (by decide) ?_
          refine bn_ge (tgt := 46) hx hb dX1_cloneGuest_21 (by decide) (by omega) (by omega) (fun c1 => ?_) (fun c1 => ?_)
          · have e8 : k = 8 := by omega
            subst e8
            refine lv_iconst (v := nI 0) hx hb dX1_cloneGuest_46 (by decide) ?_
            exact hret _ _ _ _ _ _ (⟨by rw [sr_clone, if_neg hab], by rw [sp_clone, if_neg hab, nI_clamp (by omega), nI_clamp (by omega)]; exact RR'⟩) I (rfl) dX1_cloneGuest_47
          · refine lv_aload_n hx hb dX1_cloneGuest_24 rfl (lv_at hl 1 rfl) ?_
            refine lv_iload_n hx hb dX1_cloneGuest_25 rfl (lv_at hl 3 rfl) ?_
            refine lv_bipush (v := nI 8) hx hb dX1_cloneGuest_26 (by decide) ?_
            refine bn_mul hx hb dX1_cloneGuest_28 ?_
            refine lv_iload_n hx hb dX1_cloneGuest_29 rfl (lv_at hl 0 rfl) ?_
            refine bn_add hx hb dX1_cloneGuest_30 ?_
            refine lv_iload_n hx hb dX1_cloneGuest_31 rfl (lv_at hl 2 rfl) ?_
            refine lv_bipush (v := nI 8) hx hb dX1_cloneGuest_32 (by decide) ?_
            refine bn_mul hx hb dX1_cloneGuest_34 ?_
            refine lv_iload_n hx hb dX1_cloneGuest_35 rfl (lv_at hl 0 rfl) ?_
            refine bn_add hx hb dX1_cloneGuest_36 ?_
            refine bx_cv (wd := BW h dI dZ) (rest := []) F I (metX1_attachLike (pg := bn * 8 + k) (po := an * 8 + k) RR'.1 (by omega) (by omega)) (cwX1_attachLike F.1.2.2.2.2 ⟨by decide, by decide⟩) (q0 := 0) rfl rfl rfl hl.1 rfl (Nat.le_of_ble_eq_true rfl) dX1_cloneGuest_37 (fun v1 H locs hq I => ?_)
            have RF := bz_at_abs (by omega) RR' hq
            rw [sp_put_clone han hbn (by omega)] at RF
            refine lv_iinc (v := nI (k + 1)) (lv' := [(3, .int (nI (k + 1))), (0, .ref (h 0)), (1, .int (nI an)), (2, .int (nI bn))]) hx hb dX1_cloneGuest_40 hl (k := 0) rfl (bn_inc _) (by decide) rfl (fun ls hl => ?_)
            refine lv_goto (tgt := 18) hx hb dX1_cloneGuest_43 (by decide) ?_
            exact ih (k + 1) v1 H locs ls (by omega) (by omega) RF I hl
      exact loop 9 0 g _ _ _ (by omega) (by omega) (by rw [Nat.zero_mul, sp_put_0]; exact RR) I hl
set_option maxHeartbeats 4000000 in
theorem metX1_shares {l : Launch} {D : va_G} {h : Nat → Nat} {dI dZ : ClassId} {g : bz_S} {N : Nat} {wc sh : Nat → Int32} (RR : bz_RR N g wc sh) (gu x : Int32) : bc_i l D (bz_T dI dZ) (BW h dI dZ) yX1_shares cX1_shares 4 .int rmX1_shares [.ref (h 0), .int gu, .int x] g (fun r u => r = sr_shares sh gu x ∧ bz_RR N u wc (sp_shares sh gu x)) := by
  refine bc_i_of RX1 (by decide) rfl (Nat.le_of_ble_eq_true rfl) ?_
  intro p e s m args below meth c A Q ls F hl I hret
  have hx := F.1.1
  have hb := F.1.2.1
  have hl : lv_has ls 4 [(0, .ref (h 0)), (1, .int gu), (2, .int x)] := hl
  have V := RR.1
  have hN := V.1
  by_cases hg : bz_bg gu
  · refine lv_iload_n hx hb dX1_shares_0 rfl (lv_at hl 1 rfl) ?_
    refine bx_cs (rest := []) F I (metX1_badGuest gu) (cwX1_badGuest F.1.2.2.2.2 ⟨by decide, by decide⟩) rfl hl.1 rfl (Nat.le_of_ble_eq_true rfl) dX1_shares_1 (fun rg locs hq I => ?_)
    rw [if_pos hg] at hq
    subst hq
    refine bn_if1_eq (tgt := 9) hx hb dX1_shares_4 (by decide) ?_
    refine lv_iconst (v := (-1)) hx hb dX1_shares_7 (by decide) ?_
    exact hret _ _ _ _ _ _ (⟨(if_pos hg).symm, by rw [sp_shares, if_pos hg]; exact RR⟩) I (rfl) dX1_shares_8
  · by_cases ha : bz_bs x
    · refine lv_iload_n hx hb dX1_shares_0 rfl (lv_at hl 1 rfl) ?_
      refine bx_cs (rest := []) F I (metX1_badGuest gu) (cwX1_badGuest F.1.2.2.2.2 ⟨by decide, by decide⟩) rfl hl.1 rfl (Nat.le_of_ble_eq_true rfl) dX1_shares_1 (fun rg locs hq I => ?_)
      rw [if_neg hg] at hq
      subst hq
      refine bn_if0_eq (tgt := 9) hx hb dX1_shares_4 (by decide) ?_
      refine lv_iload_n hx hb dX1_shares_9 rfl (lv_at hl 2 rfl) ?_
      refine lv_iconst (v := nI 1) hx hb dX1_shares_10 (by decide) ?_
      refine lv_icmp_lt (tgt := 20) hx hb dX1_shares_11 (by decide) (fun c1 => ?_) (fun c1 => ?_)
      · refine lv_bipush (v := (-4)) hx hb dX1_shares_20 (by decide) ?_
        exact hret _ _ _ _ _ _ (⟨by rw [sr_shares, if_neg hg, if_pos ha], by rw [sp_shares, if_neg hg, if_pos ha]; exact RR⟩) I (rfl) dX1_shares_22
      · refine lv_iload_n hx hb dX1_shares_14 rfl (lv_at hl 2 rfl) ?_
        refine lv_bipush (v := nI 100) hx hb dX1_shares_15 (by decide) ?_
        refine lv_icmp_le (tgt := 23) hx hb dX1_shares_17 (by decide) (fun c2 => ?_) (fun c2 => ?_)
        · exact absurd ha (fun q => q.elim c1 (fun z => Int32.not_le.mpr z c2))
        · refine lv_bipush (v := (-4)) hx hb dX1_shares_20 (by decide) ?_
          exact hret _ _ _ _ _ _ (⟨by rw [sr_shares, if_neg hg, if_pos ha], by rw [sp_shares, if_neg hg, if_pos ha]; exact RR⟩) I (rfl) dX1_shares_22
    · obtain ⟨gn, hgn, rfl⟩ := bz_bg_no hg
      refine lv_iload_n hx hb dX1_shares_0 rfl (lv_at hl 1 rfl) ?_
      refine bx_cs (rest := []) F I (metX1_badGuest (nI gn)) (cwX1_badGuest F.1.2.2.2.2 ⟨by decide, by decide⟩) rfl hl.1 rfl (Nat.le_of_ble_eq_true rfl) dX1_shares_1 (fun rg locs hq I => ?_)
      rw [if_neg hg] at hq
      subst hq
      refine bn_if0_eq (tgt := 9) hx hb dX1_shares_4 (by decide) ?_
      refine lv_iload_n hx hb dX1_shares_9 rfl (lv_at hl 2 rfl) ?_
      refine lv_iconst (v := nI 1) hx hb dX1_shares_10 (by decide) ?_
      refine lv_icmp_lt (tgt := 20) hx hb dX1_shares_11 (by decide) (fun c1 => ?_) (fun c1 => ?_)
      · exact absurd (Or.inl c1) ha
      · refine lv_iload_n hx hb dX1_shares_14 rfl (lv_at hl 2 rfl) ?_
        refine lv_bipush (v := nI 100) hx hb dX1_shares_15 (by decide) ?_
        refine lv_icmp_le (tgt := 23) hx hb dX1_shares_17 (by decide) (fun c2 => ?_) (fun c2 => ?_)
        · refine lv_aload_n hx hb dX1_shares_23 rfl (lv_at hl 0 rfl) ?_
          refine bs_sharesOf F I dX1_shares_24 ?_
          refine lv_iload_n hx hb dX1_shares_27 rfl (lv_at hl 1 rfl) ?_
          refine bs_ld7 F I (by omega) (rfl) dX1_shares_28 ?_
          refine lv_istore_n (lv' := [(3, .int (g 7 gn)), (0, .ref (h 0)), (1, .int (nI gn)), (2, .int x)]) hx hb dX1_shares_29 rfl hl (by decide) rfl (fun ls hl => ?_)
          refine lv_aload_n hx hb dX1_shares_30 rfl (lv_at hl 1 rfl) ?_
          refine bs_sharesOf F I dX1_shares_31 ?_
          refine lv_iload_n hx hb dX1_shares_34 rfl (lv_at hl 2 rfl) ?_
          refine lv_iload_n hx hb dX1_shares_35 rfl (lv_at hl 3 rfl) ?_
          refine bs_st7 F I (by omega) dX1_shares_36 (fun H locs u1 eu1 I => ?_)
          refine lv_iload_n hx hb dX1_shares_37 rfl (lv_at hl 0 rfl) ?_
          exact hret _ _ _ _ _ _ (⟨by rw [sr_shares, if_neg hg, if_neg ha, nI_clamp (by omega)]; exact RR.2.2 gn hgn, bz_Iv_same V (by rw [eu1]; rfl) (by rw [eu1]; rfl) (by rw [eu1]; rfl) (by rw [eu1]; rfl) (by rw [eu1]; rfl) (by rw [eu1]; exact V.2.2.1), fun p hp w hw => (RR.2.1 p hp w hw).trans (bz_vl_congr (by rw [eu1]; rfl) (by rw [eu1]; rfl) (by rw [eu1]; rfl) (by rw [eu1]; rfl)).symm, fun i hi => by
            rw [eu1, sp_shares, if_neg hg, if_neg ha, nI_clamp (by omega), bz_st_s]
            by_cases z : i = gn
            · rw [z, bz_us, bz_us]
            · rw [bz_un z, bz_un z]; exact RR.2.2 i hi⟩) I (rfl) dX1_shares_38
        · exact absurd (Or.inr (Int32.not_le.mp c2)) ha
end
section
/-! BalloonShare: hashOf, alike, isZero, twinBefore, tidy -/
abbrev bz_al (g : bz_S) (a b : Nat) : Prop := ∀ w, w < 4 → bz_vl g a w = bz_vl g b w
theorem bz_al_sp {g : bz_S} {c : Nat → Int32} {a b : Nat} (h : bz_Abs g c) (ha : a < 24) (hb : b < 24) : bz_al g a b ↔ sp_al c a b :=
  ⟨fun q w hw => by rw [h a ha w hw, h b hb w hw]; exact q w hw, fun q w hw => by rw [← h a ha w hw, ← h b hb w hw]; exact q w hw⟩
theorem bz_at_sv {N pg po : Nat} {g u : bz_S} (h : bz_al g pg po) (a : bz_At N g pg po u) : bz_Sv g u := by
  obtain ⟨aI, a0, a1, a2, a5, a7⟩ := a
  refine ⟨fun q hq w hw => ?_, a7⟩
  rw [bz_vl_at a0 a1 a2 a5]
  by_cases z : q = pg
  · rw [if_pos z, z]; exact (h w hw).symm
  · rw [if_neg z]
theorem bz_de_sv {N pg : Nat} {g u : bz_S} (h : ∀ w, w < 4 → bz_vl g pg w = 0) (a : bz_De N g pg u) : bz_Sv g u := by
  obtain ⟨aI, a0, a1, a2, a5, a7⟩ := a
  refine ⟨fun q hq w hw => ?_, a7⟩
  rw [bz_vl_de a0 a1 a2 a5]
  by_cases z : q = pg
  · rw [if_pos z, z]; exact (h w hw).symm
  · rw [if_neg z]
set_option maxHeartbeats 4000000 in
theorem metX1_hashOf {l : Launch} {D : va_G} {h : Nat → Nat} {dI dZ : ClassId} {g : bz_S} {N : Nat} (V : bz_Iv N g) {pg : Nat} (hp : pg < 24) : bc_i l D (bz_T dI dZ) (BW h dI dZ) yX1_hashOf cX1_hashOf 5 .int rmX1_hashOf [.ref (h 0), .int (nI pg)] g (fun r u => u = g) := by
  refine bc_i_of RX1 (by decide) rfl (Nat.le_of_ble_eq_true rfl) ?_
  intro p e s m args below meth c A Q ls F hl I hret
  have hx := F.1.1
  have hb := F.1.2.1
  have hl : lv_has ls 5 [(0, .ref (h 0)), (1, .int (nI pg))] := hl
  have loop : ∀ (n w : Nat) (y : Int32) (H : Heap) (locs : List Loc) (ls : Array Slot), w ≤ 4 → 4 < w + n → bx_I D A (BW h dI dZ g) s H locs → lv_has ls 5 [(3, .int (nI w)), (2, .int y), (0, .ref (h 0)), (1, .int (nI pg))] → W p l e rmX1_hashOf s m args below meth c H locs 0 0 Q (F0 m 5 ls []) := by
    intro n
    induction n with
    | zero => intro w y H locs ls h1 h2; exact absurd h2 (by omega)
    | succ n ih =>
      intro w y H locs ls h1 h2 I hl
      refine lv_iload_n hx hb dX1_hashOf_5 rfl (lv_at hl 0 rfl) ?_
      refine lv_iconst (v := nI 4) hx hb dX1_hashOf_6 (by decide) ?_
      refine bn_ge (tgt := 38) hx hb dX1_hashOf_7 (by decide) (by omega) (by omega) (fun c1 => ?_) (fun c1 => ?_)
      · refine lv_iload_n hx hb dX1_hashOf_38 rfl (lv_at hl 1 rfl) ?_
        exact hret _ _ _ _ _ _ (rfl) I (rfl) dX1_hashOf_39
      · refine lv_aload_n hx hb dX1_hashOf_10 rfl (lv_at hl 2 rfl) ?_
        refine lv_iload_n hx hb dX1_hashOf_11 rfl (lv_at hl 3 rfl) ?_
        refine lv_iload_n hx hb dX1_hashOf_12 rfl (lv_at hl 0 rfl) ?_
        refine bx_ci (wd := BW h dI dZ) (rest := []) F I (metX1_wordOf V hp (show w < 4 by omega)) (cwX1_wordOf F.1.2.2.2.2 ⟨by decide, by decide⟩) (q0 := 0) rfl rfl rfl hl.1 rfl (Nat.le_of_ble_eq_true rfl) dX1_hashOf_13 (fun r1 v1 H locs hq I => ?_)
        rw [hq.2] at I
        refine lv_istore (lv' := [(4, .int r1), (3, .int (nI w)), (2, .int y), (0, .ref (h 0)), (1, .int (nI pg))]) hx hb dX1_hashOf_16 hl (by decide) rfl (fun ls hl => ?_)
        refine lv_iload_n hx hb dX1_hashOf_18 rfl (lv_at hl 2 rfl) ?_
        refine lv_bipush (v := nI 31) hx hb dX1_hashOf_19 (by decide) ?_
        refine lv_imul hx hb dX1_hashOf_21 ?_
        refine lv_iload hx hb dX1_hashOf_22 (lv_at hl 0 rfl) ?_
        refine lv_iload hx hb dX1_hashOf_24 (lv_at hl 0 rfl) ?_
        refine lv_bipush (v := nI 15) hx hb dX1_hashOf_26 (by decide) ?_
        refine lv_iushr hx hb dX1_hashOf_28 rfl ?_
        refine lv_topi (fun y1 _ => ?_)
        refine lv_ixor hx hb dX1_hashOf_29 ?_
        refine lv_iadd hx hb dX1_hashOf_30 ?_
        refine lv_topi (fun y2 _ => ?_)
        refine lv_istore_n (lv' := [(2, .int y2), (4, .int r1), (3, .int (nI w)), (0, .ref (h 0)), (1, .int (nI pg))]) hx hb dX1_hashOf_31 rfl hl (by decide) rfl (fun ls hl => ?_)
        refine lv_iinc (v := nI (w + 1)) (lv' := [(3, .int (nI (w + 1))), (2, .int y2), (4, .int r1), (0, .ref (h 0)), (1, .int (nI pg))]) hx hb dX1_hashOf_32 hl (k := 2) rfl (bn_inc _) (by decide) rfl (fun ls hl => ?_)
        refine lv_goto (tgt := 5) hx hb dX1_hashOf_35 (by decide) ?_
        exact ih (w + 1) _ H locs ls (by omega) (by omega) I (lv_sub hl [0, 1, 3, 4] rfl)
  refine lv_bipush (v := nI 7) hx hb dX1_hashOf_0 (by decide) ?_
  refine lv_istore_n (lv' := [(2, .int (nI 7)), (0, .ref (h 0)), (1, .int (nI pg))]) hx hb dX1_hashOf_2 rfl hl (by decide) rfl (fun ls hl => ?_)
  refine lv_iconst (v := nI 0) hx hb dX1_hashOf_3 (by decide) ?_
  refine lv_istore_n (lv' := [(3, .int (nI 0)), (2, .int (nI 7)), (0, .ref (h 0)), (1, .int (nI pg))]) hx hb dX1_hashOf_4 rfl hl (by decide) rfl (fun ls hl => ?_)
  exact loop 5 0 _ _ _ _ (by omega) (by omega) I hl
set_option maxHeartbeats 4000000 in
/-- whether two pages hold the same words -/
theorem metX1_alike {l : Launch} {D : va_G} {h : Nat → Nat} {dI dZ : ClassId} {g : bz_S} {N : Nat} (V : bz_Iv N g) {a b : Nat} (ha : a < 24) (hb2 : b < 24) : bc_i l D (bz_T dI dZ) (BW h dI dZ) yX1_alike cX1_alike 6 .boolean rmX1_alike [.ref (h 0), .int (nI a), .int (nI b)] g (fun r u => r = (if bz_al g a b then nI 1 else nI 0) ∧ u = g) := by
  refine bc_i_of RX1 (by decide) rfl (Nat.le_of_ble_eq_true rfl) ?_
  intro p e s m args below meth c A Q ls F hl I hret
  have hx := F.1.1
  have hb := F.1.2.1
  have hl : lv_has ls 6 [(0, .ref (h 0)), (1, .int (nI a)), (2, .int (nI b))] := hl
  have hN := V.1
  have loop : ∀ (n w : Nat) (H : Heap) (locs : List Loc) (ls : Array Slot), w ≤ 4 → 4 < w + n → (∀ j, j < w → bz_vl g a j = bz_vl g b j) → bx_I D A (BW h dI dZ g) s H locs → lv_has ls 6 [(3, .int (nI w)), (0, .ref (h 0)), (1, .int (nI a)), (2, .int (nI b))] → W p l e rmX1_alike s m args below meth c H locs 0 0 Q (F0 m 28 ls []) := by
    intro n
    induction n with
    | zero => intro w H locs ls h1 h2; exact absurd h2 (by omega)
    | succ n ih =>
      intro w H locs ls h1 h2 hH I hl
      refine lv_iload_n hx hb dX1_alike_28 rfl (lv_at hl 0 rfl) ?_
      refine lv_iconst (v := nI 4) hx hb dX1_alike_29 (by decide) ?_
      refine bn_ge (tgt := 64) hx hb dX1_alike_30 (by decide) (by omega) (by omega) (fun c1 => ?_) (fun c1 => ?_)
      · refine lv_iconst (v := nI 1) hx hb dX1_alike_64 (by decide) ?_
        exact hret _ _ _ _ _ _ (⟨(if_pos (fun j hj => hH j (by omega))).symm, rfl⟩) I (rfl) dX1_alike_65
      · refine lv_aload_n hx hb dX1_alike_33 rfl (lv_at hl 1 rfl) ?_
        refine lv_iload_n hx hb dX1_alike_34 rfl (lv_at hl 2 rfl) ?_
        refine lv_iload_n hx hb dX1_alike_35 rfl (lv_at hl 0 rfl) ?_
        refine bx_ci (wd := BW h dI dZ) (rest := []) F I (metX1_wordOf V ha (show w < 4 by omega)) (cwX1_wordOf F.1.2.2.2.2 ⟨by decide, by decide⟩) (q0 := 0) rfl rfl rfl hl.1 rfl (Nat.le_of_ble_eq_true rfl) dX1_alike_36 (fun r1 v1 H locs hq1 I => ?_)
        rw [hq1.2] at I
        refine lv_istore (lv' := [(4, .int r1), (3, .int (nI w)), (0, .ref (h 0)), (1, .int (nI a)), (2, .int (nI b))]) hx hb dX1_alike_39 hl (by decide) rfl (fun ls hl => ?_)
        refine lv_aload_n hx hb dX1_alike_41 rfl (lv_at hl 2 rfl) ?_
        refine lv_iload_n hx hb dX1_alike_42 rfl (lv_at hl 4 rfl) ?_
        refine lv_iload_n hx hb dX1_alike_43 rfl (lv_at hl 1 rfl) ?_
        refine bx_ci (wd := BW h dI dZ) (rest := []) F I (metX1_wordOf V hb2 (show w < 4 by omega)) (cwX1_wordOf F.1.2.2.2.2 ⟨by decide, by decide⟩) (q0 := 0) rfl rfl rfl hl.1 rfl (Nat.le_of_ble_eq_true rfl) dX1_alike_44 (fun r2 v2 H locs hq2 I => ?_)
        rw [hq2.2] at I
        refine lv_istore (lv' := [(5, .int r2), (4, .int r1), (3, .int (nI w)), (0, .ref (h 0)), (1, .int (nI a)), (2, .int (nI b))]) hx hb dX1_alike_47 hl (by decide) rfl (fun ls hl => ?_)
        refine lv_iload hx hb dX1_alike_49 (lv_at hl 1 rfl) ?_
        refine lv_iload hx hb dX1_alike_51 (lv_at hl 0 rfl) ?_
        refine lv_icmp_eq (tgt := 58) hx hb dX1_alike_53 (by decide) (fun c2 => ?_) (fun c2 => ?_)
        · refine lv_iinc (v := nI (w + 1)) (lv' := [(3, .int (nI (w + 1))), (5, .int r2), (4, .int r1), (0, .ref (h 0)), (1, .int (nI a)), (2, .int (nI b))]) hx hb dX1_alike_58 hl (k := 2) rfl (bn_inc _) (by decide) rfl (fun ls hl => ?_)
          refine lv_goto (tgt := 28) hx hb dX1_alike_61 (by decide) ?_
          exact ih (w + 1) H locs ls (by omega) (by omega) (fun j hj => (Nat.lt_or_eq_of_le (Nat.le_of_lt_succ hj)).elim (hH j) (fun z => by rw [z, ← hq1.1, ← hq2.1]; exact c2)) I (lv_sub hl [0, 3, 4, 5] rfl)
        · refine lv_iconst (v := nI 0) hx hb dX1_alike_56 (by decide) ?_
          exact hret _ _ _ _ _ _ (⟨(if_neg (fun z => c2 (by rw [hq1.1, hq2.1]; exact z w (by omega)))).symm, rfl⟩) I (rfl) dX1_alike_57
  have at26 : ∀ (H : Heap) (locs : List Loc) (ls : Array Slot), bx_I D A (BW h dI dZ g) s H locs → lv_has ls 6 [(0, .ref (h 0)), (1, .int (nI a)), (2, .int (nI b))] → W p l e rmX1_alike s m args below meth c H locs 0 0 Q (F0 m 26 ls []) := by
    intro H locs ls I hl
    refine lv_iconst (v := nI 0) hx hb dX1_alike_26 (by decide) ?_
    refine lv_istore_n (lv' := [(3, .int (nI 0)), (0, .ref (h 0)), (1, .int (nI a)), (2, .int (nI b))]) hx hb dX1_alike_27 rfl hl (by decide) rfl (fun ls hl => ?_)
    exact loop 5 0 H locs ls (by omega) (by omega) (fun j hj => absurd hj (by omega)) I hl
  rcases V.2.2.2.1 a ha with ⟨a0, b0⟩ | ⟨f, hf, a0, b0⟩ | ⟨t, ht, a0, b0⟩
  · refine lv_aload_n hx hb dX1_alike_0 rfl (lv_at hl 0 rfl) ?_
    refine bs_frameOf F I dX1_alike_1 ?_
    refine lv_iload_n hx hb dX1_alike_4 rfl (lv_at hl 1 rfl) ?_
    refine bs_ld0 (v := (-1)) F I (ha) (a0) dX1_alike_5 ?_
    refine bm_iflt (tgt := 26) hx hb dX1_alike_6 (by decide) ?_
    exact at26 _ _ _ I hl
  · refine lv_aload_n hx hb dX1_alike_0 rfl (lv_at hl 0 rfl) ?_
    refine bs_frameOf F I dX1_alike_1 ?_
    refine lv_iload_n hx hb dX1_alike_4 rfl (lv_at hl 1 rfl) ?_
    refine bs_ld0 (v := nI f) F I (ha) (a0) dX1_alike_5 ?_
    refine bn_iflt (tgt := 26) hx hb dX1_alike_6 (by decide) (by omega) ?_
    refine lv_aload_n hx hb dX1_alike_9 rfl (lv_at hl 0 rfl) ?_
    refine bs_frameOf F I dX1_alike_10 ?_
    refine lv_iload_n hx hb dX1_alike_13 rfl (lv_at hl 1 rfl) ?_
    refine bs_ld0 (v := nI f) F I (ha) (a0) dX1_alike_14 ?_
    refine lv_aload_n hx hb dX1_alike_15 rfl (lv_at hl 0 rfl) ?_
    refine bs_frameOf F I dX1_alike_16 ?_
    refine lv_iload_n hx hb dX1_alike_19 rfl (lv_at hl 2 rfl) ?_
    refine bs_ld0 F I (by omega) (rfl) dX1_alike_20 ?_
    refine lv_icmp_ne (tgt := 26) hx hb dX1_alike_21 (by decide) (fun c1 => ?_) (fun c1 => ?_)
    · exact at26 _ _ _ I hl
    · refine lv_iconst (v := nI 1) hx hb dX1_alike_24 (by decide) ?_
      exact hret _ _ _ _ _ _ (⟨(if_pos (fun w hw => by rw [bz_vl_f (show f < 2 ^ 31 by omega) a0, bz_vl_f (show f < 2 ^ 31 by omega) c1.symm])).symm, rfl⟩) I (rfl) dX1_alike_25
  · refine lv_aload_n hx hb dX1_alike_0 rfl (lv_at hl 0 rfl) ?_
    refine bs_frameOf F I dX1_alike_1 ?_
    refine lv_iload_n hx hb dX1_alike_4 rfl (lv_at hl 1 rfl) ?_
    refine bs_ld0 (v := (-1)) F I (ha) (a0) dX1_alike_5 ?_
    refine bm_iflt (tgt := 26) hx hb dX1_alike_6 (by decide) ?_
    exact at26 _ _ _ I hl
set_option maxHeartbeats 4000000 in
theorem metX1_isZero {l : Launch} {D : va_G} {h : Nat → Nat} {dI dZ : ClassId} {g : bz_S} {N : Nat} (V : bz_Iv N g) {pg : Nat} (hp : pg < 24) : bc_i l D (bz_T dI dZ) (BW h dI dZ) yX1_isZero cX1_isZero 4 .boolean rmX1_isZero [.ref (h 0), .int (nI pg)] g (fun r u => (r = nI 0 ∨ (r = nI 1 ∧ ∀ w, w < 4 → bz_vl g pg w = 0)) ∧ u = g) := by
  refine bc_i_of RX1 (by decide) rfl (Nat.le_of_ble_eq_true rfl) ?_
  intro p e s m args below meth c A Q ls F hl I hret
  have hx := F.1.1
  have hb := F.1.2.1
  have hl : lv_has ls 4 [(0, .ref (h 0)), (1, .int (nI pg))] := hl
  have loop : ∀ (n w : Nat) (H : Heap) (locs : List Loc) (ls : Array Slot), w ≤ 4 → 4 < w + n → (∀ j, j < w → bz_vl g pg j = 0) → bx_I D A (BW h dI dZ g) s H locs → lv_has ls 4 [(2, .int (nI w)), (0, .ref (h 0)), (1, .int (nI pg))] → W p l e rmX1_isZero s m args below meth c H locs 0 0 Q (F0 m 2 ls []) := by
    intro n
    induction n with
    | zero => intro w H locs ls h1 h2; exact absurd h2 (by omega)
    | succ n ih =>
      intro w H locs ls h1 h2 hH I hl
      refine lv_iload_n hx hb dX1_isZero_2 rfl (lv_at hl 0 rfl) ?_
      refine lv_iconst (v := nI 4) hx hb dX1_isZero_3 (by decide) ?_
      refine bn_ge (tgt := 26) hx hb dX1_isZero_4 (by decide) (by omega) (by omega) (fun c1 => ?_) (fun c1 => ?_)
      · refine lv_iconst (v := nI 1) hx hb dX1_isZero_26 (by decide) ?_
        exact hret _ _ _ _ _ _ (⟨Or.inr ⟨rfl, fun j hj => hH j (by omega)⟩, rfl⟩) I (rfl) dX1_isZero_27
      · refine lv_aload_n hx hb dX1_isZero_7 rfl (lv_at hl 1 rfl) ?_
        refine lv_iload_n hx hb dX1_isZero_8 rfl (lv_at hl 2 rfl) ?_
        refine lv_iload_n hx hb dX1_isZero_9 rfl (lv_at hl 0 rfl) ?_
        refine bx_ci (wd := BW h dI dZ) (rest := []) F I (metX1_wordOf V hp (show w < 4 by omega)) (cwX1_wordOf F.1.2.2.2.2 ⟨by decide, by decide⟩) (q0 := 0) rfl rfl rfl hl.1 rfl (Nat.le_of_ble_eq_true rfl) dX1_isZero_10 (fun r1 v1 H locs hq I => ?_)
        rw [hq.2] at I
        refine lv_istore_n (lv' := [(3, .int r1), (2, .int (nI w)), (0, .ref (h 0)), (1, .int (nI pg))]) hx hb dX1_isZero_13 rfl hl (by decide) rfl (fun ls hl => ?_)
        refine lv_iload_n hx hb dX1_isZero_14 rfl (lv_at hl 0 rfl) ?_
        refine lv_if_eq (tgt := 20) hx hb dX1_isZero_15 (by decide) (fun c2 => ?_) (fun c2 => ?_)
        · refine lv_iinc (v := nI (w + 1)) (lv' := [(2, .int (nI (w + 1))), (3, .int r1), (0, .ref (h 0)), (1, .int (nI pg))]) hx hb dX1_isZero_20 hl (k := 1) rfl (bn_inc _) (by decide) rfl (fun ls hl => ?_)
          refine lv_goto (tgt := 2) hx hb dX1_isZero_23 (by decide) ?_
          exact ih (w + 1) H locs ls (by omega) (by omega) (fun j hj => (Nat.lt_or_eq_of_le (Nat.le_of_lt_succ hj)).elim (hH j) (fun z => by rw [z, ← hq.1]; exact c2)) I (lv_sub hl [0, 2, 3] rfl)
        · refine lv_iconst (v := nI 0) hx hb dX1_isZero_18 (by decide) ?_
          exact hret _ _ _ _ _ _ (⟨Or.inl rfl, rfl⟩) I (rfl) dX1_isZero_19
  refine lv_iconst (v := nI 0) hx hb dX1_isZero_0 (by decide) ?_
  refine lv_istore_n (lv' := [(2, .int (nI 0)), (0, .ref (h 0)), (1, .int (nI pg))]) hx hb dX1_isZero_1 rfl hl (by decide) rfl (fun ls hl => ?_)
  exact loop 5 0 _ _ _ (by omega) (by omega) (fun j hj => absurd hj (by omega)) I hl
set_option maxHeartbeats 4000000 in
theorem metX1_twinBefore {l : Launch} {D : va_G} {h : Nat → Nat} {dI dZ : ClassId} {g : bz_S} {N : Nat} (V : bz_Iv N g) {b i : Nat} (hb2 : b < 8) (hi : i < 24) : bc_i l D (bz_T dI dZ) (BW h dI dZ) yX1_twinBefore cX1_twinBefore 9 .int rmX1_twinBefore [.ref (h 0), .int (nI b), .int (nI i)] g (fun r u => (r = (-1) ∨ ∃ q, q < 24 ∧ r = nI q ∧ bz_al g ((b + i) % 24) q) ∧ u = g) := by
  refine bc_i_of RX1 (by decide) rfl (Nat.le_of_ble_eq_true rfl) ?_
  intro p e s m args below meth c A Q ls F hl I hret
  have hx := F.1.1
  have hb := F.1.2.1
  have hl : lv_has ls 9 [(0, .ref (h 0)), (1, .int (nI b)), (2, .int (nI i))] := hl
  have loop : ∀ (n k : Nat) (y : Int32) (H : Heap) (locs : List Loc) (ls : Array Slot), k ≤ i → i < k + n → bx_I D A (BW h dI dZ g) s H locs → lv_has ls 9 [(5, .int (nI k)), (4, .int y), (3, .int (nI ((b + i) % 24))), (0, .ref (h 0)), (1, .int (nI b)), (2, .int (nI i))] → W p l e rmX1_twinBefore s m args below meth c H locs 0 0 Q (F0 m 17 ls []) := by
    intro n
    induction n with
    | zero => intro k y H locs ls h1 h2; exact absurd h2 (by omega)
    | succ n ih =>
      intro k y H locs ls h1 h2 I hl
      refine lv_iload hx hb dX1_twinBefore_17 (lv_at hl 0 rfl) ?_
      refine lv_iload_n hx hb dX1_twinBefore_19 rfl (lv_at hl 5 rfl) ?_
      refine bn_ge (tgt := 70) hx hb dX1_twinBefore_20 (by decide) (by omega) (by omega) (fun c1 => ?_) (fun c1 => ?_)
      · refine lv_iconst (v := (-1)) hx hb dX1_twinBefore_70 (by decide) ?_
        exact hret _ _ _ _ _ _ (⟨Or.inl rfl, rfl⟩) I (rfl) dX1_twinBefore_71
      · refine lv_iload_n hx hb dX1_twinBefore_23 rfl (lv_at hl 4 rfl) ?_
        refine lv_iload hx hb dX1_twinBefore_24 (lv_at hl 0 rfl) ?_
        refine bn_add hx hb dX1_twinBefore_26 ?_
        refine lv_bipush (v := nI 24) hx hb dX1_twinBefore_27 (by decide) ?_
        refine bn_rem hx hb dX1_twinBefore_29 (by omega) (by omega) (by omega) ?_
        refine lv_istore (lv' := [(6, .int (nI ((b + k) % 24))), (5, .int (nI k)), (4, .int y), (3, .int (nI ((b + i) % 24))), (0, .ref (h 0)), (1, .int (nI b)), (2, .int (nI i))]) hx hb dX1_twinBefore_30 hl (by decide) rfl (fun ls hl => ?_)
        refine lv_aload_n hx hb dX1_twinBefore_32 rfl (lv_at hl 4 rfl) ?_
        refine lv_iload hx hb dX1_twinBefore_33 (lv_at hl 0 rfl) ?_
        refine bx_ci (wd := BW h dI dZ) (rest := []) F I (metX1_hashOf (pg := (b + k) % 24) V (by omega)) (cwX1_hashOf F.1.2.2.2.2 ⟨by decide, by decide⟩) (q0 := 0) rfl rfl rfl hl.1 rfl (Nat.le_of_ble_eq_true rfl) dX1_twinBefore_35 (fun r1 v1 H locs hq I => ?_)
        rw [hq] at I
        refine lv_istore (lv' := [(7, .int r1), (6, .int (nI ((b + k) % 24))), (5, .int (nI k)), (4, .int y), (3, .int (nI ((b + i) % 24))), (0, .ref (h 0)), (1, .int (nI b)), (2, .int (nI i))]) hx hb dX1_twinBefore_38 hl (by decide) rfl (fun ls hl => ?_)
        refine lv_iload hx hb dX1_twinBefore_40 (lv_at hl 3 rfl) ?_
        refine lv_iload hx hb dX1_twinBefore_42 (lv_at hl 0 rfl) ?_
        refine lv_icmp_ne (tgt := 64) hx hb dX1_twinBefore_44 (by decide) (fun c2 => ?_) (fun c2 => ?_)
        · refine lv_iinc (v := nI (k + 1)) (lv' := [(5, .int (nI (k + 1))), (7, .int r1), (6, .int (nI ((b + k) % 24))), (4, .int y), (3, .int (nI ((b + i) % 24))), (0, .ref (h 0)), (1, .int (nI b)), (2, .int (nI i))]) hx hb dX1_twinBefore_64 hl (k := 2) rfl (bn_inc _) (by decide) rfl (fun ls hl => ?_)
          refine lv_goto (tgt := 17) hx hb dX1_twinBefore_67 (by decide) ?_
          exact ih (k + 1) y H locs ls (by omega) (by omega) I (lv_sub hl [0, 3, 4, 5, 6, 7] rfl)
        · refine lv_aload_n hx hb dX1_twinBefore_47 rfl (lv_at hl 5 rfl) ?_
          refine lv_iload_n hx hb dX1_twinBefore_48 rfl (lv_at hl 4 rfl) ?_
          refine lv_iload hx hb dX1_twinBefore_49 (lv_at hl 1 rfl) ?_
          refine bx_ci (wd := BW h dI dZ) (rest := []) F I (metX1_alike (a := (b + i) % 24) (b := (b + k) % 24) V (by omega) (by omega)) (cwX1_alike F.1.2.2.2.2 ⟨by decide, by decide⟩) (q0 := 0) rfl rfl rfl hl.1 rfl (Nat.le_of_ble_eq_true rfl) dX1_twinBefore_51 (fun r2 v2 H locs hq2 I => ?_)
          obtain ⟨er, hq2⟩ := hq2
          rw [hq2] at I
          by_cases hal : bz_al g ((b + i) % 24) ((b + k) % 24)
          · rw [if_pos hal] at er
            subst er
            refine lv_istore (lv' := [(8, .int (nI 1)), (7, .int r1), (6, .int (nI ((b + k) % 24))), (5, .int (nI k)), (4, .int y), (3, .int (nI ((b + i) % 24))), (0, .ref (h 0)), (1, .int (nI b)), (2, .int (nI i))]) hx hb dX1_twinBefore_54 hl (by decide) rfl (fun ls hl => ?_)
            refine lv_iload hx hb dX1_twinBefore_56 (lv_at hl 0 rfl) ?_
            refine bn_if1_eq (tgt := 64) hx hb dX1_twinBefore_58 (by decide) ?_
            refine lv_iload hx hb dX1_twinBefore_61 (lv_at hl 2 rfl) ?_
            exact hret _ _ _ _ _ _ (⟨Or.inr ⟨(b + k) % 24, by omega, rfl, hal⟩, rfl⟩) I (rfl) dX1_twinBefore_63
          · rw [if_neg hal] at er
            subst er
            refine lv_istore (lv' := [(8, .int (nI 0)), (7, .int r1), (6, .int (nI ((b + k) % 24))), (5, .int (nI k)), (4, .int y), (3, .int (nI ((b + i) % 24))), (0, .ref (h 0)), (1, .int (nI b)), (2, .int (nI i))]) hx hb dX1_twinBefore_54 hl (by decide) rfl (fun ls hl => ?_)
            refine lv_iload hx hb dX1_twinBefore_56 (lv_at hl 0 rfl) ?_
            refine bn_if0_eq (tgt := 64) hx hb dX1_twinBefore_58 (by decide) ?_
            refine lv_iinc (v := nI (k + 1)) (lv' := [(5, .int (nI (k + 1))), (8, .int (nI 0)), (7, .int r1), (6, .int (nI ((b + k) % 24))), (4, .int y), (3, .int (nI ((b + i) % 24))), (0, .ref (h 0)), (1, .int (nI b)), (2, .int (nI i))]) hx hb dX1_twinBefore_64 hl (k := 3) rfl (bn_inc _) (by decide) rfl (fun ls hl => ?_)
            refine lv_goto (tgt := 17) hx hb dX1_twinBefore_67 (by decide) ?_
            exact ih (k + 1) y H locs ls (by omega) (by omega) I (lv_sub hl [0, 4, 5, 6, 7, 8] rfl)
  refine lv_iload_n hx hb dX1_twinBefore_0 rfl (lv_at hl 1 rfl) ?_
  refine lv_iload_n hx hb dX1_twinBefore_1 rfl (lv_at hl 2 rfl) ?_
  refine bn_add hx hb dX1_twinBefore_2 ?_
  refine lv_bipush (v := nI 24) hx hb dX1_twinBefore_3 (by decide) ?_
  refine bn_rem hx hb dX1_twinBefore_5 (by omega) (by omega) (by omega) ?_
  refine lv_istore_n (lv' := [(3, .int (nI ((b + i) % 24))), (0, .ref (h 0)), (1, .int (nI b)), (2, .int (nI i))]) hx hb dX1_twinBefore_6 rfl hl (by decide) rfl (fun ls hl => ?_)
  refine lv_aload_n hx hb dX1_twinBefore_7 rfl (lv_at hl 1 rfl) ?_
  refine lv_iload_n hx hb dX1_twinBefore_8 rfl (lv_at hl 0 rfl) ?_
  refine bx_ci (wd := BW h dI dZ) (rest := []) F I (metX1_hashOf (pg := (b + i) % 24) V (by omega)) (cwX1_hashOf F.1.2.2.2.2 ⟨by decide, by decide⟩) (q0 := 0) rfl rfl rfl hl.1 rfl (Nat.le_of_ble_eq_true rfl) dX1_twinBefore_9 (fun r1 v1 H locs hq I => ?_)
  rw [hq] at I
  refine lv_istore (lv' := [(4, .int r1), (3, .int (nI ((b + i) % 24))), (0, .ref (h 0)), (1, .int (nI b)), (2, .int (nI i))]) hx hb dX1_twinBefore_12 hl (by decide) rfl (fun ls hl => ?_)
  refine lv_iconst (v := nI 0) hx hb dX1_twinBefore_14 (by decide) ?_
  refine lv_istore (lv' := [(5, .int (nI 0)), (4, .int r1), (3, .int (nI ((b + i) % 24))), (0, .ref (h 0)), (1, .int (nI b)), (2, .int (nI i))]) hx hb dX1_twinBefore_15 hl (by decide) rfl (fun ls hl => ?_)
  exact loop (i + 1) 0 _ _ _ _ (by omega) (by omega) I hl
set_option maxHeartbeats 4000000 in
theorem metX1_tidy {l : Launch} {D : va_G} {h : Nat → Nat} {dI dZ : ClassId} {g : bz_S} {N : Nat} {wc sh : Nat → Int32} (RR : bz_RR N g wc sh) (x : Int32) : bc_v l D (bz_T dI dZ) (BW h dI dZ) yX1_tidy cX1_tidy 6 rmX1_tidy [.ref (h 0), .int x] g (fun u => bz_RR N u wc sh) := by
  refine bc_v_of RX1 (by decide) rfl (Nat.le_of_ble_eq_true rfl) ?_
  intro p e s m args below meth c A Q ls F hl I hret
  have hx := F.1.1
  have hb := F.1.2.1
  have hl : lv_has ls 6 [(0, .ref (h 0)), (1, .int x)] := hl
  have hN := RR.1.1
  obtain ⟨b, hb2, eb⟩ := pk_andE x (m := nI 7) 3 (by decide)
  have hb8 : b < 8 := hb2
  have loop2 : ∀ (n f : Nat) (g' : bz_S) (H : Heap) (locs : List Loc) (ls : Array Slot), f ≤ N → N < f + n → bz_RR N g' wc sh → bx_I D A (BW h dI dZ g') s H locs → lv_has ls 6 [(3, .int (nI f)), (0, .ref (h 0))] → W p l e rmX1_tidy s m args below meth c H locs 0 0 Q (F0 m 68 ls []) := by
    intro n
    induction n with
    | zero => intro f g' H locs ls h1 h2; exact absurd h2 (by omega)
    | succ n ih =>
      intro f g' H locs ls h1 h2 RR' I hl
      have V' := RR'.1
      refine lv_iload_n hx hb dX1_tidy_68 rfl (lv_at hl 0 rfl) ?_
      refine lv_aload_n hx hb dX1_tidy_69 rfl (lv_at hl 1 rfl) ?_
      refine bs_frames (v := nI N) F I (V'.2.1) dX1_tidy_70 ?_
      refine bn_ge (tgt := 89) hx hb dX1_tidy_73 (by decide) (by omega) (by omega) (fun c1 => ?_) (fun c1 => ?_)
      · exact hret _ _ _ _ _ (RR') I dX1_tidy_89
      · refine lv_aload_n hx hb dX1_tidy_76 rfl (lv_at hl 1 rfl) ?_
        refine bs_lately F I dX1_tidy_77 ?_
        refine lv_iload_n hx hb dX1_tidy_80 rfl (lv_at hl 0 rfl) ?_
        refine lv_iconst (v := nI 0) hx hb dX1_tidy_81 (by decide) ?_
        refine bs_st4 F I (by omega) (by decide) dX1_tidy_82 (fun H locs u1 eu1 I => ?_)
        refine lv_iinc (v := nI (f + 1)) (lv' := [(3, .int (nI (f + 1))), (0, .ref (h 0))]) hx hb dX1_tidy_83 hl (k := 0) rfl (bn_inc _) (by decide) rfl (fun ls hl => ?_)
        refine lv_goto (tgt := 68) hx hb dX1_tidy_86 (by decide) ?_
        exact ih (f + 1) u1 H locs ls (by omega) (by omega) (RR'.sv (bz_Iv_same V' (by rw [eu1]; rfl) (by rw [eu1]; rfl) (by rw [eu1]; rfl) (by rw [eu1]; rfl) (by rw [eu1]; rfl) (by rw [eu1]; exact V'.2.2.1)) (bz_Sv.of (by rw [eu1]; rfl) (by rw [eu1]; rfl) (by rw [eu1]; rfl) (by rw [eu1]; rfl) (by rw [eu1]; rfl))) I hl
  have loop : ∀ (n i : Nat) (g' : bz_S) (H : Heap) (locs : List Loc) (ls : Array Slot), i ≤ 24 → 24 < i + n → bz_RR N g' wc sh → bx_I D A (BW h dI dZ g') s H locs → lv_has ls 6 [(3, .int (nI i)), (2, .int (nI b)), (0, .ref (h 0)), (1, .int x)] → W p l e rmX1_tidy s m args below meth c H locs 0 0 Q (F0 m 7 ls []) := by
    intro n
    induction n with
    | zero => intro i g' H locs ls h1 h2; exact absurd h2 (by omega)
    | succ n ih =>
      intro i g' H locs ls h1 h2 RR' I hl
      have V' := RR'.1
      refine lv_iload_n hx hb dX1_tidy_7 rfl (lv_at hl 0 rfl) ?_
      refine lv_bipush (v := nI 24) hx hb dX1_tidy_8 (by decide) ?_
      refine bn_ge (tgt := 66) hx hb dX1_tidy_10 (by decide) (by omega) (by omega) (fun c1 => ?_) (fun c1 => ?_)
      · refine lv_iconst (v := nI 0) hx hb dX1_tidy_66 (by decide) ?_
        refine lv_istore_n (lv' := [(3, .int (nI 0)), (2, .int (nI b)), (0, .ref (h 0)), (1, .int x)]) hx hb dX1_tidy_67 rfl hl (by decide) rfl (fun ls hl => ?_)
        exact loop2 (N + 1) 0 g' H locs ls (by omega) (by omega) RR' I (lv_sub hl [0, 2] rfl)
      · refine lv_iload_n hx hb dX1_tidy_13 rfl (lv_at hl 1 rfl) ?_
        refine lv_iload_n hx hb dX1_tidy_14 rfl (lv_at hl 0 rfl) ?_
        refine bn_add hx hb dX1_tidy_15 ?_
        refine lv_bipush (v := nI 24) hx hb dX1_tidy_16 (by decide) ?_
        refine bn_rem hx hb dX1_tidy_18 (by omega) (by omega) (by omega) ?_
        refine lv_istore (lv' := [(4, .int (nI ((b + i) % 24))), (3, .int (nI i)), (2, .int (nI b)), (0, .ref (h 0)), (1, .int x)]) hx hb dX1_tidy_19 hl (by decide) rfl (fun ls hl => ?_)
        refine lv_aload_n hx hb dX1_tidy_21 rfl (lv_at hl 3 rfl) ?_
        refine lv_iload_n hx hb dX1_tidy_22 rfl (lv_at hl 2 rfl) ?_
        refine lv_iload_n hx hb dX1_tidy_23 rfl (lv_at hl 1 rfl) ?_
        refine bx_ci (wd := BW h dI dZ) (rest := []) F I (metX1_twinBefore V' hb8 (show i < 24 by omega)) (cwX1_twinBefore F.1.2.2.2.2 ⟨by decide, by decide⟩) (q0 := 0) rfl rfl rfl hl.1 rfl (Nat.le_of_ble_eq_true rfl) dX1_tidy_24 (fun r1 v1 H locs hq I => ?_)
        obtain ⟨hq, e1⟩ := hq
        rw [e1] at I
        rcases hq with rfl | ⟨q, hq24, rfl, hal⟩
        · refine lv_istore (lv' := [(5, .int (-1)), (4, .int (nI ((b + i) % 24))), (3, .int (nI i)), (2, .int (nI b)), (0, .ref (h 0)), (1, .int x)]) hx hb dX1_tidy_27 hl (by decide) rfl (fun ls hl => ?_)
          refine lv_iload hx hb dX1_tidy_29 (lv_at hl 0 rfl) ?_
          refine bm_iflt (tgt := 45) hx hb dX1_tidy_31 (by decide) ?_
          refine lv_aload_n hx hb dX1_tidy_45 rfl (lv_at hl 4 rfl) ?_
          refine lv_iload hx hb dX1_tidy_46 (lv_at hl 1 rfl) ?_
          refine bx_ci (wd := BW h dI dZ) (rest := []) F I (metX1_isZero (pg := (b + i) % 24) V' (by omega)) (cwX1_isZero F.1.2.2.2.2 ⟨by decide, by decide⟩) (q0 := 0) rfl rfl rfl hl.1 rfl (Nat.le_of_ble_eq_true rfl) dX1_tidy_48 (fun r2 v2 H locs hz I => ?_)
          obtain ⟨hz, e2⟩ := hz
          rw [e2] at I
          rcases hz with rfl | ⟨rfl, hz⟩
          · refine bn_if0_eq (tgt := 60) hx hb dX1_tidy_51 (by decide) ?_
            refine lv_iinc (v := nI (i + 1)) (lv' := [(3, .int (nI (i + 1))), (5, .int (-1)), (4, .int (nI ((b + i) % 24))), (2, .int (nI b)), (0, .ref (h 0)), (1, .int x)]) hx hb dX1_tidy_60 hl (k := 2) rfl (bn_inc _) (by decide) rfl (fun ls hl => ?_)
            refine lv_goto (tgt := 7) hx hb dX1_tidy_63 (by decide) ?_
            exact ih (i + 1) g' H locs ls (by omega) (by omega) RR' I (lv_sub hl [0, 3, 4, 5] rfl)
          · refine bn_if1_eq (tgt := 60) hx hb dX1_tidy_51 (by decide) ?_
            refine lv_aload_n hx hb dX1_tidy_54 rfl (lv_at hl 4 rfl) ?_
            refine lv_iload hx hb dX1_tidy_55 (lv_at hl 1 rfl) ?_
            refine bx_cv (wd := BW h dI dZ) (rest := []) F I (metX1_detach (pg := (b + i) % 24) V' (by omega)) (cwX1_detach F.1.2.2.2.2 ⟨by decide, by decide⟩) (q0 := 0) rfl rfl rfl hl.1 rfl (Nat.le_of_ble_eq_true rfl) dX1_tidy_57 (fun v3 H locs d I => ?_)
            refine lv_iinc (v := nI (i + 1)) (lv' := [(3, .int (nI (i + 1))), (5, .int (-1)), (4, .int (nI ((b + i) % 24))), (2, .int (nI b)), (0, .ref (h 0)), (1, .int x)]) hx hb dX1_tidy_60 hl (k := 2) rfl (bn_inc _) (by decide) rfl (fun ls hl => ?_)
            refine lv_goto (tgt := 7) hx hb dX1_tidy_63 (by decide) ?_
            exact ih (i + 1) v3 H locs ls (by omega) (by omega) (RR'.sv d.1 (bz_de_sv hz d)) I (lv_sub hl [0, 3, 4, 5] rfl)
        · refine lv_istore (lv' := [(5, .int (nI q)), (4, .int (nI ((b + i) % 24))), (3, .int (nI i)), (2, .int (nI b)), (0, .ref (h 0)), (1, .int x)]) hx hb dX1_tidy_27 hl (by decide) rfl (fun ls hl => ?_)
          refine lv_iload hx hb dX1_tidy_29 (lv_at hl 0 rfl) ?_
          refine bn_iflt (tgt := 45) hx hb dX1_tidy_31 (by decide) (by omega) ?_
          refine lv_aload_n hx hb dX1_tidy_34 rfl (lv_at hl 4 rfl) ?_
          refine lv_iload hx hb dX1_tidy_35 (lv_at hl 1 rfl) ?_
          refine lv_iload hx hb dX1_tidy_37 (lv_at hl 0 rfl) ?_
          refine bx_cv (wd := BW h dI dZ) (rest := []) F I (metX1_attachLike (pg := (b + i) % 24) (po := q) V' (by omega) hq24) (cwX1_attachLike F.1.2.2.2.2 ⟨by decide, by decide⟩) (q0 := 0) rfl rfl rfl hl.1 rfl (Nat.le_of_ble_eq_true rfl) dX1_tidy_39 (fun v3 H locs d I => ?_)
          refine lv_goto (tgt := 60) hx hb dX1_tidy_42 (by decide) ?_
          refine lv_iinc (v := nI (i + 1)) (lv' := [(3, .int (nI (i + 1))), (5, .int (nI q)), (4, .int (nI ((b + i) % 24))), (2, .int (nI b)), (0, .ref (h 0)), (1, .int x)]) hx hb dX1_tidy_60 hl (k := 2) rfl (bn_inc _) (by decide) rfl (fun ls hl => ?_)
          refine lv_goto (tgt := 7) hx hb dX1_tidy_63 (by decide) ?_
          exact ih (i + 1) v3 H locs ls (by omega) (by omega) (RR'.sv d.1 (bz_at_sv hal d)) I (lv_sub hl [0, 3, 4, 5] rfl)
  refine lv_iload_n hx hb dX1_tidy_0 rfl (lv_at hl 1 rfl) ?_
  refine lv_bipush (v := nI 7) hx hb dX1_tidy_1 (by decide) ?_
  refine lv_iand hx hb dX1_tidy_3 ?_
  refine bn_top (y := nI b) (eb) ?_
  refine lv_istore_n (lv' := [(2, .int (nI b)), (0, .ref (h 0)), (1, .int x)]) hx hb dX1_tidy_4 rfl hl (by decide) rfl (fun ls hl => ?_)
  refine lv_iconst (v := nI 0) hx hb dX1_tidy_5 (by decide) ?_
  refine lv_istore_n (lv' := [(3, .int (nI 0)), (2, .int (nI b)), (0, .ref (h 0)), (1, .int x)]) hx hb dX1_tidy_6 rfl hl (by decide) rfl (fun ls hl => ?_)
  exact loop 25 0 g _ _ _ (by omega) (by omega) RR I hl
end
section
/-! BalloonShare: read, sum, same, contents, twins -/
set_option maxHeartbeats 4000000 in
theorem metX1_read {l : Launch} {D : va_G} {h : Nat → Nat} {dI dZ : ClassId} {g : bz_S} {N : Nat} {wc sh : Nat → Int32} (RR : bz_RR N g wc sh) (gu a : Int32) : bc_i l D (bz_T dI dZ) (BW h dI dZ) yX1_read cX1_read 4 .int rmX1_read [.ref (h 0), .int gu, .int a] g (fun r u => r = sr_read wc gu a ∧ bz_RR N u wc sh) := by
  refine bc_i_of RX1 (by decide) rfl (Nat.le_of_ble_eq_true rfl) ?_
  intro p e s m args below meth c A Q ls F hl I hret
  have hx := F.1.1
  have hb := F.1.2.1
  have hl : lv_has ls 4 [(0, .ref (h 0)), (1, .int gu), (2, .int a)] := hl
  have V := RR.1
  have hN := V.1
  by_cases hg : bz_bg gu
  · refine lv_iload_n hx hb dX1_read_0 rfl (lv_at hl 1 rfl) ?_
    refine bx_cs (rest := []) F I (metX1_badGuest gu) (cwX1_badGuest F.1.2.2.2.2 ⟨by decide, by decide⟩) rfl hl.1 rfl (Nat.le_of_ble_eq_true rfl) dX1_read_1 (fun rg locs hq I => ?_)
    rw [if_pos hg] at hq
    subst hq
    refine bn_if1_ne (tgt := 17) hx hb dX1_read_4 (by decide) ?_
    refine lv_iconst (v := nI 0) hx hb dX1_read_17 (by decide) ?_
    exact hret _ _ _ _ _ _ (⟨(if_pos (Or.inl hg)).symm, RR⟩) I (rfl) dX1_read_18
  · by_cases ha : bz_bw a
    · refine lv_iload_n hx hb dX1_read_0 rfl (lv_at hl 1 rfl) ?_
      refine bx_cs (rest := []) F I (metX1_badGuest gu) (cwX1_badGuest F.1.2.2.2.2 ⟨by decide, by decide⟩) rfl hl.1 rfl (Nat.le_of_ble_eq_true rfl) dX1_read_1 (fun rg locs hq I => ?_)
      rw [if_neg hg] at hq
      subst hq
      refine bn_if0_ne (tgt := 17) hx hb dX1_read_4 (by decide) ?_
      refine lv_iload_n hx hb dX1_read_7 rfl (lv_at hl 2 rfl) ?_
      refine lv_if_lt (tgt := 17) hx hb dX1_read_8 (by decide) (fun c1 => ?_) (fun c1 => ?_)
      · refine lv_iconst (v := nI 0) hx hb dX1_read_17 (by decide) ?_
        exact hret _ _ _ _ _ _ (⟨(if_pos (Or.inr ha)).symm, RR⟩) I (rfl) dX1_read_18
      · refine lv_iload_n hx hb dX1_read_11 rfl (lv_at hl 2 rfl) ?_
        refine lv_bipush (v := nI 31) hx hb dX1_read_12 (by decide) ?_
        refine lv_icmp_le (tgt := 19) hx hb dX1_read_14 (by decide) (fun c2 => ?_) (fun c2 => ?_)
        · exact absurd ha (fun q => q.elim c1 (fun z => Int32.not_le.mpr z c2))
        · refine lv_iconst (v := nI 0) hx hb dX1_read_17 (by decide) ?_
          exact hret _ _ _ _ _ _ (⟨(if_pos (Or.inr ha)).symm, RR⟩) I (rfl) dX1_read_18
    · have hga : ¬ (bz_bg gu ∨ bz_bw a) := fun z => z.elim hg ha
      obtain ⟨gn, hgn, rfl⟩ := bz_bg_no hg
      obtain ⟨an, han, rfl⟩ := bz_bw_no ha
      refine lv_iload_n hx hb dX1_read_0 rfl (lv_at hl 1 rfl) ?_
      refine bx_cs (rest := []) F I (metX1_badGuest (nI gn)) (cwX1_badGuest F.1.2.2.2.2 ⟨by decide, by decide⟩) rfl hl.1 rfl (Nat.le_of_ble_eq_true rfl) dX1_read_1 (fun rg locs hq I => ?_)
      rw [if_neg hg] at hq
      subst hq
      refine bn_if0_ne (tgt := 17) hx hb dX1_read_4 (by decide) ?_
      refine lv_iload_n hx hb dX1_read_7 rfl (lv_at hl 2 rfl) ?_
      refine bn_iflt (tgt := 17) hx hb dX1_read_8 (by decide) (by omega) ?_
      refine lv_iload_n hx hb dX1_read_11 rfl (lv_at hl 2 rfl) ?_
      refine lv_bipush (v := nI 31) hx hb dX1_read_12 (by decide) ?_
      refine bn_le (tgt := 19) hx hb dX1_read_14 (by decide) (by omega) (by omega) (fun c1 => ?_) (fun c1 => ?_)
      · have hp : gn * 8 + an / 4 < 24 := by omega
        have er : ∀ u : bz_S, bz_Sv g u → bz_vl u (gn * 8 + an / 4) (an % 4) = sr_read wc (nI gn) (nI an) := by
          intro u S
          rw [sr_read, if_neg hga, nI_clamp (by omega), nI_clamp (by omega), show gn * 32 + an = (gn * 8 + an / 4) * 4 + an % 4 by omega, RR.2.1 _ hp _ (by omega)]
          exact S.1 _ hp _ (by omega)
        rcases V.2.2.2.1 (gn * 8 + an / 4) hp with ⟨a0, b0⟩ | ⟨f, hf, a0, b0⟩ | ⟨t, ht, a0, b0⟩
        · refine lv_iload_n hx hb dX1_read_19 rfl (lv_at hl 1 rfl) ?_
          refine lv_bipush (v := nI 8) hx hb dX1_read_20 (by decide) ?_
          refine bn_mul hx hb dX1_read_22 ?_
          refine lv_iload_n hx hb dX1_read_23 rfl (lv_at hl 2 rfl) ?_
          refine lv_iconst (v := nI 4) hx hb dX1_read_24 (by decide) ?_
          refine bn_div hx hb dX1_read_25 (by omega) (by omega) (by omega) ?_
          refine bn_add hx hb dX1_read_26 ?_
          refine lv_istore_n (lv' := [(3, .int (nI ((gn * 8) + (an / 4)))), (0, .ref (h 0)), (1, .int (nI gn)), (2, .int (nI an))]) hx hb dX1_read_27 rfl hl (by decide) rfl (fun ls hl => ?_)
          refine lv_aload_n hx hb dX1_read_28 rfl (lv_at hl 1 rfl) ?_
          refine bs_frameOf F I dX1_read_29 ?_
          refine lv_iload_n hx hb dX1_read_32 rfl (lv_at hl 0 rfl) ?_
          refine bs_ld0 (v := (-1)) F I (hp) (a0) dX1_read_33 ?_
          refine bm_iflt (tgt := 49) hx hb dX1_read_34 (by decide) ?_
          refine lv_aload_n hx hb dX1_read_49 rfl (lv_at hl 1 rfl) ?_
          refine lv_iload_n hx hb dX1_read_50 rfl (lv_at hl 0 rfl) ?_
          refine lv_iload_n hx hb dX1_read_51 rfl (lv_at hl 3 rfl) ?_
          refine lv_iconst (v := nI 4) hx hb dX1_read_52 (by decide) ?_
          refine bn_rem hx hb dX1_read_53 (by omega) (by omega) (by omega) ?_
          refine bx_ci (wd := BW h dI dZ) (rest := []) F I (metX1_wordOf (k := an % 4) V hp (by omega)) (cwX1_wordOf F.1.2.2.2.2 ⟨by decide, by decide⟩) (q0 := 0) rfl rfl rfl hl.1 rfl (Nat.le_of_ble_eq_true rfl) dX1_read_54 (fun r1 v1 H locs hq I => ?_)
          rw [hq.2] at I
          exact hret _ _ _ _ _ _ (⟨hq.1.trans (er g bz_Sv.refl), RR⟩) I (rfl) dX1_read_57
        · refine lv_iload_n hx hb dX1_read_19 rfl (lv_at hl 1 rfl) ?_
          refine lv_bipush (v := nI 8) hx hb dX1_read_20 (by decide) ?_
          refine bn_mul hx hb dX1_read_22 ?_
          refine lv_iload_n hx hb dX1_read_23 rfl (lv_at hl 2 rfl) ?_
          refine lv_iconst (v := nI 4) hx hb dX1_read_24 (by decide) ?_
          refine bn_div hx hb dX1_read_25 (by omega) (by omega) (by omega) ?_
          refine bn_add hx hb dX1_read_26 ?_
          refine lv_istore_n (lv' := [(3, .int (nI ((gn * 8) + (an / 4)))), (0, .ref (h 0)), (1, .int (nI gn)), (2, .int (nI an))]) hx hb dX1_read_27 rfl hl (by decide) rfl (fun ls hl => ?_)
          refine lv_aload_n hx hb dX1_read_28 rfl (lv_at hl 1 rfl) ?_
          refine bs_frameOf F I dX1_read_29 ?_
          refine lv_iload_n hx hb dX1_read_32 rfl (lv_at hl 0 rfl) ?_
          refine bs_ld0 (v := nI f) F I (hp) (a0) dX1_read_33 ?_
          refine bn_iflt (tgt := 49) hx hb dX1_read_34 (by decide) (by omega) ?_
          refine lv_aload_n hx hb dX1_read_37 rfl (lv_at hl 1 rfl) ?_
          refine bs_lately F I dX1_read_38 ?_
          refine lv_aload_n hx hb dX1_read_41 rfl (lv_at hl 1 rfl) ?_
          refine bs_frameOf F I dX1_read_42 ?_
          refine lv_iload_n hx hb dX1_read_45 rfl (lv_at hl 0 rfl) ?_
          refine bs_ld0 (v := nI f) F I (hp) (a0) dX1_read_46 ?_
          refine lv_iconst (v := nI 1) hx hb dX1_read_47 (by decide) ?_
          refine bs_st4 F I (by omega) (by decide) dX1_read_48 (fun H locs u1 eu1 I => ?_)
          refine lv_aload_n hx hb dX1_read_49 rfl (lv_at hl 1 rfl) ?_
          refine lv_iload_n hx hb dX1_read_50 rfl (lv_at hl 0 rfl) ?_
          refine lv_iload_n hx hb dX1_read_51 rfl (lv_at hl 3 rfl) ?_
          refine lv_iconst (v := nI 4) hx hb dX1_read_52 (by decide) ?_
          refine bn_rem hx hb dX1_read_53 (by omega) (by omega) (by omega) ?_
          have V1 : bz_Iv N u1 := bz_Iv_same V (by rw [eu1]; rfl) (by rw [eu1]; rfl) (by rw [eu1]; rfl) (by rw [eu1]; rfl) (by rw [eu1]; rfl) (by rw [eu1]; exact V.2.2.1)
          have S1 : bz_Sv g u1 := bz_Sv.of (by rw [eu1]; rfl) (by rw [eu1]; rfl) (by rw [eu1]; rfl) (by rw [eu1]; rfl) (by rw [eu1]; rfl)
          refine bx_ci (wd := BW h dI dZ) (rest := []) F I (metX1_wordOf (k := an % 4) V1 hp (by omega)) (cwX1_wordOf F.1.2.2.2.2 ⟨by decide, by decide⟩) (q0 := 0) rfl rfl rfl hl.1 rfl (Nat.le_of_ble_eq_true rfl) dX1_read_54 (fun r1 v1 H locs hq I => ?_)
          rw [hq.2] at I
          exact hret _ _ _ _ _ _ (⟨hq.1.trans (er u1 S1), RR.sv V1 S1⟩) I (rfl) dX1_read_57
        · refine lv_iload_n hx hb dX1_read_19 rfl (lv_at hl 1 rfl) ?_
          refine lv_bipush (v := nI 8) hx hb dX1_read_20 (by decide) ?_
          refine bn_mul hx hb dX1_read_22 ?_
          refine lv_iload_n hx hb dX1_read_23 rfl (lv_at hl 2 rfl) ?_
          refine lv_iconst (v := nI 4) hx hb dX1_read_24 (by decide) ?_
          refine bn_div hx hb dX1_read_25 (by omega) (by omega) (by omega) ?_
          refine bn_add hx hb dX1_read_26 ?_
          refine lv_istore_n (lv' := [(3, .int (nI ((gn * 8) + (an / 4)))), (0, .ref (h 0)), (1, .int (nI gn)), (2, .int (nI an))]) hx hb dX1_read_27 rfl hl (by decide) rfl (fun ls hl => ?_)
          refine lv_aload_n hx hb dX1_read_28 rfl (lv_at hl 1 rfl) ?_
          refine bs_frameOf F I dX1_read_29 ?_
          refine lv_iload_n hx hb dX1_read_32 rfl (lv_at hl 0 rfl) ?_
          refine bs_ld0 (v := (-1)) F I (hp) (a0) dX1_read_33 ?_
          refine bm_iflt (tgt := 49) hx hb dX1_read_34 (by decide) ?_
          refine lv_aload_n hx hb dX1_read_49 rfl (lv_at hl 1 rfl) ?_
          refine lv_iload_n hx hb dX1_read_50 rfl (lv_at hl 0 rfl) ?_
          refine lv_iload_n hx hb dX1_read_51 rfl (lv_at hl 3 rfl) ?_
          refine lv_iconst (v := nI 4) hx hb dX1_read_52 (by decide) ?_
          refine bn_rem hx hb dX1_read_53 (by omega) (by omega) (by omega) ?_
          refine bx_ci (wd := BW h dI dZ) (rest := []) F I (metX1_wordOf (k := an % 4) V hp (by omega)) (cwX1_wordOf F.1.2.2.2.2 ⟨by decide, by decide⟩) (q0 := 0) rfl rfl rfl hl.1 rfl (Nat.le_of_ble_eq_true rfl) dX1_read_54 (fun r1 v1 H locs hq I => ?_)
          rw [hq.2] at I
          exact hret _ _ _ _ _ _ (⟨hq.1.trans (er g bz_Sv.refl), RR⟩) I (rfl) dX1_read_57
      · exact absurd c1 (by omega)
set_option maxHeartbeats 4000000 in
theorem metX1_sum {l : Launch} {D : va_G} {h : Nat → Nat} {dI dZ : ClassId} {g : bz_S} {N : Nat} {wc sh : Nat → Int32} (RR : bz_RR N g wc sh) (gu q : Int32) : bc_i l D (bz_T dI dZ) (BW h dI dZ) yX1_sum cX1_sum 5 .int rmX1_sum [.ref (h 0), .int gu, .int q] g (fun r u => r = sr_sum wc gu q ∧ bz_RR N u wc sh) := by
  refine bc_i_of RX1 (by decide) rfl (Nat.le_of_ble_eq_true rfl) ?_
  intro p e s m args below meth c A Q ls F hl I hret
  have hx := F.1.1
  have hb := F.1.2.1
  have hl : lv_has ls 5 [(0, .ref (h 0)), (1, .int gu), (2, .int q)] := hl
  have V := RR.1
  have hN := V.1
  by_cases hg : bz_bg gu
  · refine lv_iload_n hx hb dX1_sum_0 rfl (lv_at hl 1 rfl) ?_
    refine bx_cs (rest := []) F I (metX1_badGuest gu) (cwX1_badGuest F.1.2.2.2.2 ⟨by decide, by decide⟩) rfl hl.1 rfl (Nat.le_of_ble_eq_true rfl) dX1_sum_1 (fun rg locs hq I => ?_)
    rw [if_pos hg] at hq
    subst hq
    refine bn_if1_ne (tgt := 14) hx hb dX1_sum_4 (by decide) ?_
    refine lv_iconst (v := nI 0) hx hb dX1_sum_14 (by decide) ?_
    exact hret _ _ _ _ _ _ (⟨(if_pos (Or.inl hg)).symm, RR⟩) I (rfl) dX1_sum_15
  · by_cases ha : bz_bp q
    · refine lv_iload_n hx hb dX1_sum_0 rfl (lv_at hl 1 rfl) ?_
      refine bx_cs (rest := []) F I (metX1_badGuest gu) (cwX1_badGuest F.1.2.2.2.2 ⟨by decide, by decide⟩) rfl hl.1 rfl (Nat.le_of_ble_eq_true rfl) dX1_sum_1 (fun rg locs hq I => ?_)
      rw [if_neg hg] at hq
      subst hq
      refine bn_if0_ne (tgt := 14) hx hb dX1_sum_4 (by decide) ?_
      refine lv_iload_n hx hb dX1_sum_7 rfl (lv_at hl 2 rfl) ?_
      refine bx_cs (rest := []) F I (metX1_badPage q) (cwX1_badPage F.1.2.2.2.2 ⟨by decide, by decide⟩) rfl hl.1 rfl (Nat.le_of_ble_eq_true rfl) dX1_sum_8 (fun rg locs hq I => ?_)
      rw [if_pos ha] at hq
      subst hq
      refine bn_if1_eq (tgt := 16) hx hb dX1_sum_11 (by decide) ?_
      refine lv_iconst (v := nI 0) hx hb dX1_sum_14 (by decide) ?_
      exact hret _ _ _ _ _ _ (⟨(if_pos (Or.inr ha)).symm, RR⟩) I (rfl) dX1_sum_15
    · have hga : ¬ (bz_bg gu ∨ bz_bp q) := fun z => z.elim hg ha
      obtain ⟨gn, hgn, rfl⟩ := bz_bg_no hg
      obtain ⟨qn, hqn, rfl⟩ := bz_bp_no ha
      refine lv_iload_n hx hb dX1_sum_0 rfl (lv_at hl 1 rfl) ?_
      refine bx_cs (rest := []) F I (metX1_badGuest (nI gn)) (cwX1_badGuest F.1.2.2.2.2 ⟨by decide, by decide⟩) rfl hl.1 rfl (Nat.le_of_ble_eq_true rfl) dX1_sum_1 (fun rg locs hq I => ?_)
      rw [if_neg hg] at hq
      subst hq
      refine bn_if0_ne (tgt := 14) hx hb dX1_sum_4 (by decide) ?_
      refine lv_iload_n hx hb dX1_sum_7 rfl (lv_at hl 2 rfl) ?_
      refine bx_cs (rest := []) F I (metX1_badPage (nI qn)) (cwX1_badPage F.1.2.2.2.2 ⟨by decide, by decide⟩) rfl hl.1 rfl (Nat.le_of_ble_eq_true rfl) dX1_sum_8 (fun rg locs hq I => ?_)
      rw [if_neg ha] at hq
      subst hq
      refine bn_if0_eq (tgt := 16) hx hb dX1_sum_11 (by decide) ?_
      refine lv_iconst (v := nI 0) hx hb dX1_sum_16 (by decide) ?_
      refine lv_istore_n (lv' := [(3, .int (nI 0)), (0, .ref (h 0)), (1, .int (nI gn)), (2, .int (nI qn))]) hx hb dX1_sum_17 rfl hl (by decide) rfl (fun ls hl => ?_)
      refine lv_iconst (v := nI 0) hx hb dX1_sum_18 (by decide) ?_
      refine lv_istore (lv' := [(4, .int (nI 0)), (3, .int (nI 0)), (0, .ref (h 0)), (1, .int (nI gn)), (2, .int (nI qn))]) hx hb dX1_sum_19 hl (by decide) rfl (fun ls hl => ?_)
      have loop : ∀ (n w : Nat) (y : Int32) (H : Heap) (locs : List Loc) (ls : Array Slot), w ≤ 4 → 4 < w + n → y = sp_sum wc ((gn * 8 + qn) * 4) w → bx_I D A (BW h dI dZ g) s H locs → lv_has ls 5 [(4, .int (nI w)), (3, .int y), (0, .ref (h 0)), (1, .int (nI gn)), (2, .int (nI qn))] → W p l e rmX1_sum s m args below meth c H locs 0 0 Q (F0 m 21 ls []) := by
        intro n
        induction n with
        | zero => intro w y H locs ls h1 h2; exact absurd h2 (by omega)
        | succ n ih =>
          intro w y H locs ls h1 h2 ey I hl
          refine lv_iload hx hb dX1_sum_21 (lv_at hl 0 rfl) ?_
          refine lv_iconst (v := nI 4) hx hb dX1_sum_23 (by decide) ?_
          refine bn_ge (tgt := 53) hx hb dX1_sum_24 (by decide) (by omega) (by omega) (fun c1 => ?_) (fun c1 => ?_)
          · have e4 : w = 4 := by omega
            subst e4
            refine lv_iload_n hx hb dX1_sum_53 rfl (lv_at hl 1 rfl) ?_
            exact hret _ _ _ _ _ _ (⟨by rw [sr_sum, if_neg hga, nI_clamp (by omega), nI_clamp (by omega), show gn * 32 + qn * 4 = (gn * 8 + qn) * 4 by omega]; exact ey, RR⟩) I (rfl) dX1_sum_54
          · refine lv_iload_n hx hb dX1_sum_27 rfl (lv_at hl 1 rfl) ?_
            refine lv_iload hx hb dX1_sum_28 (lv_at hl 0 rfl) ?_
            refine lv_iconst (v := nI 1) hx hb dX1_sum_30 (by decide) ?_
            refine bn_add hx hb dX1_sum_31 ?_
            refine lv_aload_n hx hb dX1_sum_32 rfl (lv_at hl 2 rfl) ?_
            refine lv_iload_n hx hb dX1_sum_33 rfl (lv_at hl 3 rfl) ?_
            refine lv_bipush (v := nI 8) hx hb dX1_sum_34 (by decide) ?_
            refine bn_mul hx hb dX1_sum_36 ?_
            refine lv_iload_n hx hb dX1_sum_37 rfl (lv_at hl 4 rfl) ?_
            refine bn_add hx hb dX1_sum_38 ?_
            refine lv_iload hx hb dX1_sum_39 (lv_at hl 0 rfl) ?_
            refine bx_ci (wd := BW h dI dZ) (rest := [.int (nI (w + 1)), .int y]) F I (metX1_wordOf (pg := gn * 8 + qn) V (by omega) (show w < 4 by omega)) (cwX1_wordOf F.1.2.2.2.2 ⟨by decide, by decide⟩) (q0 := 0) rfl rfl rfl hl.1 rfl (Nat.le_of_ble_eq_true rfl) dX1_sum_41 (fun r1 v1 H locs hq I => ?_)
            rw [hq.2] at I
            refine lv_imul hx hb dX1_sum_44 ?_
            refine lv_iadd hx hb dX1_sum_45 ?_
            refine lv_istore_n (lv' := [(3, .int (y + ((nI (w + 1)) * r1))), (4, .int (nI w)), (0, .ref (h 0)), (1, .int (nI gn)), (2, .int (nI qn))]) hx hb dX1_sum_46 rfl hl (by decide) rfl (fun ls hl => ?_)
            refine lv_iinc (v := nI (w + 1)) (lv' := [(4, .int (nI (w + 1))), (3, .int (y + ((nI (w + 1)) * r1))), (0, .ref (h 0)), (1, .int (nI gn)), (2, .int (nI qn))]) hx hb dX1_sum_47 hl (k := 1) rfl (bn_inc _) (by decide) rfl (fun ls hl => ?_)
            refine lv_goto (tgt := 21) hx hb dX1_sum_50 (by decide) ?_
            exact ih (w + 1) _ H locs ls (by omega) (by omega) (by rw [ey, hq.1, ← RR.2.1 _ (by omega) _ (by omega)]; rfl) I (lv_sub hl [0, 1, 2, 3, 4] rfl)
      exact loop 5 0 _ _ _ _ (by omega) (by omega) rfl I hl
set_option maxHeartbeats 4000000 in
theorem metX1_same {l : Launch} {D : va_G} {h : Nat → Nat} {dI dZ : ClassId} {g : bz_S} {N : Nat} {wc sh : Nat → Int32} (RR : bz_RR N g wc sh) (a q b t : Int32) : bc_i l D (bz_T dI dZ) (BW h dI dZ) yX1_same cX1_same 5 .boolean rmX1_same [.ref (h 0), .int a, .int q, .int b, .int t] g (fun r u => r = sr_same wc a q b t ∧ bz_RR N u wc sh) := by
  refine bc_i_of RX1 (by decide) rfl (Nat.le_of_ble_eq_true rfl) ?_
  intro p e s m args below meth c A Q ls F hl I hret
  have hx := F.1.1
  have hb := F.1.2.1
  have hl : lv_has ls 5 [(0, .ref (h 0)), (1, .int a), (2, .int q), (3, .int b), (4, .int t)] := hl
  have V := RR.1
  have hN := V.1
  by_cases ha : bz_bg a
  · refine lv_iload_n hx hb dX1_same_0 rfl (lv_at hl 1 rfl) ?_
    refine bx_cs (rest := []) F I (metX1_badGuest a) (cwX1_badGuest F.1.2.2.2.2 ⟨by decide, by decide⟩) rfl hl.1 rfl (Nat.le_of_ble_eq_true rfl) dX1_same_1 (fun rg locs hq I => ?_)
    rw [if_pos ha] at hq
    subst hq
    refine bn_if1_ne (tgt := 29) hx hb dX1_same_4 (by decide) ?_
    refine lv_iconst (v := nI 0) hx hb dX1_same_29 (by decide) ?_
    exact hret _ _ _ _ _ _ (⟨(if_pos (Or.inl ha)).symm, RR⟩) I (rfl) dX1_same_30
  · by_cases hb2 : bz_bg b
    · refine lv_iload_n hx hb dX1_same_0 rfl (lv_at hl 1 rfl) ?_
      refine bx_cs (rest := []) F I (metX1_badGuest a) (cwX1_badGuest F.1.2.2.2.2 ⟨by decide, by decide⟩) rfl hl.1 rfl (Nat.le_of_ble_eq_true rfl) dX1_same_1 (fun rg locs hq I => ?_)
      rw [if_neg ha] at hq
      subst hq
      refine bn_if0_ne (tgt := 29) hx hb dX1_same_4 (by decide) ?_
      refine lv_iload_n hx hb dX1_same_7 rfl (lv_at hl 3 rfl) ?_
      refine bx_cs (rest := []) F I (metX1_badGuest b) (cwX1_badGuest F.1.2.2.2.2 ⟨by decide, by decide⟩) rfl hl.1 rfl (Nat.le_of_ble_eq_true rfl) dX1_same_8 (fun rg locs hq I => ?_)
      rw [if_pos hb2] at hq
      subst hq
      refine bn_if1_ne (tgt := 29) hx hb dX1_same_11 (by decide) ?_
      refine lv_iconst (v := nI 0) hx hb dX1_same_29 (by decide) ?_
      exact hret _ _ _ _ _ _ (⟨(if_pos (Or.inr (Or.inl hb2))).symm, RR⟩) I (rfl) dX1_same_30
    · by_cases hq2 : bz_bp q
      · refine lv_iload_n hx hb dX1_same_0 rfl (lv_at hl 1 rfl) ?_
        refine bx_cs (rest := []) F I (metX1_badGuest a) (cwX1_badGuest F.1.2.2.2.2 ⟨by decide, by decide⟩) rfl hl.1 rfl (Nat.le_of_ble_eq_true rfl) dX1_same_1 (fun rg locs hq I => ?_)
        rw [if_neg ha] at hq
        subst hq
        refine bn_if0_ne (tgt := 29) hx hb dX1_same_4 (by decide) ?_
        refine lv_iload_n hx hb dX1_same_7 rfl (lv_at hl 3 rfl) ?_
        refine bx_cs (rest := []) F I (metX1_badGuest b) (cwX1_badGuest F.1.2.2.2.2 ⟨by decide, by decide⟩) rfl hl.1 rfl (Nat.le_of_ble_eq_true rfl) dX1_same_8 (fun rg locs hq I => ?_)
        rw [if_neg hb2] at hq
        subst hq
        refine bn_if0_ne (tgt := 29) hx hb dX1_same_11 (by decide) ?_
        refine lv_iload_n hx hb dX1_same_14 rfl (lv_at hl 2 rfl) ?_
        refine bx_cs (rest := []) F I (metX1_badPage q) (cwX1_badPage F.1.2.2.2.2 ⟨by decide, by decide⟩) rfl hl.1 rfl (Nat.le_of_ble_eq_true rfl) dX1_same_15 (fun rg locs hq I => ?_)
        rw [if_pos hq2] at hq
        subst hq
        refine bn_if1_ne (tgt := 29) hx hb dX1_same_18 (by decide) ?_
        refine lv_iconst (v := nI 0) hx hb dX1_same_29 (by decide) ?_
        exact hret _ _ _ _ _ _ (⟨(if_pos (Or.inr (Or.inr (Or.inl hq2)))).symm, RR⟩) I (rfl) dX1_same_30
      · by_cases ht2 : bz_bp t
        · refine lv_iload_n hx hb dX1_same_0 rfl (lv_at hl 1 rfl) ?_
          refine bx_cs (rest := []) F I (metX1_badGuest a) (cwX1_badGuest F.1.2.2.2.2 ⟨by decide, by decide⟩) rfl hl.1 rfl (Nat.le_of_ble_eq_true rfl) dX1_same_1 (fun rg locs hq I => ?_)
          rw [if_neg ha] at hq
          subst hq
          refine bn_if0_ne (tgt := 29) hx hb dX1_same_4 (by decide) ?_
          refine lv_iload_n hx hb dX1_same_7 rfl (lv_at hl 3 rfl) ?_
          refine bx_cs (rest := []) F I (metX1_badGuest b) (cwX1_badGuest F.1.2.2.2.2 ⟨by decide, by decide⟩) rfl hl.1 rfl (Nat.le_of_ble_eq_true rfl) dX1_same_8 (fun rg locs hq I => ?_)
          rw [if_neg hb2] at hq
          subst hq
          refine bn_if0_ne (tgt := 29) hx hb dX1_same_11 (by decide) ?_
          refine lv_iload_n hx hb dX1_same_14 rfl (lv_at hl 2 rfl) ?_
          refine bx_cs (rest := []) F I (metX1_badPage q) (cwX1_badPage F.1.2.2.2.2 ⟨by decide, by decide⟩) rfl hl.1 rfl (Nat.le_of_ble_eq_true rfl) dX1_same_15 (fun rg locs hq I => ?_)
          rw [if_neg hq2] at hq
          subst hq
          refine bn_if0_ne (tgt := 29) hx hb dX1_same_18 (by decide) ?_
          refine lv_iload hx hb dX1_same_21 (lv_at hl 4 rfl) ?_
          refine bx_cs (rest := []) F I (metX1_badPage t) (cwX1_badPage F.1.2.2.2.2 ⟨by decide, by decide⟩) rfl hl.1 rfl (Nat.le_of_ble_eq_true rfl) dX1_same_23 (fun rg locs hq I => ?_)
          rw [if_pos ht2] at hq
          subst hq
          refine bn_if1_eq (tgt := 31) hx hb dX1_same_26 (by decide) ?_
          refine lv_iconst (v := nI 0) hx hb dX1_same_29 (by decide) ?_
          exact hret _ _ _ _ _ _ (⟨(if_pos (Or.inr (Or.inr (Or.inr ht2)))).symm, RR⟩) I (rfl) dX1_same_30
        · have hall : ¬ (bz_bg a ∨ bz_bg b ∨ bz_bp q ∨ bz_bp t) := fun z => z.elim ha (fun z => z.elim hb2 (fun z => z.elim hq2 ht2))
          obtain ⟨an, han, rfl⟩ := bz_bg_no ha
          obtain ⟨bn, hbn, rfl⟩ := bz_bg_no hb2
          obtain ⟨qn, hqn, rfl⟩ := bz_bp_no hq2
          obtain ⟨tn, htn, rfl⟩ := bz_bp_no ht2
          refine lv_iload_n hx hb dX1_same_0 rfl (lv_at hl 1 rfl) ?_
          refine bx_cs (rest := []) F I (metX1_badGuest (nI an)) (cwX1_badGuest F.1.2.2.2.2 ⟨by decide, by decide⟩) rfl hl.1 rfl (Nat.le_of_ble_eq_true rfl) dX1_same_1 (fun rg locs hq I => ?_)
          rw [if_neg ha] at hq
          subst hq
          refine bn_if0_ne (tgt := 29) hx hb dX1_same_4 (by decide) ?_
          refine lv_iload_n hx hb dX1_same_7 rfl (lv_at hl 3 rfl) ?_
          refine bx_cs (rest := []) F I (metX1_badGuest (nI bn)) (cwX1_badGuest F.1.2.2.2.2 ⟨by decide, by decide⟩) rfl hl.1 rfl (Nat.le_of_ble_eq_true rfl) dX1_same_8 (fun rg locs hq I => ?_)
          rw [if_neg hb2] at hq
          subst hq
          refine bn_if0_ne (tgt := 29) hx hb dX1_same_11 (by decide) ?_
          refine lv_iload_n hx hb dX1_same_14 rfl (lv_at hl 2 rfl) ?_
          refine bx_cs (rest := []) F I (metX1_badPage (nI qn)) (cwX1_badPage F.1.2.2.2.2 ⟨by decide, by decide⟩) rfl hl.1 rfl (Nat.le_of_ble_eq_true rfl) dX1_same_15 (fun rg locs hq I => ?_)
          rw [if_neg hq2] at hq
          subst hq
          refine bn_if0_ne (tgt := 29) hx hb dX1_same_18 (by decide) ?_
          refine lv_iload hx hb dX1_same_21 (lv_at hl 4 rfl) ?_
          refine bx_cs (rest := []) F I (metX1_badPage (nI tn)) (cwX1_badPage F.1.2.2.2.2 ⟨by decide, by decide⟩) rfl hl.1 rfl (Nat.le_of_ble_eq_true rfl) dX1_same_23 (fun rg locs hq I => ?_)
          rw [if_neg ht2] at hq
          subst hq
          refine bn_if0_eq (tgt := 31) hx hb dX1_same_26 (by decide) ?_
          refine lv_aload_n hx hb dX1_same_31 rfl (lv_at hl 0 rfl) ?_
          refine lv_iload_n hx hb dX1_same_32 rfl (lv_at hl 1 rfl) ?_
          refine lv_bipush (v := nI 8) hx hb dX1_same_33 (by decide) ?_
          refine bn_mul hx hb dX1_same_35 ?_
          refine lv_iload_n hx hb dX1_same_36 rfl (lv_at hl 2 rfl) ?_
          refine bn_add hx hb dX1_same_37 ?_
          refine lv_iload_n hx hb dX1_same_38 rfl (lv_at hl 3 rfl) ?_
          refine lv_bipush (v := nI 8) hx hb dX1_same_39 (by decide) ?_
          refine bn_mul hx hb dX1_same_41 ?_
          refine lv_iload hx hb dX1_same_42 (lv_at hl 4 rfl) ?_
          refine bn_add hx hb dX1_same_44 ?_
          refine bx_ci (wd := BW h dI dZ) (rest := []) F I (metX1_alike (a := an * 8 + qn) (b := bn * 8 + tn) V (by omega) (by omega)) (cwX1_alike F.1.2.2.2.2 ⟨by decide, by decide⟩) (q0 := 0) rfl rfl rfl hl.1 rfl (Nat.le_of_ble_eq_true rfl) dX1_same_45 (fun r1 v1 H locs hq I => ?_)
          obtain ⟨er, e1⟩ := hq
          rw [e1] at I
          have hal := bz_al_sp (a := an * 8 + qn) (b := bn * 8 + tn) RR.2.1 (by omega) (by omega)
          have es : sr_same wc (nI an) (nI qn) (nI bn) (nI tn) = if sp_al wc (an * 8 + qn) (bn * 8 + tn) then nI 1 else nI 0 := by rw [sr_same, if_neg hall, nI_clamp (by omega), nI_clamp (by omega), nI_clamp (by omega), nI_clamp (by omega)]
          by_cases z : bz_al g (an * 8 + qn) (bn * 8 + tn)
          · rw [if_pos z] at er
            subst er
            rw [if_pos (hal.mp z)] at es
            exact hret _ _ _ _ _ _ (⟨es.symm, RR⟩) I (rfl) dX1_same_48
          · rw [if_neg z] at er
            subst er
            rw [if_neg (fun y => z (hal.mpr y))] at es
            exact hret _ _ _ _ _ _ (⟨es.symm, RR⟩) I (rfl) dX1_same_48
set_option maxHeartbeats 4000000 in
theorem metX1_contents {l : Launch} {D : va_G} {h : Nat → Nat} {dI dZ : ClassId} {g : bz_S} {N : Nat} {wc sh : Nat → Int32} (RR : bz_RR N g wc sh) (gu : Int32) : bc_i l D (bz_T dI dZ) (BW h dI dZ) yX1_contents cX1_contents 7 .int rmX1_contents [.ref (h 0), .int gu] g (fun r u => r = sr_contents wc gu ∧ bz_RR N u wc sh) := by
  refine bc_i_of RX1 (by decide) rfl (Nat.le_of_ble_eq_true rfl) ?_
  intro p e s m args below meth c A Q ls F hl I hret
  have hx := F.1.1
  have hb := F.1.2.1
  have hl : lv_has ls 7 [(0, .ref (h 0)), (1, .int gu)] := hl
  have V := RR.1
  have hN := V.1
  by_cases hg : bz_bg gu
  · refine lv_iload_n hx hb dX1_contents_0 rfl (lv_at hl 1 rfl) ?_
    refine bx_cs (rest := []) F I (metX1_badGuest gu) (cwX1_badGuest F.1.2.2.2.2 ⟨by decide, by decide⟩) rfl hl.1 rfl (Nat.le_of_ble_eq_true rfl) dX1_contents_1 (fun rg locs hq I => ?_)
    rw [if_pos hg] at hq
    subst hq
    refine bn_if1_eq (tgt := 9) hx hb dX1_contents_4 (by decide) ?_
    refine lv_iconst (v := (-1)) hx hb dX1_contents_7 (by decide) ?_
    exact hret _ _ _ _ _ _ (⟨(if_pos hg).symm, RR⟩) I (rfl) dX1_contents_8
  · obtain ⟨gn, hgn, rfl⟩ := bz_bg_no hg
    have loop : ∀ (n k cn : Nat) (H : Heap) (locs : List Loc) (ls : Array Slot), k ≤ 8 → 8 < k + n → cn = sp_cs wc (gn * 8) k → bx_I D A (BW h dI dZ g) s H locs → lv_has ls 7 [(3, .int (nI k)), (2, .int (nI cn)), (0, .ref (h 0)), (1, .int (nI gn))] → W p l e rmX1_contents s m args below meth c H locs 0 0 Q (F0 m 13 ls []) := by
      intro n
      induction n with
      | zero => intro k cn H locs ls h1 h2; exact absurd h2 (by omega)
      | succ n ih =>
        intro k cn H locs ls h1 h2 ec I hl
        refine lv_iload_n hx hb dX1_contents_13 rfl (lv_at hl 0 rfl) ?_
        refine lv_bipush (v := nI 8) hx hb dX1_contents_14 (by decide) ?_
        refine bn_ge (tgt := 78) hx hb dX1_contents_16 (by decide) (by omega) (by omega) (fun c1 => ?_) (fun c1 => ?_)
        · have e8 : k = 8 := by omega
          subst e8
          refine lv_iload_n hx hb dX1_contents_78 rfl (lv_at hl 1 rfl) ?_
          exact hret _ _ _ _ _ _ (⟨by rw [sr_contents, if_neg hg, nI_clamp (by omega), ec], RR⟩) I (rfl) dX1_contents_79
        · have inner : ∀ (n e2 fb : Nat) (H : Heap) (locs : List Loc) (ls : Array Slot), e2 ≤ k → k < e2 + n → ((fb = 1 ∧ sp_fr wc (gn * 8) k e2) ∨ (fb = 0 ∧ ¬ sp_fr wc (gn * 8) k e2)) → bx_I D A (BW h dI dZ g) s H locs → lv_has ls 7 [(5, .int (nI e2)), (4, .int (nI fb)), (3, .int (nI k)), (2, .int (nI cn)), (0, .ref (h 0)), (1, .int (nI gn))] → W p l e rmX1_contents s m args below meth c H locs 0 0 Q (F0 m 25 ls []) := by
            intro n
            induction n with
            | zero => intro e2 fb H locs ls h3 h4; exact absurd h4 (by omega)
            | succ n ih2 =>
              intro e2 fb H locs ls h3 h4 hfb I hl
              refine lv_iload hx hb dX1_contents_25 (lv_at hl 0 rfl) ?_
              refine lv_iload_n hx hb dX1_contents_27 rfl (lv_at hl 2 rfl) ?_
              refine bn_ge (tgt := 64) hx hb dX1_contents_28 (by decide) (by omega) (by omega) (fun c2 => ?_) (fun c2 => ?_)
              · have ek : e2 = k := by omega
                subst ek
                rcases hfb with ⟨rfl, hf⟩ | ⟨rfl, hf⟩
                · refine lv_iload hx hb dX1_contents_64 (lv_at hl 1 rfl) ?_
                  refine bn_if1_eq (tgt := 72) hx hb dX1_contents_66 (by decide) ?_
                  refine lv_iinc (v := nI (cn + 1)) (lv' := [(2, .int (nI (cn + 1))), (5, .int (nI e2)), (4, .int (nI 1)), (3, .int (nI e2)), (0, .ref (h 0)), (1, .int (nI gn))]) hx hb dX1_contents_69 hl (k := 3) rfl (bn_inc _) (by decide) rfl (fun ls hl => ?_)
                  refine lv_iinc (v := nI (e2 + 1)) (lv' := [(3, .int (nI (e2 + 1))), (2, .int (nI (cn + 1))), (5, .int (nI e2)), (4, .int (nI 1)), (0, .ref (h 0)), (1, .int (nI gn))]) hx hb dX1_contents_72 hl (k := 3) rfl (bn_inc _) (by decide) rfl (fun ls hl => ?_)
                  refine lv_goto (tgt := 13) hx hb dX1_contents_75 (by decide) ?_
                  exact ih (e2 + 1) (cn + 1) H locs ls (by omega) (by omega) (by rw [sp_cs, if_pos hf, ec]) I (lv_sub hl [0, 1, 4, 5] rfl)
                · refine lv_iload hx hb dX1_contents_64 (lv_at hl 1 rfl) ?_
                  refine bn_if0_eq (tgt := 72) hx hb dX1_contents_66 (by decide) ?_
                  refine lv_iinc (v := nI (e2 + 1)) (lv' := [(3, .int (nI (e2 + 1))), (5, .int (nI e2)), (4, .int (nI 0)), (2, .int (nI cn)), (0, .ref (h 0)), (1, .int (nI gn))]) hx hb dX1_contents_72 hl (k := 2) rfl (bn_inc _) (by decide) rfl (fun ls hl => ?_)
                  refine lv_goto (tgt := 13) hx hb dX1_contents_75 (by decide) ?_
                  exact ih (e2 + 1) cn H locs ls (by omega) (by omega) (by rw [sp_cs, if_neg hf, ec]; rfl) I (lv_sub hl [0, 3, 4, 5] rfl)
              · refine lv_aload_n hx hb dX1_contents_31 rfl (lv_at hl 4 rfl) ?_
                refine lv_iload_n hx hb dX1_contents_32 rfl (lv_at hl 5 rfl) ?_
                refine lv_bipush (v := nI 8) hx hb dX1_contents_33 (by decide) ?_
                refine bn_mul hx hb dX1_contents_35 ?_
                refine lv_iload_n hx hb dX1_contents_36 rfl (lv_at hl 2 rfl) ?_
                refine bn_add hx hb dX1_contents_37 ?_
                refine lv_iload_n hx hb dX1_contents_38 rfl (lv_at hl 5 rfl) ?_
                refine lv_bipush (v := nI 8) hx hb dX1_contents_39 (by decide) ?_
                refine bn_mul hx hb dX1_contents_41 ?_
                refine lv_iload hx hb dX1_contents_42 (lv_at hl 0 rfl) ?_
                refine bn_add hx hb dX1_contents_44 ?_
                refine bx_ci (wd := BW h dI dZ) (rest := []) F I (metX1_alike (a := gn * 8 + k) (b := gn * 8 + e2) V (by omega) (by omega)) (cwX1_alike F.1.2.2.2.2 ⟨by decide, by decide⟩) (q0 := 0) rfl rfl rfl hl.1 rfl (Nat.le_of_ble_eq_true rfl) dX1_contents_45 (fun r1 v1 H locs hq I => ?_)
                obtain ⟨er, e1⟩ := hq
                rw [e1] at I
                have hal := bz_al_sp (a := gn * 8 + k) (b := gn * 8 + e2) RR.2.1 (by omega) (by omega)
                by_cases z : bz_al g (gn * 8 + k) (gn * 8 + e2)
                · rw [if_pos z] at er
                  subst er
                  refine lv_istore (lv' := [(6, .int (nI 1)), (5, .int (nI e2)), (4, .int (nI fb)), (3, .int (nI k)), (2, .int (nI cn)), (0, .ref (h 0)), (1, .int (nI gn))]) hx hb dX1_contents_48 hl (by decide) rfl (fun ls hl => ?_)
                  refine lv_iload hx hb dX1_contents_50 (lv_at hl 0 rfl) ?_
                  refine bn_if1_eq (tgt := 58) hx hb dX1_contents_52 (by decide) ?_
                  refine lv_iconst (v := nI 0) hx hb dX1_contents_55 (by decide) ?_
                  refine lv_istore (lv' := [(4, .int (nI 0)), (6, .int (nI 1)), (5, .int (nI e2)), (3, .int (nI k)), (2, .int (nI cn)), (0, .ref (h 0)), (1, .int (nI gn))]) hx hb dX1_contents_56 hl (by decide) rfl (fun ls hl => ?_)
                  refine lv_iinc (v := nI (e2 + 1)) (lv' := [(5, .int (nI (e2 + 1))), (4, .int (nI 0)), (6, .int (nI 1)), (3, .int (nI k)), (2, .int (nI cn)), (0, .ref (h 0)), (1, .int (nI gn))]) hx hb dX1_contents_58 hl (k := 2) rfl (bn_inc _) (by decide) rfl (fun ls hl => ?_)
                  refine lv_goto (tgt := 25) hx hb dX1_contents_61 (by decide) ?_
                  exact ih2 (e2 + 1) 0 H locs ls (by omega) (by omega) (Or.inr ⟨rfl, fun y => y e2 (by omega) (hal.mp z)⟩) I (lv_sub hl [0, 1, 3, 4, 5, 6] rfl)
                · rw [if_neg z] at er
                  subst er
                  refine lv_istore (lv' := [(6, .int (nI 0)), (5, .int (nI e2)), (4, .int (nI fb)), (3, .int (nI k)), (2, .int (nI cn)), (0, .ref (h 0)), (1, .int (nI gn))]) hx hb dX1_contents_48 hl (by decide) rfl (fun ls hl => ?_)
                  refine lv_iload hx hb dX1_contents_50 (lv_at hl 0 rfl) ?_
                  refine bn_if0_eq (tgt := 58) hx hb dX1_contents_52 (by decide) ?_
                  refine lv_iinc (v := nI (e2 + 1)) (lv' := [(5, .int (nI (e2 + 1))), (6, .int (nI 0)), (4, .int (nI fb)), (3, .int (nI k)), (2, .int (nI cn)), (0, .ref (h 0)), (1, .int (nI gn))]) hx hb dX1_contents_58 hl (k := 1) rfl (bn_inc _) (by decide) rfl (fun ls hl => ?_)
                  refine lv_goto (tgt := 25) hx hb dX1_contents_61 (by decide) ?_
                  exact ih2 (e2 + 1) fb H locs ls (by omega) (by omega) (hfb.elim (fun q => Or.inl ⟨q.1, fun j hj => (Nat.lt_or_eq_of_le (Nat.le_of_lt_succ hj)).elim (q.2 j) (fun y => by rw [y]; exact fun x => z (hal.mpr x))⟩) (fun q => Or.inr ⟨q.1, fun y => q.2 (fun j hj => y j (by omega))⟩)) I (lv_sub hl [0, 2, 3, 4, 5, 6] rfl)
          refine lv_iconst (v := nI 1) hx hb dX1_contents_19 (by decide) ?_
          refine lv_istore (lv' := [(4, .int (nI 1)), (3, .int (nI k)), (2, .int (nI cn)), (0, .ref (h 0)), (1, .int (nI gn))]) hx hb dX1_contents_20 hl (by decide) rfl (fun ls hl => ?_)
          refine lv_iconst (v := nI 0) hx hb dX1_contents_22 (by decide) ?_
          refine lv_istore (lv' := [(5, .int (nI 0)), (4, .int (nI 1)), (3, .int (nI k)), (2, .int (nI cn)), (0, .ref (h 0)), (1, .int (nI gn))]) hx hb dX1_contents_23 hl (by decide) rfl (fun ls hl => ?_)
          exact inner (k + 1) 0 1 H locs ls (by omega) (by omega) (Or.inl ⟨rfl, fun j hj => absurd hj (by omega)⟩) I hl
    refine lv_iload_n hx hb dX1_contents_0 rfl (lv_at hl 1 rfl) ?_
    refine bx_cs (rest := []) F I (metX1_badGuest (nI gn)) (cwX1_badGuest F.1.2.2.2.2 ⟨by decide, by decide⟩) rfl hl.1 rfl (Nat.le_of_ble_eq_true rfl) dX1_contents_1 (fun rg locs hq I => ?_)
    rw [if_neg hg] at hq
    subst hq
    refine bn_if0_eq (tgt := 9) hx hb dX1_contents_4 (by decide) ?_
    refine lv_iconst (v := nI 0) hx hb dX1_contents_9 (by decide) ?_
    refine lv_istore_n (lv' := [(2, .int (nI 0)), (0, .ref (h 0)), (1, .int (nI gn))]) hx hb dX1_contents_10 rfl hl (by decide) rfl (fun ls hl => ?_)
    refine lv_iconst (v := nI 0) hx hb dX1_contents_11 (by decide) ?_
    refine lv_istore_n (lv' := [(3, .int (nI 0)), (2, .int (nI 0)), (0, .ref (h 0)), (1, .int (nI gn))]) hx hb dX1_contents_12 rfl hl (by decide) rfl (fun ls hl => ?_)
    exact loop 9 0 0 _ _ _ (by omega) (by omega) rfl I hl
set_option maxHeartbeats 4000000 in
theorem metX1_twins {l : Launch} {D : va_G} {h : Nat → Nat} {dI dZ : ClassId} {g : bz_S} {N : Nat} {wc sh : Nat → Int32} (RR : bz_RR N g wc sh) (gu q : Int32) : bc_i l D (bz_T dI dZ) (BW h dI dZ) yX1_twins cX1_twins 6 .int rmX1_twins [.ref (h 0), .int gu, .int q] g (fun r u => r = sr_twins wc gu q ∧ bz_RR N u wc sh) := by
  refine bc_i_of RX1 (by decide) rfl (Nat.le_of_ble_eq_true rfl) ?_
  intro p e s m args below meth c A Q ls F hl I hret
  have hx := F.1.1
  have hb := F.1.2.1
  have hl : lv_has ls 6 [(0, .ref (h 0)), (1, .int gu), (2, .int q)] := hl
  have V := RR.1
  have hN := V.1
  by_cases hg : bz_bg gu
  · refine lv_iload_n hx hb dX1_twins_0 rfl (lv_at hl 1 rfl) ?_
    refine bx_cs (rest := []) F I (metX1_badGuest gu) (cwX1_badGuest F.1.2.2.2.2 ⟨by decide, by decide⟩) rfl hl.1 rfl (Nat.le_of_ble_eq_true rfl) dX1_twins_1 (fun rg locs hq I => ?_)
    rw [if_pos hg] at hq
    subst hq
    refine bn_if1_eq (tgt := 9) hx hb dX1_twins_4 (by decide) ?_
    refine lv_iconst (v := (-1)) hx hb dX1_twins_7 (by decide) ?_
    exact hret _ _ _ _ _ _ (⟨(if_pos hg).symm, RR⟩) I (rfl) dX1_twins_8
  · by_cases ha : bz_bp q
    · refine lv_iload_n hx hb dX1_twins_0 rfl (lv_at hl 1 rfl) ?_
      refine bx_cs (rest := []) F I (metX1_badGuest gu) (cwX1_badGuest F.1.2.2.2.2 ⟨by decide, by decide⟩) rfl hl.1 rfl (Nat.le_of_ble_eq_true rfl) dX1_twins_1 (fun rg locs hq I => ?_)
      rw [if_neg hg] at hq
      subst hq
      refine bn_if0_eq (tgt := 9) hx hb dX1_twins_4 (by decide) ?_
      refine lv_iload_n hx hb dX1_twins_9 rfl (lv_at hl 2 rfl) ?_
      refine bx_cs (rest := []) F I (metX1_badPage q) (cwX1_badPage F.1.2.2.2.2 ⟨by decide, by decide⟩) rfl hl.1 rfl (Nat.le_of_ble_eq_true rfl) dX1_twins_10 (fun rg locs hq I => ?_)
      rw [if_pos ha] at hq
      subst hq
      refine bn_if1_eq (tgt := 19) hx hb dX1_twins_13 (by decide) ?_
      refine lv_bipush (v := (-2)) hx hb dX1_twins_16 (by decide) ?_
      exact hret _ _ _ _ _ _ (⟨by rw [sr_twins, if_neg hg, if_pos ha], RR⟩) I (rfl) dX1_twins_18
    · obtain ⟨gn, hgn, rfl⟩ := bz_bg_no hg
      obtain ⟨qn, hqn, rfl⟩ := bz_bp_no ha
      have loop : ∀ (n k cn : Nat) (H : Heap) (locs : List Loc) (ls : Array Slot), k ≤ 24 → 24 < k + n → cn = sp_tw wc (gn * 8 + qn) k → bx_I D A (BW h dI dZ g) s H locs → lv_has ls 6 [(4, .int (nI k)), (3, .int (nI cn)), (0, .ref (h 0)), (1, .int (nI gn)), (2, .int (nI qn))] → W p l e rmX1_twins s m args below meth c H locs 0 0 Q (F0 m 24 ls []) := by
        intro n
        induction n with
        | zero => intro k cn H locs ls h1 h2; exact absurd h2 (by omega)
        | succ n ih =>
          intro k cn H locs ls h1 h2 ec I hl
          refine lv_iload hx hb dX1_twins_24 (lv_at hl 0 rfl) ?_
          refine lv_bipush (v := nI 24) hx hb dX1_twins_26 (by decide) ?_
          refine bn_ge (tgt := 59) hx hb dX1_twins_28 (by decide) (by omega) (by omega) (fun c1 => ?_) (fun c1 => ?_)
          · have e24 : k = 24 := by omega
            subst e24
            refine lv_iload_n hx hb dX1_twins_59 rfl (lv_at hl 1 rfl) ?_
            exact hret _ _ _ _ _ _ (⟨by rw [sr_twins, if_neg hg, if_neg ha, nI_clamp (by omega), nI_clamp (by omega), ec], RR⟩) I (rfl) dX1_twins_60
          · refine lv_aload_n hx hb dX1_twins_31 rfl (lv_at hl 2 rfl) ?_
            refine lv_iload_n hx hb dX1_twins_32 rfl (lv_at hl 3 rfl) ?_
            refine lv_bipush (v := nI 8) hx hb dX1_twins_33 (by decide) ?_
            refine bn_mul hx hb dX1_twins_35 ?_
            refine lv_iload_n hx hb dX1_twins_36 rfl (lv_at hl 4 rfl) ?_
            refine bn_add hx hb dX1_twins_37 ?_
            refine lv_iload hx hb dX1_twins_38 (lv_at hl 0 rfl) ?_
            refine bx_ci (wd := BW h dI dZ) (rest := []) F I (metX1_alike (a := gn * 8 + qn) (b := k) V (by omega) (by omega)) (cwX1_alike F.1.2.2.2.2 ⟨by decide, by decide⟩) (q0 := 0) rfl rfl rfl hl.1 rfl (Nat.le_of_ble_eq_true rfl) dX1_twins_40 (fun r1 v1 H locs hq I => ?_)
            obtain ⟨er, e1⟩ := hq
            rw [e1] at I
            have hal := bz_al_sp (a := gn * 8 + qn) (b := k) RR.2.1 (by omega) (by omega)
            by_cases z : bz_al g (gn * 8 + qn) k
            · rw [if_pos z] at er
              subst er
              refine lv_istore (lv' := [(5, .int (nI 1)), (4, .int (nI k)), (3, .int (nI cn)), (0, .ref (h 0)), (1, .int (nI gn)), (2, .int (nI qn))]) hx hb dX1_twins_43 hl (by decide) rfl (fun ls hl => ?_)
              refine lv_iload hx hb dX1_twins_45 (lv_at hl 0 rfl) ?_
              refine bn_if1_eq (tgt := 53) hx hb dX1_twins_47 (by decide) ?_
              refine lv_iinc (v := nI (cn + 1)) (lv' := [(3, .int (nI (cn + 1))), (5, .int (nI 1)), (4, .int (nI k)), (0, .ref (h 0)), (1, .int (nI gn)), (2, .int (nI qn))]) hx hb dX1_twins_50 hl (k := 2) rfl (bn_inc _) (by decide) rfl (fun ls hl => ?_)
              refine lv_iinc (v := nI (k + 1)) (lv' := [(4, .int (nI (k + 1))), (3, .int (nI (cn + 1))), (5, .int (nI 1)), (0, .ref (h 0)), (1, .int (nI gn)), (2, .int (nI qn))]) hx hb dX1_twins_53 hl (k := 2) rfl (bn_inc _) (by decide) rfl (fun ls hl => ?_)
              refine lv_goto (tgt := 24) hx hb dX1_twins_56 (by decide) ?_
              exact ih (k + 1) (cn + 1) H locs ls (by omega) (by omega) (by rw [sp_tw, if_pos (hal.mp z), ec]) I (lv_sub hl [0, 1, 3, 4, 5] rfl)
            · rw [if_neg z] at er
              subst er
              refine lv_istore (lv' := [(5, .int (nI 0)), (4, .int (nI k)), (3, .int (nI cn)), (0, .ref (h 0)), (1, .int (nI gn)), (2, .int (nI qn))]) hx hb dX1_twins_43 hl (by decide) rfl (fun ls hl => ?_)
              refine lv_iload hx hb dX1_twins_45 (lv_at hl 0 rfl) ?_
              refine bn_if0_eq (tgt := 53) hx hb dX1_twins_47 (by decide) ?_
              refine lv_iinc (v := nI (k + 1)) (lv' := [(4, .int (nI (k + 1))), (5, .int (nI 0)), (3, .int (nI cn)), (0, .ref (h 0)), (1, .int (nI gn)), (2, .int (nI qn))]) hx hb dX1_twins_53 hl (k := 1) rfl (bn_inc _) (by decide) rfl (fun ls hl => ?_)
              refine lv_goto (tgt := 24) hx hb dX1_twins_56 (by decide) ?_
              exact ih (k + 1) cn H locs ls (by omega) (by omega) (by rw [sp_tw, if_neg (fun y => z (hal.mpr y)), ec]; rfl) I (lv_sub hl [0, 2, 3, 4, 5] rfl)
      refine lv_iload_n hx hb dX1_twins_0 rfl (lv_at hl 1 rfl) ?_
      refine bx_cs (rest := []) F I (metX1_badGuest (nI gn)) (cwX1_badGuest F.1.2.2.2.2 ⟨by decide, by decide⟩) rfl hl.1 rfl (Nat.le_of_ble_eq_true rfl) dX1_twins_1 (fun rg locs hq I => ?_)
      rw [if_neg hg] at hq
      subst hq
      refine bn_if0_eq (tgt := 9) hx hb dX1_twins_4 (by decide) ?_
      refine lv_iload_n hx hb dX1_twins_9 rfl (lv_at hl 2 rfl) ?_
      refine bx_cs (rest := []) F I (metX1_badPage (nI qn)) (cwX1_badPage F.1.2.2.2.2 ⟨by decide, by decide⟩) rfl hl.1 rfl (Nat.le_of_ble_eq_true rfl) dX1_twins_10 (fun rg locs hq I => ?_)
      rw [if_neg ha] at hq
      subst hq
      refine bn_if0_eq (tgt := 19) hx hb dX1_twins_13 (by decide) ?_
      refine lv_iconst (v := nI 0) hx hb dX1_twins_19 (by decide) ?_
      refine lv_istore_n (lv' := [(3, .int (nI 0)), (0, .ref (h 0)), (1, .int (nI gn)), (2, .int (nI qn))]) hx hb dX1_twins_20 rfl hl (by decide) rfl (fun ls hl => ?_)
      refine lv_iconst (v := nI 0) hx hb dX1_twins_21 (by decide) ?_
      refine lv_istore (lv' := [(4, .int (nI 0)), (3, .int (nI 0)), (0, .ref (h 0)), (1, .int (nI gn)), (2, .int (nI qn))]) hx hb dX1_twins_22 hl (by decide) rfl (fun ls hl => ?_)
      exact loop 25 0 0 _ _ _ (by omega) (by omega) rfl I hl
end
section
/-! BalloonShareModel: all methods but its constructor -/
set_option maxHeartbeats 4000000 in
theorem metX2_badGuest {l : Launch} {D : va_G} {h : Nat → Nat} {dI dZ : ClassId} {g : bz_S} (x : Int32) : bc_i l D (bz_T dI dZ) (MW h dI dZ) yX2_badGuest cX2_badGuest 2 .boolean rmX2_badGuest [.ref (h 0), .int x] g (fun r u => r = (if bz_bg x then nI 1 else nI 0) ∧ u = g) := by
  refine bc_i_of RX2 (by decide) rfl (Nat.le_of_ble_eq_true rfl) ?_
  intro p e s m args below meth c A Q ls F hl I hret
  have hx := F.1.1
  have hb := F.1.2.1
  have hl : lv_has ls 2 [(0, .ref (h 0)), (1, .int x)] := hl
  refine lv_iload_n hx hb dX2_badGuest_0 rfl (lv_at hl 1 rfl) ?_
  refine lv_if_lt (tgt := 9) hx hb dX2_badGuest_1 (by decide) (fun c1 => ?_) (fun c1 => ?_)
  · refine lv_iconst (v := nI 1) hx hb dX2_badGuest_9 (by decide) ?_
    refine lv_goto (tgt := 14) hx hb dX2_badGuest_10 (by decide) ?_
    exact hret _ _ _ _ _ _ (⟨(if_pos (Or.inl c1)).symm, rfl⟩) I (rfl) dX2_badGuest_14
  · refine lv_iload_n hx hb dX2_badGuest_4 rfl (lv_at hl 1 rfl) ?_
    refine lv_iconst (v := nI 2) hx hb dX2_badGuest_5 (by decide) ?_
    refine lv_icmp_le (tgt := 13) hx hb dX2_badGuest_6 (by decide) (fun c2 => ?_) (fun c2 => ?_)
    · refine lv_iconst (v := nI 0) hx hb dX2_badGuest_13 (by decide) ?_
      exact hret _ _ _ _ _ _ (⟨(if_neg (fun q => q.elim c1 (fun z => Int32.not_le.mpr z c2))).symm, rfl⟩) I (rfl) dX2_badGuest_14
    · refine lv_iconst (v := nI 1) hx hb dX2_badGuest_9 (by decide) ?_
      refine lv_goto (tgt := 14) hx hb dX2_badGuest_10 (by decide) ?_
      exact hret _ _ _ _ _ _ (⟨(if_pos (Or.inr (Int32.not_le.mp c2))).symm, rfl⟩) I (rfl) dX2_badGuest_14
set_option maxHeartbeats 4000000 in
theorem metX2_badPage {l : Launch} {D : va_G} {h : Nat → Nat} {dI dZ : ClassId} {g : bz_S} (x : Int32) : bc_i l D (bz_T dI dZ) (MW h dI dZ) yX2_badPage cX2_badPage 2 .boolean rmX2_badPage [.ref (h 0), .int x] g (fun r u => r = (if bz_bp x then nI 1 else nI 0) ∧ u = g) := by
  refine bc_i_of RX2 (by decide) rfl (Nat.le_of_ble_eq_true rfl) ?_
  intro p e s m args below meth c A Q ls F hl I hret
  have hx := F.1.1
  have hb := F.1.2.1
  have hl : lv_has ls 2 [(0, .ref (h 0)), (1, .int x)] := hl
  refine lv_iload_n hx hb dX2_badPage_0 rfl (lv_at hl 1 rfl) ?_
  refine lv_if_lt (tgt := 10) hx hb dX2_badPage_1 (by decide) (fun c1 => ?_) (fun c1 => ?_)
  · refine lv_iconst (v := nI 1) hx hb dX2_badPage_10 (by decide) ?_
    refine lv_goto (tgt := 15) hx hb dX2_badPage_11 (by decide) ?_
    exact hret _ _ _ _ _ _ (⟨(if_pos (Or.inl c1)).symm, rfl⟩) I (rfl) dX2_badPage_15
  · refine lv_iload_n hx hb dX2_badPage_4 rfl (lv_at hl 1 rfl) ?_
    refine lv_bipush (v := nI 7) hx hb dX2_badPage_5 (by decide) ?_
    refine lv_icmp_le (tgt := 14) hx hb dX2_badPage_7 (by decide) (fun c2 => ?_) (fun c2 => ?_)
    · refine lv_iconst (v := nI 0) hx hb dX2_badPage_14 (by decide) ?_
      exact hret _ _ _ _ _ _ (⟨(if_neg (fun q => q.elim c1 (fun z => Int32.not_le.mpr z c2))).symm, rfl⟩) I (rfl) dX2_badPage_15
    · refine lv_iconst (v := nI 1) hx hb dX2_badPage_10 (by decide) ?_
      refine lv_goto (tgt := 15) hx hb dX2_badPage_11 (by decide) ?_
      exact hret _ _ _ _ _ _ (⟨(if_pos (Or.inr (Int32.not_le.mp c2))).symm, rfl⟩) I (rfl) dX2_badPage_15
set_option maxHeartbeats 4000000 in
theorem metX2_write {l : Launch} {D : va_G} {h : Nat → Nat} {dI dZ : ClassId} {g : bz_S} (gu a v : Int32) : bc_i l D (bz_T dI dZ) (MW h dI dZ) yX2_write cX2_write 4 .int rmX2_write [.ref (h 0), .int gu, .int a, .int v] g (fun r u => r = sr_write gu a ∧ u 0 = sp_write (g 0) gu a v ∧ u 1 = g 1) := by
  refine bc_i_of RX2 (by decide) rfl (Nat.le_of_ble_eq_true rfl) ?_
  intro p e s m args below meth c A Q ls F hl I hret
  have hx := F.1.1
  have hb := F.1.2.1
  have hl : lv_has ls 4 [(0, .ref (h 0)), (1, .int gu), (2, .int a), (3, .int v)] := hl
  by_cases hg : bz_bg gu
  · refine lv_aload_n hx hb dX2_write_0 rfl (lv_at hl 0 rfl) ?_
    refine lv_iload_n hx hb dX2_write_1 rfl (lv_at hl 1 rfl) ?_
    refine bx_ci (wd := MW h dI dZ) (rest := []) F I (metX2_badGuest gu) (cwX2_badGuest F.1.2.2.2.2 ⟨by decide, by decide⟩) (q0 := 0) rfl rfl rfl hl.1 rfl (Nat.le_of_ble_eq_true rfl) dX2_write_2 (fun rg ug H locs hq I => ?_)
    obtain ⟨hq, eg⟩ := hq
    rw [eg] at I
    rw [if_pos hg] at hq
    subst hq
    refine bn_if1_eq (tgt := 10) hx hb dX2_write_5 (by decide) ?_
    refine lv_iconst (v := (-1)) hx hb dX2_write_8 (by decide) ?_
    exact hret _ _ _ _ _ _ (⟨(if_pos hg).symm, (if_pos hg).symm, rfl⟩) I (rfl) dX2_write_9
  · by_cases ha : bz_bw a
    · refine lv_aload_n hx hb dX2_write_0 rfl (lv_at hl 0 rfl) ?_
      refine lv_iload_n hx hb dX2_write_1 rfl (lv_at hl 1 rfl) ?_
      refine bx_ci (wd := MW h dI dZ) (rest := []) F I (metX2_badGuest gu) (cwX2_badGuest F.1.2.2.2.2 ⟨by decide, by decide⟩) (q0 := 0) rfl rfl rfl hl.1 rfl (Nat.le_of_ble_eq_true rfl) dX2_write_2 (fun rg ug H locs hq I => ?_)
      obtain ⟨hq, eg⟩ := hq
      rw [eg] at I
      rw [if_neg hg] at hq
      subst hq
      refine bn_if0_eq (tgt := 10) hx hb dX2_write_5 (by decide) ?_
      refine lv_iload_n hx hb dX2_write_10 rfl (lv_at hl 2 rfl) ?_
      refine lv_if_lt (tgt := 20) hx hb dX2_write_11 (by decide) (fun c1 => ?_) (fun c1 => ?_)
      · refine lv_bipush (v := (-3)) hx hb dX2_write_20 (by decide) ?_
        exact hret _ _ _ _ _ _ (⟨by rw [sr_write, if_neg hg, if_pos ha], by rw [sp_write, if_neg hg, if_pos ha], rfl⟩) I (rfl) dX2_write_22
      · refine lv_iload_n hx hb dX2_write_14 rfl (lv_at hl 2 rfl) ?_
        refine lv_bipush (v := nI 31) hx hb dX2_write_15 (by decide) ?_
        refine lv_icmp_le (tgt := 23) hx hb dX2_write_17 (by decide) (fun c2 => ?_) (fun c2 => ?_)
        · exact absurd ha (fun q => q.elim c1 (fun z => Int32.not_le.mpr z c2))
        · refine lv_bipush (v := (-3)) hx hb dX2_write_20 (by decide) ?_
          exact hret _ _ _ _ _ _ (⟨by rw [sr_write, if_neg hg, if_pos ha], by rw [sp_write, if_neg hg, if_pos ha], rfl⟩) I (rfl) dX2_write_22
    · obtain ⟨gn, hgn, rfl⟩ := bz_bg_no hg
      obtain ⟨an, han, rfl⟩ := bz_bw_no ha
      refine lv_aload_n hx hb dX2_write_0 rfl (lv_at hl 0 rfl) ?_
      refine lv_iload_n hx hb dX2_write_1 rfl (lv_at hl 1 rfl) ?_
      refine bx_ci (wd := MW h dI dZ) (rest := []) F I (metX2_badGuest (nI gn)) (cwX2_badGuest F.1.2.2.2.2 ⟨by decide, by decide⟩) (q0 := 0) rfl rfl rfl hl.1 rfl (Nat.le_of_ble_eq_true rfl) dX2_write_2 (fun rg ug H locs hq I => ?_)
      obtain ⟨hq, eg⟩ := hq
      rw [eg] at I
      rw [if_neg hg] at hq
      subst hq
      refine bn_if0_eq (tgt := 10) hx hb dX2_write_5 (by decide) ?_
      refine lv_iload_n hx hb dX2_write_10 rfl (lv_at hl 2 rfl) ?_
      refine bn_iflt (tgt := 20) hx hb dX2_write_11 (by decide) (by omega) ?_
      refine lv_iload_n hx hb dX2_write_14 rfl (lv_at hl 2 rfl) ?_
      refine lv_bipush (v := nI 31) hx hb dX2_write_15 (by decide) ?_
      refine bn_le (tgt := 23) hx hb dX2_write_17 (by decide) (by omega) (by omega) (fun c1 => ?_) (fun c1 => ?_)
      · refine lv_aload_n hx hb dX2_write_23 rfl (lv_at hl 0 rfl) ?_
        refine bm_words F I dX2_write_24 ?_
        refine lv_iload_n hx hb dX2_write_27 rfl (lv_at hl 1 rfl) ?_
        refine lv_bipush (v := nI 32) hx hb dX2_write_28 (by decide) ?_
        refine bn_mul hx hb dX2_write_30 ?_
        refine lv_iload_n hx hb dX2_write_31 rfl (lv_at hl 2 rfl) ?_
        refine bn_add hx hb dX2_write_32 ?_
        refine lv_iload_n hx hb dX2_write_33 rfl (lv_at hl 3 rfl) ?_
        refine bm_st0 F I (by omega) dX2_write_34 (fun H locs u1 eu1 I => ?_)
        refine lv_iconst (v := nI 0) hx hb dX2_write_35 (by decide) ?_
        exact hret _ _ _ _ _ _ (⟨by rw [sr_write, if_neg hg, if_neg ha], by rw [sp_write, if_neg hg, if_neg ha, nI_clamp (by omega), nI_clamp (by omega), eu1]; rfl, by rw [eu1]; rfl⟩) I (rfl) dX2_write_36
      · exact absurd c1 (by omega)
set_option maxHeartbeats 4000000 in
theorem metX2_fill {l : Launch} {D : va_G} {h : Nat → Nat} {dI dZ : ClassId} {g : bz_S} (gu q v st : Int32) : bc_i l D (bz_T dI dZ) (MW h dI dZ) yX2_fill cX2_fill 6 .int rmX2_fill [.ref (h 0), .int gu, .int q, .int v, .int st] g (fun r u => r = sr_fill gu q ∧ u 0 = sp_fill (g 0) gu q v st ∧ u 1 = g 1) := by
  refine bc_i_of RX2 (by decide) rfl (Nat.le_of_ble_eq_true rfl) ?_
  intro p e s m args below meth c A Q ls F hl I hret
  have hx := F.1.1
  have hb := F.1.2.1
  have hl : lv_has ls 6 [(0, .ref (h 0)), (1, .int gu), (2, .int q), (3, .int v), (4, .int st)] := hl
  by_cases hg : bz_bg gu
  · refine lv_aload_n hx hb dX2_fill_0 rfl (lv_at hl 0 rfl) ?_
    refine lv_iload_n hx hb dX2_fill_1 rfl (lv_at hl 1 rfl) ?_
    refine bx_ci (wd := MW h dI dZ) (rest := []) F I (metX2_badGuest gu) (cwX2_badGuest F.1.2.2.2.2 ⟨by decide, by decide⟩) (q0 := 0) rfl rfl rfl hl.1 rfl (Nat.le_of_ble_eq_true rfl) dX2_fill_2 (fun rg ug H locs hq I => ?_)
    obtain ⟨hq, eg⟩ := hq
    rw [eg] at I
    rw [if_pos hg] at hq
    subst hq
    refine bn_if1_eq (tgt := 10) hx hb dX2_fill_5 (by decide) ?_
    refine lv_iconst (v := (-1)) hx hb dX2_fill_8 (by decide) ?_
    exact hret _ _ _ _ _ _ (⟨(if_pos hg).symm, (if_pos hg).symm, rfl⟩) I (rfl) dX2_fill_9
  · by_cases ha : bz_bp q
    · refine lv_aload_n hx hb dX2_fill_0 rfl (lv_at hl 0 rfl) ?_
      refine lv_iload_n hx hb dX2_fill_1 rfl (lv_at hl 1 rfl) ?_
      refine bx_ci (wd := MW h dI dZ) (rest := []) F I (metX2_badGuest gu) (cwX2_badGuest F.1.2.2.2.2 ⟨by decide, by decide⟩) (q0 := 0) rfl rfl rfl hl.1 rfl (Nat.le_of_ble_eq_true rfl) dX2_fill_2 (fun rg ug H locs hq I => ?_)
      obtain ⟨hq, eg⟩ := hq
      rw [eg] at I
      rw [if_neg hg] at hq
      subst hq
      refine bn_if0_eq (tgt := 10) hx hb dX2_fill_5 (by decide) ?_
      refine lv_aload_n hx hb dX2_fill_10 rfl (lv_at hl 0 rfl) ?_
      refine lv_iload_n hx hb dX2_fill_11 rfl (lv_at hl 2 rfl) ?_
      refine bx_ci (wd := MW h dI dZ) (rest := []) F I (metX2_badPage q) (cwX2_badPage F.1.2.2.2.2 ⟨by decide, by decide⟩) (q0 := 0) rfl rfl rfl hl.1 rfl (Nat.le_of_ble_eq_true rfl) dX2_fill_12 (fun rg ug H locs hq I => ?_)
      obtain ⟨hq, eg⟩ := hq
      rw [eg] at I
      rw [if_pos ha] at hq
      subst hq
      refine bn_if1_eq (tgt := 21) hx hb dX2_fill_15 (by decide) ?_
      refine lv_bipush (v := (-2)) hx hb dX2_fill_18 (by decide) ?_
      exact hret _ _ _ _ _ _ (⟨by rw [sr_fill, if_neg hg, if_pos ha], by rw [sp_fill, if_neg hg, if_pos ha], rfl⟩) I (rfl) dX2_fill_20
    · obtain ⟨gn, hgn, rfl⟩ := bz_bg_no hg
      obtain ⟨qn, hqn, rfl⟩ := bz_bp_no ha
      have loop : ∀ (n w : Nat) (g' : bz_S) (H : Heap) (locs : List Loc) (ls : Array Slot), w ≤ 4 → 4 < w + n → g' 0 = sp_put (g 0) (gn * 32 + qn * 4) w (fun k => v + nI k * st) → g' 1 = g 1 → bx_I D A (MW h dI dZ g') s H locs → lv_has ls 6 [(5, .int (nI w)), (0, .ref (h 0)), (1, .int (nI gn)), (2, .int (nI qn)), (3, .int v), (4, .int st)] → W p l e rmX2_fill s m args below meth c H locs 0 0 Q (F0 m 24 ls []) := by
        intro n
        induction n with
        | zero => intro w g' H locs ls h1 h2; exact absurd h2 (by omega)
        | succ n ih =>
          intro w g' H locs ls h1 h2 e0 e1 I hl
          refine lv_iload hx hb dX2_fill_24 (lv_at hl 0 rfl) ?_
          refine lv_iconst (v := nI 4) hx hb dX2_fill_26 (by decide) ?_
          refine bn_ge (tgt := 59) hx hb dX2_fill_27 (by decide) (by omega) (by omega) (fun c1 => ?_) (fun c1 => ?_)
          · have e4 : w = 4 := by omega
            subst e4
            refine lv_iconst (v := nI 0) hx hb dX2_fill_59 (by decide) ?_
            exact hret _ _ _ _ _ _ (⟨by rw [sr_fill, if_neg hg, if_neg ha], by rw [sp_fill, if_neg hg, if_neg ha, nI_clamp (by omega), nI_clamp (by omega)]; exact e0, e1⟩) I (rfl) dX2_fill_60
          · refine lv_aload_n hx hb dX2_fill_30 rfl (lv_at hl 1 rfl) ?_
            refine bm_words F I dX2_fill_31 ?_
            refine lv_iload_n hx hb dX2_fill_34 rfl (lv_at hl 2 rfl) ?_
            refine lv_bipush (v := nI 32) hx hb dX2_fill_35 (by decide) ?_
            refine bn_mul hx hb dX2_fill_37 ?_
            refine lv_iload_n hx hb dX2_fill_38 rfl (lv_at hl 3 rfl) ?_
            refine lv_iconst (v := nI 4) hx hb dX2_fill_39 (by decide) ?_
            refine bn_mul hx hb dX2_fill_40 ?_
            refine bn_add hx hb dX2_fill_41 ?_
            refine lv_iload hx hb dX2_fill_42 (lv_at hl 0 rfl) ?_
            refine bn_add hx hb dX2_fill_44 ?_
            refine lv_iload_n hx hb dX2_fill_45 rfl (lv_at hl 4 rfl) ?_
            refine lv_iload hx hb dX2_fill_46 (lv_at hl 0 rfl) ?_
            refine lv_iload hx hb dX2_fill_48 (lv_at hl 5 rfl) ?_
            refine lv_imul hx hb dX2_fill_50 ?_
            refine lv_iadd hx hb dX2_fill_51 ?_
            refine bm_st0 F I (by omega) dX2_fill_52 (fun H locs u1 eu1 I => ?_)
            refine lv_iinc (v := nI (w + 1)) (lv' := [(5, .int (nI (w + 1))), (0, .ref (h 0)), (1, .int (nI gn)), (2, .int (nI qn)), (3, .int v), (4, .int st)]) hx hb dX2_fill_53 hl (k := 0) rfl (bn_inc _) (by decide) rfl (fun ls hl => ?_)
            refine lv_goto (tgt := 24) hx hb dX2_fill_56 (by decide) ?_
            exact ih (w + 1) u1 H locs ls (by omega) (by omega) (by rw [eu1, bz_st_s, e0]; exact sp_put_s rfl rfl) (by rw [eu1]; exact e1) I hl
      refine lv_aload_n hx hb dX2_fill_0 rfl (lv_at hl 0 rfl) ?_
      refine lv_iload_n hx hb dX2_fill_1 rfl (lv_at hl 1 rfl) ?_
      refine bx_ci (wd := MW h dI dZ) (rest := []) F I (metX2_badGuest (nI gn)) (cwX2_badGuest F.1.2.2.2.2 ⟨by decide, by decide⟩) (q0 := 0) rfl rfl rfl hl.1 rfl (Nat.le_of_ble_eq_true rfl) dX2_fill_2 (fun rg ug H locs hq I => ?_)
      obtain ⟨hq, eg⟩ := hq
      rw [eg] at I
      rw [if_neg hg] at hq
      subst hq
      refine bn_if0_eq (tgt := 10) hx hb dX2_fill_5 (by decide) ?_
      refine lv_aload_n hx hb dX2_fill_10 rfl (lv_at hl 0 rfl) ?_
      refine lv_iload_n hx hb dX2_fill_11 rfl (lv_at hl 2 rfl) ?_
      refine bx_ci (wd := MW h dI dZ) (rest := []) F I (metX2_badPage (nI qn)) (cwX2_badPage F.1.2.2.2.2 ⟨by decide, by decide⟩) (q0 := 0) rfl rfl rfl hl.1 rfl (Nat.le_of_ble_eq_true rfl) dX2_fill_12 (fun rg ug H locs hq I => ?_)
      obtain ⟨hq, eg⟩ := hq
      rw [eg] at I
      rw [if_neg ha] at hq
      subst hq
      refine bn_if0_eq (tgt := 21) hx hb dX2_fill_15 (by decide) ?_
      refine lv_iconst (v := nI 0) hx hb dX2_fill_21 (by decide) ?_
      refine lv_istore (lv' := [(5, .int (nI 0)), (0, .ref (h 0)), (1, .int (nI gn)), (2, .int (nI qn)), (3, .int v), (4, .int st)]) hx hb dX2_fill_22 hl (by decide) rfl (fun ls hl => ?_)
      exact loop 5 0 g _ _ _ (by omega) (by omega) sp_put_0.symm rfl I hl
set_option maxHeartbeats 4000000 in
theorem metX2_copy {l : Launch} {D : va_G} {h : Nat → Nat} {dI dZ : ClassId} {g : bz_S} (a q b t : Int32) : bc_i l D (bz_T dI dZ) (MW h dI dZ) yX2_copy cX2_copy 6 .int rmX2_copy [.ref (h 0), .int a, .int q, .int b, .int t] g (fun r u => r = sr_copy a q b t ∧ u 0 = sp_copy (g 0) a q b t ∧ u 1 = g 1) := by
  refine bc_i_of RX2 (by decide) rfl (Nat.le_of_ble_eq_true rfl) ?_
  intro p e s m args below meth c A Q ls F hl I hret
  have hx := F.1.1
  have hb := F.1.2.1
  have hl : lv_has ls 6 [(0, .ref (h 0)), (1, .int a), (2, .int q), (3, .int b), (4, .int t)] := hl
  by_cases ha : bz_bg a
  · refine lv_aload_n hx hb dX2_copy_0 rfl (lv_at hl 0 rfl) ?_
    refine lv_iload_n hx hb dX2_copy_1 rfl (lv_at hl 1 rfl) ?_
    refine bx_ci (wd := MW h dI dZ) (rest := []) F I (metX2_badGuest a) (cwX2_badGuest F.1.2.2.2.2 ⟨by decide, by decide⟩) (q0 := 0) rfl rfl rfl hl.1 rfl (Nat.le_of_ble_eq_true rfl) dX2_copy_2 (fun rg ug H locs hq I => ?_)
    obtain ⟨hq, eg⟩ := hq
    rw [eg] at I
    rw [if_pos ha] at hq
    subst hq
    refine bn_if1_ne (tgt := 16) hx hb dX2_copy_5 (by decide) ?_
    refine lv_iconst (v := (-1)) hx hb dX2_copy_16 (by decide) ?_
    exact hret _ _ _ _ _ _ (⟨(if_pos (Or.inl ha)).symm, (if_pos (Or.inl ha)).symm, rfl⟩) I (rfl) dX2_copy_17
  · by_cases hb2 : bz_bg b
    · refine lv_aload_n hx hb dX2_copy_0 rfl (lv_at hl 0 rfl) ?_
      refine lv_iload_n hx hb dX2_copy_1 rfl (lv_at hl 1 rfl) ?_
      refine bx_ci (wd := MW h dI dZ) (rest := []) F I (metX2_badGuest a) (cwX2_badGuest F.1.2.2.2.2 ⟨by decide, by decide⟩) (q0 := 0) rfl rfl rfl hl.1 rfl (Nat.le_of_ble_eq_true rfl) dX2_copy_2 (fun rg ug H locs hq I => ?_)
      obtain ⟨hq, eg⟩ := hq
      rw [eg] at I
      rw [if_neg ha] at hq
      subst hq
      refine bn_if0_ne (tgt := 16) hx hb dX2_copy_5 (by decide) ?_
      refine lv_aload_n hx hb dX2_copy_8 rfl (lv_at hl 0 rfl) ?_
      refine lv_iload_n hx hb dX2_copy_9 rfl (lv_at hl 3 rfl) ?_
      refine bx_ci (wd := MW h dI dZ) (rest := []) F I (metX2_badGuest b) (cwX2_badGuest F.1.2.2.2.2 ⟨by decide, by decide⟩) (q0 := 0) rfl rfl rfl hl.1 rfl (Nat.le_of_ble_eq_true rfl) dX2_copy_10 (fun rg ug H locs hq I => ?_)
      obtain ⟨hq, eg⟩ := hq
      rw [eg] at I
      rw [if_pos hb2] at hq
      subst hq
      refine bn_if1_eq (tgt := 18) hx hb dX2_copy_13 (by decide) ?_
      refine lv_iconst (v := (-1)) hx hb dX2_copy_16 (by decide) ?_
      exact hret _ _ _ _ _ _ (⟨(if_pos (Or.inr hb2)).symm, (if_pos (Or.inr hb2)).symm, rfl⟩) I (rfl) dX2_copy_17
    · have hab : ¬ (bz_bg a ∨ bz_bg b) := fun z => z.elim ha hb2
      by_cases hq2 : bz_bp q
      · refine lv_aload_n hx hb dX2_copy_0 rfl (lv_at hl 0 rfl) ?_
        refine lv_iload_n hx hb dX2_copy_1 rfl (lv_at hl 1 rfl) ?_
        refine bx_ci (wd := MW h dI dZ) (rest := []) F I (metX2_badGuest a) (cwX2_badGuest F.1.2.2.2.2 ⟨by decide, by decide⟩) (q0 := 0) rfl rfl rfl hl.1 rfl (Nat.le_of_ble_eq_true rfl) dX2_copy_2 (fun rg ug H locs hq I => ?_)
        obtain ⟨hq, eg⟩ := hq
        rw [eg] at I
        rw [if_neg ha] at hq
        subst hq
        refine bn_if0_ne (tgt := 16) hx hb dX2_copy_5 (by decide) ?_
        refine lv_aload_n hx hb dX2_copy_8 rfl (lv_at hl 0 rfl) ?_
        refine lv_iload_n hx hb dX2_copy_9 rfl (lv_at hl 3 rfl) ?_
        refine bx_ci (wd := MW h dI dZ) (rest := []) F I (metX2_badGuest b) (cwX2_badGuest F.1.2.2.2.2 ⟨by decide, by decide⟩) (q0 := 0) rfl rfl rfl hl.1 rfl (Nat.le_of_ble_eq_true rfl) dX2_copy_10 (fun rg ug H locs hq I => ?_)
        obtain ⟨hq, eg⟩ := hq
        rw [eg] at I
        rw [if_neg hb2] at hq
        subst hq
        refine bn_if0_eq (tgt := 18) hx hb dX2_copy_13 (by decide) ?_
        refine lv_aload_n hx hb dX2_copy_18 rfl (lv_at hl 0 rfl) ?_
        refine lv_iload_n hx hb dX2_copy_19 rfl (lv_at hl 2 rfl) ?_
        refine bx_ci (wd := MW h dI dZ) (rest := []) F I (metX2_badPage q) (cwX2_badPage F.1.2.2.2.2 ⟨by decide, by decide⟩) (q0 := 0) rfl rfl rfl hl.1 rfl (Nat.le_of_ble_eq_true rfl) dX2_copy_20 (fun rg ug H locs hq I => ?_)
        obtain ⟨hq, eg⟩ := hq
        rw [eg] at I
        rw [if_pos hq2] at hq
        subst hq
        refine bn_if1_ne (tgt := 35) hx hb dX2_copy_23 (by decide) ?_
        refine lv_bipush (v := (-2)) hx hb dX2_copy_35 (by decide) ?_
        exact hret _ _ _ _ _ _ (⟨by rw [sr_copy, if_neg hab, if_pos (Or.inl hq2)], by rw [sp_copy, if_neg hab, if_pos (Or.inl hq2)], rfl⟩) I (rfl) dX2_copy_37
      · by_cases ht2 : bz_bp t
        · refine lv_aload_n hx hb dX2_copy_0 rfl (lv_at hl 0 rfl) ?_
          refine lv_iload_n hx hb dX2_copy_1 rfl (lv_at hl 1 rfl) ?_
          refine bx_ci (wd := MW h dI dZ) (rest := []) F I (metX2_badGuest a) (cwX2_badGuest F.1.2.2.2.2 ⟨by decide, by decide⟩) (q0 := 0) rfl rfl rfl hl.1 rfl (Nat.le_of_ble_eq_true rfl) dX2_copy_2 (fun rg ug H locs hq I => ?_)
          obtain ⟨hq, eg⟩ := hq
          rw [eg] at I
          rw [if_neg ha] at hq
          subst hq
          refine bn_if0_ne (tgt := 16) hx hb dX2_copy_5 (by decide) ?_
          refine lv_aload_n hx hb dX2_copy_8 rfl (lv_at hl 0 rfl) ?_
          refine lv_iload_n hx hb dX2_copy_9 rfl (lv_at hl 3 rfl) ?_
          refine bx_ci (wd := MW h dI dZ) (rest := []) F I (metX2_badGuest b) (cwX2_badGuest F.1.2.2.2.2 ⟨by decide, by decide⟩) (q0 := 0) rfl rfl rfl hl.1 rfl (Nat.le_of_ble_eq_true rfl) dX2_copy_10 (fun rg ug H locs hq I => ?_)
          obtain ⟨hq, eg⟩ := hq
          rw [eg] at I
          rw [if_neg hb2] at hq
          subst hq
          refine bn_if0_eq (tgt := 18) hx hb dX2_copy_13 (by decide) ?_
          refine lv_aload_n hx hb dX2_copy_18 rfl (lv_at hl 0 rfl) ?_
          refine lv_iload_n hx hb dX2_copy_19 rfl (lv_at hl 2 rfl) ?_
          refine bx_ci (wd := MW h dI dZ) (rest := []) F I (metX2_badPage q) (cwX2_badPage F.1.2.2.2.2 ⟨by decide, by decide⟩) (q0 := 0) rfl rfl rfl hl.1 rfl (Nat.le_of_ble_eq_true rfl) dX2_copy_20 (fun rg ug H locs hq I => ?_)
          obtain ⟨hq, eg⟩ := hq
          rw [eg] at I
          rw [if_neg hq2] at hq
          subst hq
          refine bn_if0_ne (tgt := 35) hx hb dX2_copy_23 (by decide) ?_
          refine lv_aload_n hx hb dX2_copy_26 rfl (lv_at hl 0 rfl) ?_
          refine lv_iload hx hb dX2_copy_27 (lv_at hl 4 rfl) ?_
          refine bx_ci (wd := MW h dI dZ) (rest := []) F I (metX2_badPage t) (cwX2_badPage F.1.2.2.2.2 ⟨by decide, by decide⟩) (q0 := 0) rfl rfl rfl hl.1 rfl (Nat.le_of_ble_eq_true rfl) dX2_copy_29 (fun rg ug H locs hq I => ?_)
          obtain ⟨hq, eg⟩ := hq
          rw [eg] at I
          rw [if_pos ht2] at hq
          subst hq
          refine bn_if1_eq (tgt := 38) hx hb dX2_copy_32 (by decide) ?_
          refine lv_bipush (v := (-2)) hx hb dX2_copy_35 (by decide) ?_
          exact hret _ _ _ _ _ _ (⟨by rw [sr_copy, if_neg hab, if_pos (Or.inr ht2)], by rw [sp_copy, if_neg hab, if_pos (Or.inr ht2)], rfl⟩) I (rfl) dX2_copy_37
        · have hqt : ¬ (bz_bp q ∨ bz_bp t) := fun z => z.elim hq2 ht2
          obtain ⟨an, han, rfl⟩ := bz_bg_no ha
          obtain ⟨bn, hbn, rfl⟩ := bz_bg_no hb2
          obtain ⟨qn, hqn, rfl⟩ := bz_bp_no hq2
          obtain ⟨tn, htn, rfl⟩ := bz_bp_no ht2
          have loop : ∀ (n w : Nat) (g' : bz_S) (H : Heap) (locs : List Loc) (ls : Array Slot), w ≤ 4 → 4 < w + n → g' 0 = sp_put (g 0) (bn * 32 + tn * 4) w (fun k => g 0 (an * 32 + qn * 4 + k)) → g' 1 = g 1 → bx_I D A (MW h dI dZ g') s H locs → lv_has ls 6 [(5, .int (nI w)), (0, .ref (h 0)), (1, .int (nI an)), (2, .int (nI qn)), (3, .int (nI bn)), (4, .int (nI tn))] → W p l e rmX2_copy s m args below meth c H locs 0 0 Q (F0 m 41 ls []) := by
            intro n
            induction n with
            | zero => intro w g' H locs ls h1 h2; exact absurd h2 (by omega)
            | succ n ih =>
              intro w g' H locs ls h1 h2 e0 e1 I hl
              refine lv_iload hx hb dX2_copy_41 (lv_at hl 0 rfl) ?_
              refine lv_iconst (v := nI 4) hx hb dX2_copy_43 (by decide) ?_
              refine bn_ge (tgt := 86) hx hb dX2_copy_44 (by decide) (by omega) (by omega) (fun c1 => ?_) (fun c1 => ?_)
              · have e4 : w = 4 := by omega
                subst e4
                refine lv_iconst (v := nI 0) hx hb dX2_copy_86 (by decide) ?_
                exact hret _ _ _ _ _ _ (⟨by rw [sr_copy, if_neg hab, if_neg hqt], by rw [sp_copy, if_neg hab, if_neg hqt, nI_clamp (by omega), nI_clamp (by omega), nI_clamp (by omega), nI_clamp (by omega)]; exact e0, e1⟩) I (rfl) dX2_copy_87
              · refine lv_aload_n hx hb dX2_copy_47 rfl (lv_at hl 1 rfl) ?_
                refine bm_words F I dX2_copy_48 ?_
                refine lv_iload_n hx hb dX2_copy_51 rfl (lv_at hl 4 rfl) ?_
                refine lv_bipush (v := nI 32) hx hb dX2_copy_52 (by decide) ?_
                refine bn_mul hx hb dX2_copy_54 ?_
                refine lv_iload hx hb dX2_copy_55 (lv_at hl 5 rfl) ?_
                refine lv_iconst (v := nI 4) hx hb dX2_copy_57 (by decide) ?_
                refine bn_mul hx hb dX2_copy_58 ?_
                refine bn_add hx hb dX2_copy_59 ?_
                refine lv_iload hx hb dX2_copy_60 (lv_at hl 0 rfl) ?_
                refine bn_add hx hb dX2_copy_62 ?_
                refine lv_aload_n hx hb dX2_copy_63 rfl (lv_at hl 1 rfl) ?_
                refine bm_words F I dX2_copy_64 ?_
                refine lv_iload_n hx hb dX2_copy_67 rfl (lv_at hl 2 rfl) ?_
                refine lv_bipush (v := nI 32) hx hb dX2_copy_68 (by decide) ?_
                refine bn_mul hx hb dX2_copy_70 ?_
                refine lv_iload_n hx hb dX2_copy_71 rfl (lv_at hl 3 rfl) ?_
                refine lv_iconst (v := nI 4) hx hb dX2_copy_72 (by decide) ?_
                refine bn_mul hx hb dX2_copy_73 ?_
                refine bn_add hx hb dX2_copy_74 ?_
                refine lv_iload hx hb dX2_copy_75 (lv_at hl 0 rfl) ?_
                refine bn_add hx hb dX2_copy_77 ?_
                refine bm_ld0 (v := g 0 (an * 32 + qn * 4 + w)) F I (by omega) (by rw [e0]; exact if_neg (by omega)) dX2_copy_78 ?_
                refine bm_st0 F I (by omega) dX2_copy_79 (fun H locs u1 eu1 I => ?_)
                refine lv_iinc (v := nI (w + 1)) (lv' := [(5, .int (nI (w + 1))), (0, .ref (h 0)), (1, .int (nI an)), (2, .int (nI qn)), (3, .int (nI bn)), (4, .int (nI tn))]) hx hb dX2_copy_80 hl (k := 0) rfl (bn_inc _) (by decide) rfl (fun ls hl => ?_)
                refine lv_goto (tgt := 41) hx hb dX2_copy_83 (by decide) ?_
                exact ih (w + 1) u1 H locs ls (by omega) (by omega) (by rw [eu1, bz_st_s, e0]; exact sp_put_s rfl rfl) (by rw [eu1]; exact e1) I hl
          refine lv_aload_n hx hb dX2_copy_0 rfl (lv_at hl 0 rfl) ?_
          refine lv_iload_n hx hb dX2_copy_1 rfl (lv_at hl 1 rfl) ?_
          refine bx_ci (wd := MW h dI dZ) (rest := []) F I (metX2_badGuest (nI an)) (cwX2_badGuest F.1.2.2.2.2 ⟨by decide, by decide⟩) (q0 := 0) rfl rfl rfl hl.1 rfl (Nat.le_of_ble_eq_true rfl) dX2_copy_2 (fun rg ug H locs hq I => ?_)
          obtain ⟨hq, eg⟩ := hq
          rw [eg] at I
          rw [if_neg ha] at hq
          subst hq
          refine bn_if0_ne (tgt := 16) hx hb dX2_copy_5 (by decide) ?_
          refine lv_aload_n hx hb dX2_copy_8 rfl (lv_at hl 0 rfl) ?_
          refine lv_iload_n hx hb dX2_copy_9 rfl (lv_at hl 3 rfl) ?_
          refine bx_ci (wd := MW h dI dZ) (rest := []) F I (metX2_badGuest (nI bn)) (cwX2_badGuest F.1.2.2.2.2 ⟨by decide, by decide⟩) (q0 := 0) rfl rfl rfl hl.1 rfl (Nat.le_of_ble_eq_true rfl) dX2_copy_10 (fun rg ug H locs hq I => ?_)
          obtain ⟨hq, eg⟩ := hq
          rw [eg] at I
          rw [if_neg hb2] at hq
          subst hq
          refine bn_if0_eq (tgt := 18) hx hb dX2_copy_13 (by decide) ?_
          refine lv_aload_n hx hb dX2_copy_18 rfl (lv_at hl 0 rfl) ?_
          refine lv_iload_n hx hb dX2_copy_19 rfl (lv_at hl 2 rfl) ?_
          refine bx_ci (wd := MW h dI dZ) (rest := []) F I (metX2_badPage (nI qn)) (cwX2_badPage F.1.2.2.2.2 ⟨by decide, by decide⟩) (q0 := 0) rfl rfl rfl hl.1 rfl (Nat.le_of_ble_eq_true rfl) dX2_copy_20 (fun rg ug H locs hq I => ?_)
          obtain ⟨hq, eg⟩ := hq
          rw [eg] at I
          rw [if_neg hq2] at hq
          subst hq
          refine bn_if0_ne (tgt := 35) hx hb dX2_copy_23 (by decide) ?_
          refine lv_aload_n hx hb dX2_copy_26 rfl (lv_at hl 0 rfl) ?_
          refine lv_iload hx hb dX2_copy_27 (lv_at hl 4 rfl) ?_
          refine bx_ci (wd := MW h dI dZ) (rest := []) F I (metX2_badPage (nI tn)) (cwX2_badPage F.1.2.2.2.2 ⟨by decide, by decide⟩) (q0 := 0) rfl rfl rfl hl.1 rfl (Nat.le_of_ble_eq_true rfl) dX2_copy_29 (fun rg ug H locs hq I => ?_)
          obtain ⟨hq, eg⟩ := hq
          rw [eg] at I
          rw [if_neg ht2] at hq
          subst hq
          refine bn_if0_eq (tgt := 38) hx hb dX2_copy_32 (by decide) ?_
          refine lv_iconst (v := nI 0) hx hb dX2_copy_38 (by decide) ?_
          refine lv_istore (lv' := [(5, .int (nI 0)), (0, .ref (h 0)), (1, .int (nI an)), (2, .int (nI qn)), (3, .int (nI bn)), (4, .int (nI tn))]) hx hb dX2_copy_39 hl (by decide) rfl (fun ls hl => ?_)
          exact loop 5 0 g _ _ _ (by omega) (by omega) sp_put_0.symm rfl I hl
set_option maxHeartbeats 4000000 in
theorem metX2_release {l : Launch} {D : va_G} {h : Nat → Nat} {dI dZ : ClassId} {g : bz_S} (gu q : Int32) : bc_i l D (bz_T dI dZ) (MW h dI dZ) yX2_release cX2_release 3 .int rmX2_release [.ref (h 0), .int gu, .int q] g (fun r u => r = sr_fill gu q ∧ u 0 = sp_fill (g 0) gu q (nI 0) (nI 0) ∧ u 1 = g 1) := by
  refine bc_i_of RX2 (by decide) rfl (Nat.le_of_ble_eq_true rfl) ?_
  intro p e s m args below meth c A Q ls F hl I hret
  have hx := F.1.1
  have hb := F.1.2.1
  have hl : lv_has ls 3 [(0, .ref (h 0)), (1, .int gu), (2, .int q)] := hl
  refine lv_aload_n hx hb dX2_release_0 rfl (lv_at hl 0 rfl) ?_
  refine lv_iload_n hx hb dX2_release_1 rfl (lv_at hl 1 rfl) ?_
  refine lv_iload_n hx hb dX2_release_2 rfl (lv_at hl 2 rfl) ?_
  refine lv_iconst (v := nI 0) hx hb dX2_release_3 (by decide) ?_
  refine lv_iconst (v := nI 0) hx hb dX2_release_4 (by decide) ?_
  refine bx_ci (wd := MW h dI dZ) (rest := []) F I (metX2_fill gu q (nI 0) (nI 0)) (cwX2_fill F.1.2.2.2.2 ⟨by decide, by decide⟩) (q0 := 0) rfl rfl rfl hl.1 rfl (Nat.le_of_ble_eq_true rfl) dX2_release_5 (fun r1 v1 H locs hq I => ?_)
  exact hret _ _ _ _ _ _ (hq) I (rfl) dX2_release_8
set_option maxHeartbeats 4000000 in
theorem metX2_cloneGuest {l : Launch} {D : va_G} {h : Nat → Nat} {dI dZ : ClassId} {g : bz_S} (a b : Int32) : bc_i l D (bz_T dI dZ) (MW h dI dZ) yX2_cloneGuest cX2_cloneGuest 4 .int rmX2_cloneGuest [.ref (h 0), .int a, .int b] g (fun r u => r = sr_clone a b ∧ u 0 = sp_clone (g 0) a b ∧ u 1 = g 1) := by
  refine bc_i_of RX2 (by decide) rfl (Nat.le_of_ble_eq_true rfl) ?_
  intro p e s m args below meth c A Q ls F hl I hret
  have hx := F.1.1
  have hb := F.1.2.1
  have hl : lv_has ls 4 [(0, .ref (h 0)), (1, .int a), (2, .int b)] := hl
  by_cases ha : bz_bg a
  · refine lv_aload_n hx hb dX2_cloneGuest_0 rfl (lv_at hl 0 rfl) ?_
    refine lv_iload_n hx hb dX2_cloneGuest_1 rfl (lv_at hl 1 rfl) ?_
    refine bx_ci (wd := MW h dI dZ) (rest := []) F I (metX2_badGuest a) (cwX2_badGuest F.1.2.2.2.2 ⟨by decide, by decide⟩) (q0 := 0) rfl rfl rfl hl.1 rfl (Nat.le_of_ble_eq_true rfl) dX2_cloneGuest_2 (fun rg ug H locs hq I => ?_)
    obtain ⟨hq, eg⟩ := hq
    rw [eg] at I
    rw [if_pos ha] at hq
    subst hq
    refine bn_if1_ne (tgt := 16) hx hb dX2_cloneGuest_5 (by decide) ?_
    refine lv_iconst (v := (-1)) hx hb dX2_cloneGuest_16 (by decide) ?_
    exact hret _ _ _ _ _ _ (⟨(if_pos (Or.inl ha)).symm, (if_pos (Or.inl ha)).symm, rfl⟩) I (rfl) dX2_cloneGuest_17
  · by_cases hb2 : bz_bg b
    · refine lv_aload_n hx hb dX2_cloneGuest_0 rfl (lv_at hl 0 rfl) ?_
      refine lv_iload_n hx hb dX2_cloneGuest_1 rfl (lv_at hl 1 rfl) ?_
      refine bx_ci (wd := MW h dI dZ) (rest := []) F I (metX2_badGuest a) (cwX2_badGuest F.1.2.2.2.2 ⟨by decide, by decide⟩) (q0 := 0) rfl rfl rfl hl.1 rfl (Nat.le_of_ble_eq_true rfl) dX2_cloneGuest_2 (fun rg ug H locs hq I => ?_)
      obtain ⟨hq, eg⟩ := hq
      rw [eg] at I
      rw [if_neg ha] at hq
      subst hq
      refine bn_if0_ne (tgt := 16) hx hb dX2_cloneGuest_5 (by decide) ?_
      refine lv_aload_n hx hb dX2_cloneGuest_8 rfl (lv_at hl 0 rfl) ?_
      refine lv_iload_n hx hb dX2_cloneGuest_9 rfl (lv_at hl 2 rfl) ?_
      refine bx_ci (wd := MW h dI dZ) (rest := []) F I (metX2_badGuest b) (cwX2_badGuest F.1.2.2.2.2 ⟨by decide, by decide⟩) (q0 := 0) rfl rfl rfl hl.1 rfl (Nat.le_of_ble_eq_true rfl) dX2_cloneGuest_10 (fun rg ug H locs hq I => ?_)
      obtain ⟨hq, eg⟩ := hq
      rw [eg] at I
      rw [if_pos hb2] at hq
      subst hq
      refine bn_if1_eq (tgt := 18) hx hb dX2_cloneGuest_13 (by decide) ?_
      refine lv_iconst (v := (-1)) hx hb dX2_cloneGuest_16 (by decide) ?_
      exact hret _ _ _ _ _ _ (⟨(if_pos (Or.inr hb2)).symm, (if_pos (Or.inr hb2)).symm, rfl⟩) I (rfl) dX2_cloneGuest_17
    · have hab : ¬ (bz_bg a ∨ bz_bg b) := fun z => z.elim ha hb2
      obtain ⟨an, han, rfl⟩ := bz_bg_no ha
      obtain ⟨bn, hbn, rfl⟩ := bz_bg_no hb2
      have loop : ∀ (n w : Nat) (g' : bz_S) (H : Heap) (locs : List Loc) (ls : Array Slot), w ≤ 32 → 32 < w + n → g' 0 = sp_put (g 0) (bn * 32) w (fun k => g 0 (an * 32 + k)) → g' 1 = g 1 → bx_I D A (MW h dI dZ g') s H locs → lv_has ls 4 [(3, .int (nI w)), (0, .ref (h 0)), (1, .int (nI an)), (2, .int (nI bn))] → W p l e rmX2_cloneGuest s m args below meth c H locs 0 0 Q (F0 m 20 ls []) := by
        intro n
        induction n with
        | zero => intro w g' H locs ls h1 h2; exact absurd h2 (by omega)
        | succ n ih =>
          intro w g' H locs ls h1 h2 e0 e1 I hl
          refine lv_iload_n hx hb dX2_cloneGuest_20 rfl (lv_at hl 0 rfl) ?_
          refine lv_bipush (v := nI 32) hx hb dX2_cloneGuest_21 (by decide) ?_
          refine bn_ge (tgt := 54) hx hb dX2_cloneGuest_23 (by decide) (by omega) (by omega) (fun c1 => ?_) (fun c1 => ?_)
          · have e4 : w = 32 := by omega
            subst e4
            refine lv_iconst (v := nI 0) hx hb dX2_cloneGuest_54 (by decide) ?_
            exact hret _ _ _ _ _ _ (⟨by rw [sr_clone, if_neg hab], by rw [sp_clone, if_neg hab, nI_clamp (by omega), nI_clamp (by omega)]; exact e0, e1⟩) I (rfl) dX2_cloneGuest_55
          · refine lv_aload_n hx hb dX2_cloneGuest_26 rfl (lv_at hl 1 rfl) ?_
            refine bm_words F I dX2_cloneGuest_27 ?_
            refine lv_iload_n hx hb dX2_cloneGuest_30 rfl (lv_at hl 3 rfl) ?_
            refine lv_bipush (v := nI 32) hx hb dX2_cloneGuest_31 (by decide) ?_
            refine bn_mul hx hb dX2_cloneGuest_33 ?_
            refine lv_iload_n hx hb dX2_cloneGuest_34 rfl (lv_at hl 0 rfl) ?_
            refine bn_add hx hb dX2_cloneGuest_35 ?_
            refine lv_aload_n hx hb dX2_cloneGuest_36 rfl (lv_at hl 1 rfl) ?_
            refine bm_words F I dX2_cloneGuest_37 ?_
            refine lv_iload_n hx hb dX2_cloneGuest_40 rfl (lv_at hl 2 rfl) ?_
            refine lv_bipush (v := nI 32) hx hb dX2_cloneGuest_41 (by decide) ?_
            refine bn_mul hx hb dX2_cloneGuest_43 ?_
            refine lv_iload_n hx hb dX2_cloneGuest_44 rfl (lv_at hl 0 rfl) ?_
            refine bn_add hx hb dX2_cloneGuest_45 ?_
            refine bm_ld0 (v := g 0 (an * 32 + w)) F I (by omega) (by rw [e0]; exact if_neg (by omega)) dX2_cloneGuest_46 ?_
            refine bm_st0 F I (by omega) dX2_cloneGuest_47 (fun H locs u1 eu1 I => ?_)
            refine lv_iinc (v := nI (w + 1)) (lv' := [(3, .int (nI (w + 1))), (0, .ref (h 0)), (1, .int (nI an)), (2, .int (nI bn))]) hx hb dX2_cloneGuest_48 hl (k := 0) rfl (bn_inc _) (by decide) rfl (fun ls hl => ?_)
            refine lv_goto (tgt := 20) hx hb dX2_cloneGuest_51 (by decide) ?_
            exact ih (w + 1) u1 H locs ls (by omega) (by omega) (by rw [eu1, bz_st_s, e0]; exact sp_put_s rfl rfl) (by rw [eu1]; exact e1) I hl
      refine lv_aload_n hx hb dX2_cloneGuest_0 rfl (lv_at hl 0 rfl) ?_
      refine lv_iload_n hx hb dX2_cloneGuest_1 rfl (lv_at hl 1 rfl) ?_
      refine bx_ci (wd := MW h dI dZ) (rest := []) F I (metX2_badGuest (nI an)) (cwX2_badGuest F.1.2.2.2.2 ⟨by decide, by decide⟩) (q0 := 0) rfl rfl rfl hl.1 rfl (Nat.le_of_ble_eq_true rfl) dX2_cloneGuest_2 (fun rg ug H locs hq I => ?_)
      obtain ⟨hq, eg⟩ := hq
      rw [eg] at I
      rw [if_neg ha] at hq
      subst hq
      refine bn_if0_ne (tgt := 16) hx hb dX2_cloneGuest_5 (by decide) ?_
      refine lv_aload_n hx hb dX2_cloneGuest_8 rfl (lv_at hl 0 rfl) ?_
      refine lv_iload_n hx hb dX2_cloneGuest_9 rfl (lv_at hl 2 rfl) ?_
      refine bx_ci (wd := MW h dI dZ) (rest := []) F I (metX2_badGuest (nI bn)) (cwX2_badGuest F.1.2.2.2.2 ⟨by decide, by decide⟩) (q0 := 0) rfl rfl rfl hl.1 rfl (Nat.le_of_ble_eq_true rfl) dX2_cloneGuest_10 (fun rg ug H locs hq I => ?_)
      obtain ⟨hq, eg⟩ := hq
      rw [eg] at I
      rw [if_neg hb2] at hq
      subst hq
      refine bn_if0_eq (tgt := 18) hx hb dX2_cloneGuest_13 (by decide) ?_
      refine lv_iconst (v := nI 0) hx hb dX2_cloneGuest_18 (by decide) ?_
      refine lv_istore_n (lv' := [(3, .int (nI 0)), (0, .ref (h 0)), (1, .int (nI an)), (2, .int (nI bn))]) hx hb dX2_cloneGuest_19 rfl hl (by decide) rfl (fun ls hl => ?_)
      exact loop 33 0 g _ _ _ (by omega) (by omega) sp_put_0.symm rfl I hl
set_option maxHeartbeats 4000000 in
theorem metX2_shares {l : Launch} {D : va_G} {h : Nat → Nat} {dI dZ : ClassId} {g : bz_S} (gu x : Int32) : bc_i l D (bz_T dI dZ) (MW h dI dZ) yX2_shares cX2_shares 4 .int rmX2_shares [.ref (h 0), .int gu, .int x] g (fun r u => r = sr_shares (g 1) gu x ∧ u 0 = g 0 ∧ u 1 = sp_shares (g 1) gu x) := by
  refine bc_i_of RX2 (by decide) rfl (Nat.le_of_ble_eq_true rfl) ?_
  intro p e s m args below meth c A Q ls F hl I hret
  have hx := F.1.1
  have hb := F.1.2.1
  have hl : lv_has ls 4 [(0, .ref (h 0)), (1, .int gu), (2, .int x)] := hl
  by_cases hg : bz_bg gu
  · refine lv_aload_n hx hb dX2_shares_0 rfl (lv_at hl 0 rfl) ?_
    refine lv_iload_n hx hb dX2_shares_1 rfl (lv_at hl 1 rfl) ?_
    refine bx_ci (wd := MW h dI dZ) (rest := []) F I (metX2_badGuest gu) (cwX2_badGuest F.1.2.2.2.2 ⟨by decide, by decide⟩) (q0 := 0) rfl rfl rfl hl.1 rfl (Nat.le_of_ble_eq_true rfl) dX2_shares_2 (fun rg ug H locs hq I => ?_)
    obtain ⟨hq, eg⟩ := hq
    rw [eg] at I
    rw [if_pos hg] at hq
    subst hq
    refine bn_if1_eq (tgt := 10) hx hb dX2_shares_5 (by decide) ?_
    refine lv_iconst (v := (-1)) hx hb dX2_shares_8 (by decide) ?_
    exact hret _ _ _ _ _ _ (⟨(if_pos hg).symm, rfl, (if_pos hg).symm⟩) I (rfl) dX2_shares_9
  · by_cases ha : bz_bs x
    · refine lv_aload_n hx hb dX2_shares_0 rfl (lv_at hl 0 rfl) ?_
      refine lv_iload_n hx hb dX2_shares_1 rfl (lv_at hl 1 rfl) ?_
      refine bx_ci (wd := MW h dI dZ) (rest := []) F I (metX2_badGuest gu) (cwX2_badGuest F.1.2.2.2.2 ⟨by decide, by decide⟩) (q0 := 0) rfl rfl rfl hl.1 rfl (Nat.le_of_ble_eq_true rfl) dX2_shares_2 (fun rg ug H locs hq I => ?_)
      obtain ⟨hq, eg⟩ := hq
      rw [eg] at I
      rw [if_neg hg] at hq
      subst hq
      refine bn_if0_eq (tgt := 10) hx hb dX2_shares_5 (by decide) ?_
      refine lv_iload_n hx hb dX2_shares_10 rfl (lv_at hl 2 rfl) ?_
      refine lv_iconst (v := nI 1) hx hb dX2_shares_11 (by decide) ?_
      refine lv_icmp_lt (tgt := 21) hx hb dX2_shares_12 (by decide) (fun c1 => ?_) (fun c1 => ?_)
      · refine lv_bipush (v := (-4)) hx hb dX2_shares_21 (by decide) ?_
        exact hret _ _ _ _ _ _ (⟨by rw [sr_shares, if_neg hg, if_pos ha], rfl, by rw [sp_shares, if_neg hg, if_pos ha]⟩) I (rfl) dX2_shares_23
      · refine lv_iload_n hx hb dX2_shares_15 rfl (lv_at hl 2 rfl) ?_
        refine lv_bipush (v := nI 100) hx hb dX2_shares_16 (by decide) ?_
        refine lv_icmp_le (tgt := 24) hx hb dX2_shares_18 (by decide) (fun c2 => ?_) (fun c2 => ?_)
        · exact absurd ha (fun q => q.elim c1 (fun z => Int32.not_le.mpr z c2))
        · refine lv_bipush (v := (-4)) hx hb dX2_shares_21 (by decide) ?_
          exact hret _ _ _ _ _ _ (⟨by rw [sr_shares, if_neg hg, if_pos ha], rfl, by rw [sp_shares, if_neg hg, if_pos ha]⟩) I (rfl) dX2_shares_23
    · obtain ⟨gn, hgn, rfl⟩ := bz_bg_no hg
      refine lv_aload_n hx hb dX2_shares_0 rfl (lv_at hl 0 rfl) ?_
      refine lv_iload_n hx hb dX2_shares_1 rfl (lv_at hl 1 rfl) ?_
      refine bx_ci (wd := MW h dI dZ) (rest := []) F I (metX2_badGuest (nI gn)) (cwX2_badGuest F.1.2.2.2.2 ⟨by decide, by decide⟩) (q0 := 0) rfl rfl rfl hl.1 rfl (Nat.le_of_ble_eq_true rfl) dX2_shares_2 (fun rg ug H locs hq I => ?_)
      obtain ⟨hq, eg⟩ := hq
      rw [eg] at I
      rw [if_neg hg] at hq
      subst hq
      refine bn_if0_eq (tgt := 10) hx hb dX2_shares_5 (by decide) ?_
      refine lv_iload_n hx hb dX2_shares_10 rfl (lv_at hl 2 rfl) ?_
      refine lv_iconst (v := nI 1) hx hb dX2_shares_11 (by decide) ?_
      refine lv_icmp_lt (tgt := 21) hx hb dX2_shares_12 (by decide) (fun c1 => ?_) (fun c1 => ?_)
      · exact absurd (Or.inl c1) ha
      · refine lv_iload_n hx hb dX2_shares_15 rfl (lv_at hl 2 rfl) ?_
        refine lv_bipush (v := nI 100) hx hb dX2_shares_16 (by decide) ?_
        refine lv_icmp_le (tgt := 24) hx hb dX2_shares_18 (by decide) (fun c2 => ?_) (fun c2 => ?_)
        · refine lv_aload_n hx hb dX2_shares_24 rfl (lv_at hl 0 rfl) ?_
          refine bm_shares F I dX2_shares_25 ?_
          refine lv_iload_n hx hb dX2_shares_28 rfl (lv_at hl 1 rfl) ?_
          refine bm_ld1 F I (by omega) (rfl) dX2_shares_29 ?_
          refine lv_istore_n (lv' := [(3, .int (g 1 gn)), (0, .ref (h 0)), (1, .int (nI gn)), (2, .int x)]) hx hb dX2_shares_30 rfl hl (by decide) rfl (fun ls hl => ?_)
          refine lv_aload_n hx hb dX2_shares_31 rfl (lv_at hl 1 rfl) ?_
          refine bm_shares F I dX2_shares_32 ?_
          refine lv_iload_n hx hb dX2_shares_35 rfl (lv_at hl 2 rfl) ?_
          refine lv_iload_n hx hb dX2_shares_36 rfl (lv_at hl 3 rfl) ?_
          refine bm_st1 F I (by omega) dX2_shares_37 (fun H locs u1 eu1 I => ?_)
          refine lv_iload_n hx hb dX2_shares_38 rfl (lv_at hl 0 rfl) ?_
          exact hret _ _ _ _ _ _ (⟨by rw [sr_shares, if_neg hg, if_neg ha, nI_clamp (by omega)], by rw [eu1]; rfl, by rw [sp_shares, if_neg hg, if_neg ha, nI_clamp (by omega), eu1]; rfl⟩) I (rfl) dX2_shares_39
        · exact absurd (Or.inr (Int32.not_le.mp c2)) ha
set_option maxHeartbeats 4000000 in
theorem metX2_tidy {l : Launch} {D : va_G} {h : Nat → Nat} {dI dZ : ClassId} {g : bz_S} (x : Int32) : bc_v l D (bz_T dI dZ) (MW h dI dZ) yX2_tidy cX2_tidy 2 rmX2_tidy [.ref (h 0), .int x] g (fun u => u = g) := by
  refine bc_v_of RX2 (by decide) rfl (Nat.le_of_ble_eq_true rfl) ?_
  intro p e s m args below meth c A Q ls F hl I hret
  have hx := F.1.1
  have hb := F.1.2.1
  have hl : lv_has ls 2 [(0, .ref (h 0)), (1, .int x)] := hl
  exact hret _ _ _ _ _ (rfl) I dX2_tidy_0
set_option maxHeartbeats 4000000 in
theorem metX2_read {l : Launch} {D : va_G} {h : Nat → Nat} {dI dZ : ClassId} {g : bz_S} (gu a : Int32) : bc_i l D (bz_T dI dZ) (MW h dI dZ) yX2_read cX2_read 3 .int rmX2_read [.ref (h 0), .int gu, .int a] g (fun r u => r = sr_read (g 0) gu a ∧ u = g) := by
  refine bc_i_of RX2 (by decide) rfl (Nat.le_of_ble_eq_true rfl) ?_
  intro p e s m args below meth c A Q ls F hl I hret
  have hx := F.1.1
  have hb := F.1.2.1
  have hl : lv_has ls 3 [(0, .ref (h 0)), (1, .int gu), (2, .int a)] := hl
  by_cases hg : bz_bg gu
  · refine lv_aload_n hx hb dX2_read_0 rfl (lv_at hl 0 rfl) ?_
    refine lv_iload_n hx hb dX2_read_1 rfl (lv_at hl 1 rfl) ?_
    refine bx_ci (wd := MW h dI dZ) (rest := []) F I (metX2_badGuest gu) (cwX2_badGuest F.1.2.2.2.2 ⟨by decide, by decide⟩) (q0 := 0) rfl rfl rfl hl.1 rfl (Nat.le_of_ble_eq_true rfl) dX2_read_2 (fun rg ug H locs hq I => ?_)
    obtain ⟨hq, eg⟩ := hq
    rw [eg] at I
    rw [if_pos hg] at hq
    subst hq
    refine bn_if1_ne (tgt := 18) hx hb dX2_read_5 (by decide) ?_
    refine lv_iconst (v := nI 0) hx hb dX2_read_18 (by decide) ?_
    exact hret _ _ _ _ _ _ (⟨(if_pos (Or.inl hg)).symm, rfl⟩) I (rfl) dX2_read_19
  · by_cases ha : bz_bw a
    · refine lv_aload_n hx hb dX2_read_0 rfl (lv_at hl 0 rfl) ?_
      refine lv_iload_n hx hb dX2_read_1 rfl (lv_at hl 1 rfl) ?_
      refine bx_ci (wd := MW h dI dZ) (rest := []) F I (metX2_badGuest gu) (cwX2_badGuest F.1.2.2.2.2 ⟨by decide, by decide⟩) (q0 := 0) rfl rfl rfl hl.1 rfl (Nat.le_of_ble_eq_true rfl) dX2_read_2 (fun rg ug H locs hq I => ?_)
      obtain ⟨hq, eg⟩ := hq
      rw [eg] at I
      rw [if_neg hg] at hq
      subst hq
      refine bn_if0_ne (tgt := 18) hx hb dX2_read_5 (by decide) ?_
      refine lv_iload_n hx hb dX2_read_8 rfl (lv_at hl 2 rfl) ?_
      refine lv_if_lt (tgt := 18) hx hb dX2_read_9 (by decide) (fun c1 => ?_) (fun c1 => ?_)
      · refine lv_iconst (v := nI 0) hx hb dX2_read_18 (by decide) ?_
        exact hret _ _ _ _ _ _ (⟨(if_pos (Or.inr ha)).symm, rfl⟩) I (rfl) dX2_read_19
      · refine lv_iload_n hx hb dX2_read_12 rfl (lv_at hl 2 rfl) ?_
        refine lv_bipush (v := nI 31) hx hb dX2_read_13 (by decide) ?_
        refine lv_icmp_le (tgt := 20) hx hb dX2_read_15 (by decide) (fun c2 => ?_) (fun c2 => ?_)
        · exact absurd ha (fun q => q.elim c1 (fun z => Int32.not_le.mpr z c2))
        · refine lv_iconst (v := nI 0) hx hb dX2_read_18 (by decide) ?_
          exact hret _ _ _ _ _ _ (⟨(if_pos (Or.inr ha)).symm, rfl⟩) I (rfl) dX2_read_19
    · have hga : ¬ (bz_bg gu ∨ bz_bw a) := fun z => z.elim hg ha
      obtain ⟨gn, hgn, rfl⟩ := bz_bg_no hg
      obtain ⟨an, han, rfl⟩ := bz_bw_no ha
      refine lv_aload_n hx hb dX2_read_0 rfl (lv_at hl 0 rfl) ?_
      refine lv_iload_n hx hb dX2_read_1 rfl (lv_at hl 1 rfl) ?_
      refine bx_ci (wd := MW h dI dZ) (rest := []) F I (metX2_badGuest (nI gn)) (cwX2_badGuest F.1.2.2.2.2 ⟨by decide, by decide⟩) (q0 := 0) rfl rfl rfl hl.1 rfl (Nat.le_of_ble_eq_true rfl) dX2_read_2 (fun rg ug H locs hq I => ?_)
      obtain ⟨hq, eg⟩ := hq
      rw [eg] at I
      rw [if_neg hg] at hq
      subst hq
      refine bn_if0_ne (tgt := 18) hx hb dX2_read_5 (by decide) ?_
      refine lv_iload_n hx hb dX2_read_8 rfl (lv_at hl 2 rfl) ?_
      refine bn_iflt (tgt := 18) hx hb dX2_read_9 (by decide) (by omega) ?_
      refine lv_iload_n hx hb dX2_read_12 rfl (lv_at hl 2 rfl) ?_
      refine lv_bipush (v := nI 31) hx hb dX2_read_13 (by decide) ?_
      refine bn_le (tgt := 20) hx hb dX2_read_15 (by decide) (by omega) (by omega) (fun c1 => ?_) (fun c1 => ?_)
      · refine lv_aload_n hx hb dX2_read_20 rfl (lv_at hl 0 rfl) ?_
        refine bm_words F I dX2_read_21 ?_
        refine lv_iload_n hx hb dX2_read_24 rfl (lv_at hl 1 rfl) ?_
        refine lv_bipush (v := nI 32) hx hb dX2_read_25 (by decide) ?_
        refine bn_mul hx hb dX2_read_27 ?_
        refine lv_iload_n hx hb dX2_read_28 rfl (lv_at hl 2 rfl) ?_
        refine bn_add hx hb dX2_read_29 ?_
        refine bm_ld0 F I (by omega) (rfl) dX2_read_30 ?_
        exact hret _ _ _ _ _ _ (⟨by rw [sr_read, if_neg hga, nI_clamp (by omega), nI_clamp (by omega)], rfl⟩) I (rfl) dX2_read_31
      · exact absurd c1 (by omega)
set_option maxHeartbeats 4000000 in
theorem metX2_sum {l : Launch} {D : va_G} {h : Nat → Nat} {dI dZ : ClassId} {g : bz_S} (gu q : Int32) : bc_i l D (bz_T dI dZ) (MW h dI dZ) yX2_sum cX2_sum 5 .int rmX2_sum [.ref (h 0), .int gu, .int q] g (fun r u => r = sr_sum (g 0) gu q ∧ u = g) := by
  refine bc_i_of RX2 (by decide) rfl (Nat.le_of_ble_eq_true rfl) ?_
  intro p e s m args below meth c A Q ls F hl I hret
  have hx := F.1.1
  have hb := F.1.2.1
  have hl : lv_has ls 5 [(0, .ref (h 0)), (1, .int gu), (2, .int q)] := hl
  by_cases hg : bz_bg gu
  · refine lv_aload_n hx hb dX2_sum_0 rfl (lv_at hl 0 rfl) ?_
    refine lv_iload_n hx hb dX2_sum_1 rfl (lv_at hl 1 rfl) ?_
    refine bx_ci (wd := MW h dI dZ) (rest := []) F I (metX2_badGuest gu) (cwX2_badGuest F.1.2.2.2.2 ⟨by decide, by decide⟩) (q0 := 0) rfl rfl rfl hl.1 rfl (Nat.le_of_ble_eq_true rfl) dX2_sum_2 (fun rg ug H locs hq I => ?_)
    obtain ⟨hq, eg⟩ := hq
    rw [eg] at I
    rw [if_pos hg] at hq
    subst hq
    refine bn_if1_ne (tgt := 16) hx hb dX2_sum_5 (by decide) ?_
    refine lv_iconst (v := nI 0) hx hb dX2_sum_16 (by decide) ?_
    exact hret _ _ _ _ _ _ (⟨(if_pos (Or.inl hg)).symm, rfl⟩) I (rfl) dX2_sum_17
  · by_cases ha : bz_bp q
    · refine lv_aload_n hx hb dX2_sum_0 rfl (lv_at hl 0 rfl) ?_
      refine lv_iload_n hx hb dX2_sum_1 rfl (lv_at hl 1 rfl) ?_
      refine bx_ci (wd := MW h dI dZ) (rest := []) F I (metX2_badGuest gu) (cwX2_badGuest F.1.2.2.2.2 ⟨by decide, by decide⟩) (q0 := 0) rfl rfl rfl hl.1 rfl (Nat.le_of_ble_eq_true rfl) dX2_sum_2 (fun rg ug H locs hq I => ?_)
      obtain ⟨hq, eg⟩ := hq
      rw [eg] at I
      rw [if_neg hg] at hq
      subst hq
      refine bn_if0_ne (tgt := 16) hx hb dX2_sum_5 (by decide) ?_
      refine lv_aload_n hx hb dX2_sum_8 rfl (lv_at hl 0 rfl) ?_
      refine lv_iload_n hx hb dX2_sum_9 rfl (lv_at hl 2 rfl) ?_
      refine bx_ci (wd := MW h dI dZ) (rest := []) F I (metX2_badPage q) (cwX2_badPage F.1.2.2.2.2 ⟨by decide, by decide⟩) (q0 := 0) rfl rfl rfl hl.1 rfl (Nat.le_of_ble_eq_true rfl) dX2_sum_10 (fun rg ug H locs hq I => ?_)
      obtain ⟨hq, eg⟩ := hq
      rw [eg] at I
      rw [if_pos ha] at hq
      subst hq
      refine bn_if1_eq (tgt := 18) hx hb dX2_sum_13 (by decide) ?_
      refine lv_iconst (v := nI 0) hx hb dX2_sum_16 (by decide) ?_
      exact hret _ _ _ _ _ _ (⟨(if_pos (Or.inr ha)).symm, rfl⟩) I (rfl) dX2_sum_17
    · have hga : ¬ (bz_bg gu ∨ bz_bp q) := fun z => z.elim hg ha
      obtain ⟨gn, hgn, rfl⟩ := bz_bg_no hg
      obtain ⟨qn, hqn, rfl⟩ := bz_bp_no ha
      have loop : ∀ (n w : Nat) (y : Int32) (H : Heap) (locs : List Loc) (ls : Array Slot), w ≤ 4 → 4 < w + n → y = sp_sum (g 0) (gn * 32 + qn * 4) w → bx_I D A (MW h dI dZ g) s H locs → lv_has ls 5 [(4, .int (nI w)), (3, .int y), (0, .ref (h 0)), (1, .int (nI gn)), (2, .int (nI qn))] → W p l e rmX2_sum s m args below meth c H locs 0 0 Q (F0 m 23 ls []) := by
        intro n
        induction n with
        | zero => intro w y H locs ls h1 h2; exact absurd h2 (by omega)
        | succ n ih =>
          intro w y H locs ls h1 h2 ey I hl
          refine lv_iload hx hb dX2_sum_23 (lv_at hl 0 rfl) ?_
          refine lv_iconst (v := nI 4) hx hb dX2_sum_25 (by decide) ?_
          refine bn_ge (tgt := 59) hx hb dX2_sum_26 (by decide) (by omega) (by omega) (fun c1 => ?_) (fun c1 => ?_)
          · have e4 : w = 4 := by omega
            subst e4
            refine lv_iload_n hx hb dX2_sum_59 rfl (lv_at hl 1 rfl) ?_
            exact hret _ _ _ _ _ _ (⟨by rw [sr_sum, if_neg hga, nI_clamp (by omega), nI_clamp (by omega)]; exact ey, rfl⟩) I (rfl) dX2_sum_60
          · refine lv_iload_n hx hb dX2_sum_29 rfl (lv_at hl 1 rfl) ?_
            refine lv_iload hx hb dX2_sum_30 (lv_at hl 0 rfl) ?_
            refine lv_iconst (v := nI 1) hx hb dX2_sum_32 (by decide) ?_
            refine bn_add hx hb dX2_sum_33 ?_
            refine lv_aload_n hx hb dX2_sum_34 rfl (lv_at hl 2 rfl) ?_
            refine bm_words F I dX2_sum_35 ?_
            refine lv_iload_n hx hb dX2_sum_38 rfl (lv_at hl 3 rfl) ?_
            refine lv_bipush (v := nI 32) hx hb dX2_sum_39 (by decide) ?_
            refine bn_mul hx hb dX2_sum_41 ?_
            refine lv_iload_n hx hb dX2_sum_42 rfl (lv_at hl 4 rfl) ?_
            refine lv_iconst (v := nI 4) hx hb dX2_sum_43 (by decide) ?_
            refine bn_mul hx hb dX2_sum_44 ?_
            refine bn_add hx hb dX2_sum_45 ?_
            refine lv_iload hx hb dX2_sum_46 (lv_at hl 0 rfl) ?_
            refine bn_add hx hb dX2_sum_48 ?_
            refine bm_ld0 F I (by omega) (rfl) dX2_sum_49 ?_
            refine lv_imul hx hb dX2_sum_50 ?_
            refine lv_iadd hx hb dX2_sum_51 ?_
            refine lv_istore_n (lv' := [(3, .int (y + ((nI (w + 1)) * (g 0 (((gn * 32) + (qn * 4)) + w))))), (4, .int (nI w)), (0, .ref (h 0)), (1, .int (nI gn)), (2, .int (nI qn))]) hx hb dX2_sum_52 rfl hl (by decide) rfl (fun ls hl => ?_)
            refine lv_iinc (v := nI (w + 1)) (lv' := [(4, .int (nI (w + 1))), (3, .int (y + ((nI (w + 1)) * (g 0 (((gn * 32) + (qn * 4)) + w))))), (0, .ref (h 0)), (1, .int (nI gn)), (2, .int (nI qn))]) hx hb dX2_sum_53 hl (k := 1) rfl (bn_inc _) (by decide) rfl (fun ls hl => ?_)
            refine lv_goto (tgt := 23) hx hb dX2_sum_56 (by decide) ?_
            exact ih (w + 1) _ H locs ls (by omega) (by omega) (by rw [ey]; rfl) I (lv_sub hl [0, 1, 2, 3, 4] rfl)
      refine lv_aload_n hx hb dX2_sum_0 rfl (lv_at hl 0 rfl) ?_
      refine lv_iload_n hx hb dX2_sum_1 rfl (lv_at hl 1 rfl) ?_
      refine bx_ci (wd := MW h dI dZ) (rest := []) F I (metX2_badGuest (nI gn)) (cwX2_badGuest F.1.2.2.2.2 ⟨by decide, by decide⟩) (q0 := 0) rfl rfl rfl hl.1 rfl (Nat.le_of_ble_eq_true rfl) dX2_sum_2 (fun rg ug H locs hq I => ?_)
      obtain ⟨hq, eg⟩ := hq
      rw [eg] at I
      rw [if_neg hg] at hq
      subst hq
      refine bn_if0_ne (tgt := 16) hx hb dX2_sum_5 (by decide) ?_
      refine lv_aload_n hx hb dX2_sum_8 rfl (lv_at hl 0 rfl) ?_
      refine lv_iload_n hx hb dX2_sum_9 rfl (lv_at hl 2 rfl) ?_
      refine bx_ci (wd := MW h dI dZ) (rest := []) F I (metX2_badPage (nI qn)) (cwX2_badPage F.1.2.2.2.2 ⟨by decide, by decide⟩) (q0 := 0) rfl rfl rfl hl.1 rfl (Nat.le_of_ble_eq_true rfl) dX2_sum_10 (fun rg ug H locs hq I => ?_)
      obtain ⟨hq, eg⟩ := hq
      rw [eg] at I
      rw [if_neg ha] at hq
      subst hq
      refine bn_if0_eq (tgt := 18) hx hb dX2_sum_13 (by decide) ?_
      refine lv_iconst (v := nI 0) hx hb dX2_sum_18 (by decide) ?_
      refine lv_istore_n (lv' := [(3, .int (nI 0)), (0, .ref (h 0)), (1, .int (nI gn)), (2, .int (nI qn))]) hx hb dX2_sum_19 rfl hl (by decide) rfl (fun ls hl => ?_)
      refine lv_iconst (v := nI 0) hx hb dX2_sum_20 (by decide) ?_
      refine lv_istore (lv' := [(4, .int (nI 0)), (3, .int (nI 0)), (0, .ref (h 0)), (1, .int (nI gn)), (2, .int (nI qn))]) hx hb dX2_sum_21 hl (by decide) rfl (fun ls hl => ?_)
      exact loop 5 0 _ _ _ _ (by omega) (by omega) rfl I hl
set_option maxHeartbeats 4000000 in
theorem metX2_alike {l : Launch} {D : va_G} {h : Nat → Nat} {dI dZ : ClassId} {g : bz_S} {a b : Nat} (ha : a < 24) (hb2 : b < 24) : bc_i l D (bz_T dI dZ) (MW h dI dZ) yX2_alike cX2_alike 4 .boolean rmX2_alike [.ref (h 0), .int (nI a), .int (nI b)] g (fun r u => r = (if sp_al (g 0) a b then nI 1 else nI 0) ∧ u = g) := by
  refine bc_i_of RX2 (by decide) rfl (Nat.le_of_ble_eq_true rfl) ?_
  intro p e s m args below meth c A Q ls F hl I hret
  have hx := F.1.1
  have hb := F.1.2.1
  have hl : lv_has ls 4 [(0, .ref (h 0)), (1, .int (nI a)), (2, .int (nI b))] := hl
  have loop : ∀ (n w : Nat) (H : Heap) (locs : List Loc) (ls : Array Slot), w ≤ 4 → 4 < w + n → (∀ j, j < w → g 0 (a * 4 + j) = g 0 (b * 4 + j)) → bx_I D A (MW h dI dZ g) s H locs → lv_has ls 4 [(3, .int (nI w)), (0, .ref (h 0)), (1, .int (nI a)), (2, .int (nI b))] → W p l e rmX2_alike s m args below meth c H locs 0 0 Q (F0 m 2 ls []) := by
    intro n
    induction n with
    | zero => intro w H locs ls h1 h2; exact absurd h2 (by omega)
    | succ n ih =>
      intro w H locs ls h1 h2 hH I hl
      refine lv_iload_n hx hb dX2_alike_2 rfl (lv_at hl 0 rfl) ?_
      refine lv_iconst (v := nI 4) hx hb dX2_alike_3 (by decide) ?_
      refine bn_ge (tgt := 38) hx hb dX2_alike_4 (by decide) (by omega) (by omega) (fun c1 => ?_) (fun c1 => ?_)
      · refine lv_iconst (v := nI 1) hx hb dX2_alike_38 (by decide) ?_
        exact hret _ _ _ _ _ _ (⟨(if_pos (fun j hj => hH j (by omega))).symm, rfl⟩) I (rfl) dX2_alike_39
      · refine lv_aload_n hx hb dX2_alike_7 rfl (lv_at hl 1 rfl) ?_
        refine bm_words F I dX2_alike_8 ?_
        refine lv_iload_n hx hb dX2_alike_11 rfl (lv_at hl 2 rfl) ?_
        refine lv_iconst (v := nI 4) hx hb dX2_alike_12 (by decide) ?_
        refine bn_mul hx hb dX2_alike_13 ?_
        refine lv_iload_n hx hb dX2_alike_14 rfl (lv_at hl 0 rfl) ?_
        refine bn_add hx hb dX2_alike_15 ?_
        refine bm_ld0 F I (by omega) (rfl) dX2_alike_16 ?_
        refine lv_aload_n hx hb dX2_alike_17 rfl (lv_at hl 1 rfl) ?_
        refine bm_words F I dX2_alike_18 ?_
        refine lv_iload_n hx hb dX2_alike_21 rfl (lv_at hl 3 rfl) ?_
        refine lv_iconst (v := nI 4) hx hb dX2_alike_22 (by decide) ?_
        refine bn_mul hx hb dX2_alike_23 ?_
        refine lv_iload_n hx hb dX2_alike_24 rfl (lv_at hl 0 rfl) ?_
        refine bn_add hx hb dX2_alike_25 ?_
        refine bm_ld0 F I (by omega) (rfl) dX2_alike_26 ?_
        refine lv_icmp_eq (tgt := 32) hx hb dX2_alike_27 (by decide) (fun c2 => ?_) (fun c2 => ?_)
        · refine lv_iinc (v := nI (w + 1)) (lv' := [(3, .int (nI (w + 1))), (0, .ref (h 0)), (1, .int (nI a)), (2, .int (nI b))]) hx hb dX2_alike_32 hl (k := 0) rfl (bn_inc _) (by decide) rfl (fun ls hl => ?_)
          refine lv_goto (tgt := 2) hx hb dX2_alike_35 (by decide) ?_
          exact ih (w + 1) H locs ls (by omega) (by omega) (fun j hj => (Nat.lt_or_eq_of_le (Nat.le_of_lt_succ hj)).elim (hH j) (fun z => by rw [z]; exact c2)) I hl
        · refine lv_iconst (v := nI 0) hx hb dX2_alike_30 (by decide) ?_
          exact hret _ _ _ _ _ _ (⟨(if_neg (fun z => c2 (z w (by omega)))).symm, rfl⟩) I (rfl) dX2_alike_31
  refine lv_iconst (v := nI 0) hx hb dX2_alike_0 (by decide) ?_
  refine lv_istore_n (lv' := [(3, .int (nI 0)), (0, .ref (h 0)), (1, .int (nI a)), (2, .int (nI b))]) hx hb dX2_alike_1 rfl hl (by decide) rfl (fun ls hl => ?_)
  exact loop 5 0 _ _ _ (by omega) (by omega) (fun j hj => absurd hj (by omega)) I hl
set_option maxHeartbeats 4000000 in
theorem metX2_same {l : Launch} {D : va_G} {h : Nat → Nat} {dI dZ : ClassId} {g : bz_S} (a q b t : Int32) : bc_i l D (bz_T dI dZ) (MW h dI dZ) yX2_same cX2_same 5 .boolean rmX2_same [.ref (h 0), .int a, .int q, .int b, .int t] g (fun r u => r = sr_same (g 0) a q b t ∧ u = g) := by
  refine bc_i_of RX2 (by decide) rfl (Nat.le_of_ble_eq_true rfl) ?_
  intro p e s m args below meth c A Q ls F hl I hret
  have hx := F.1.1
  have hb := F.1.2.1
  have hl : lv_has ls 5 [(0, .ref (h 0)), (1, .int a), (2, .int q), (3, .int b), (4, .int t)] := hl
  by_cases ha : bz_bg a
  · refine lv_aload_n hx hb dX2_same_0 rfl (lv_at hl 0 rfl) ?_
    refine lv_iload_n hx hb dX2_same_1 rfl (lv_at hl 1 rfl) ?_
    refine bx_ci (wd := MW h dI dZ) (rest := []) F I (metX2_badGuest a) (cwX2_badGuest F.1.2.2.2.2 ⟨by decide, by decide⟩) (q0 := 0) rfl rfl rfl hl.1 rfl (Nat.le_of_ble_eq_true rfl) dX2_same_2 (fun rg ug H locs hq I => ?_)
    obtain ⟨hq, eg⟩ := hq
    rw [eg] at I
    rw [if_pos ha] at hq
    subst hq
    refine bn_if1_ne (tgt := 33) hx hb dX2_same_5 (by decide) ?_
    refine lv_iconst (v := nI 0) hx hb dX2_same_33 (by decide) ?_
    exact hret _ _ _ _ _ _ (⟨(if_pos (Or.inl ha)).symm, rfl⟩) I (rfl) dX2_same_34
  · by_cases hb2 : bz_bg b
    · refine lv_aload_n hx hb dX2_same_0 rfl (lv_at hl 0 rfl) ?_
      refine lv_iload_n hx hb dX2_same_1 rfl (lv_at hl 1 rfl) ?_
      refine bx_ci (wd := MW h dI dZ) (rest := []) F I (metX2_badGuest a) (cwX2_badGuest F.1.2.2.2.2 ⟨by decide, by decide⟩) (q0 := 0) rfl rfl rfl hl.1 rfl (Nat.le_of_ble_eq_true rfl) dX2_same_2 (fun rg ug H locs hq I => ?_)
      obtain ⟨hq, eg⟩ := hq
      rw [eg] at I
      rw [if_neg ha] at hq
      subst hq
      refine bn_if0_ne (tgt := 33) hx hb dX2_same_5 (by decide) ?_
      refine lv_aload_n hx hb dX2_same_8 rfl (lv_at hl 0 rfl) ?_
      refine lv_iload_n hx hb dX2_same_9 rfl (lv_at hl 3 rfl) ?_
      refine bx_ci (wd := MW h dI dZ) (rest := []) F I (metX2_badGuest b) (cwX2_badGuest F.1.2.2.2.2 ⟨by decide, by decide⟩) (q0 := 0) rfl rfl rfl hl.1 rfl (Nat.le_of_ble_eq_true rfl) dX2_same_10 (fun rg ug H locs hq I => ?_)
      obtain ⟨hq, eg⟩ := hq
      rw [eg] at I
      rw [if_pos hb2] at hq
      subst hq
      refine bn_if1_ne (tgt := 33) hx hb dX2_same_13 (by decide) ?_
      refine lv_iconst (v := nI 0) hx hb dX2_same_33 (by decide) ?_
      exact hret _ _ _ _ _ _ (⟨(if_pos (Or.inr (Or.inl hb2))).symm, rfl⟩) I (rfl) dX2_same_34
    · by_cases hq2 : bz_bp q
      · refine lv_aload_n hx hb dX2_same_0 rfl (lv_at hl 0 rfl) ?_
        refine lv_iload_n hx hb dX2_same_1 rfl (lv_at hl 1 rfl) ?_
        refine bx_ci (wd := MW h dI dZ) (rest := []) F I (metX2_badGuest a) (cwX2_badGuest F.1.2.2.2.2 ⟨by decide, by decide⟩) (q0 := 0) rfl rfl rfl hl.1 rfl (Nat.le_of_ble_eq_true rfl) dX2_same_2 (fun rg ug H locs hq I => ?_)
        obtain ⟨hq, eg⟩ := hq
        rw [eg] at I
        rw [if_neg ha] at hq
        subst hq
        refine bn_if0_ne (tgt := 33) hx hb dX2_same_5 (by decide) ?_
        refine lv_aload_n hx hb dX2_same_8 rfl (lv_at hl 0 rfl) ?_
        refine lv_iload_n hx hb dX2_same_9 rfl (lv_at hl 3 rfl) ?_
        refine bx_ci (wd := MW h dI dZ) (rest := []) F I (metX2_badGuest b) (cwX2_badGuest F.1.2.2.2.2 ⟨by decide, by decide⟩) (q0 := 0) rfl rfl rfl hl.1 rfl (Nat.le_of_ble_eq_true rfl) dX2_same_10 (fun rg ug H locs hq I => ?_)
        obtain ⟨hq, eg⟩ := hq
        rw [eg] at I
        rw [if_neg hb2] at hq
        subst hq
        refine bn_if0_ne (tgt := 33) hx hb dX2_same_13 (by decide) ?_
        refine lv_aload_n hx hb dX2_same_16 rfl (lv_at hl 0 rfl) ?_
        refine lv_iload_n hx hb dX2_same_17 rfl (lv_at hl 2 rfl) ?_
        refine bx_ci (wd := MW h dI dZ) (rest := []) F I (metX2_badPage q) (cwX2_badPage F.1.2.2.2.2 ⟨by decide, by decide⟩) (q0 := 0) rfl rfl rfl hl.1 rfl (Nat.le_of_ble_eq_true rfl) dX2_same_18 (fun rg ug H locs hq I => ?_)
        obtain ⟨hq, eg⟩ := hq
        rw [eg] at I
        rw [if_pos hq2] at hq
        subst hq
        refine bn_if1_ne (tgt := 33) hx hb dX2_same_21 (by decide) ?_
        refine lv_iconst (v := nI 0) hx hb dX2_same_33 (by decide) ?_
        exact hret _ _ _ _ _ _ (⟨(if_pos (Or.inr (Or.inr (Or.inl hq2)))).symm, rfl⟩) I (rfl) dX2_same_34
      · by_cases ht2 : bz_bp t
        · refine lv_aload_n hx hb dX2_same_0 rfl (lv_at hl 0 rfl) ?_
          refine lv_iload_n hx hb dX2_same_1 rfl (lv_at hl 1 rfl) ?_
          refine bx_ci (wd := MW h dI dZ) (rest := []) F I (metX2_badGuest a) (cwX2_badGuest F.1.2.2.2.2 ⟨by decide, by decide⟩) (q0 := 0) rfl rfl rfl hl.1 rfl (Nat.le_of_ble_eq_true rfl) dX2_same_2 (fun rg ug H locs hq I => ?_)
          obtain ⟨hq, eg⟩ := hq
          rw [eg] at I
          rw [if_neg ha] at hq
          subst hq
          refine bn_if0_ne (tgt := 33) hx hb dX2_same_5 (by decide) ?_
          refine lv_aload_n hx hb dX2_same_8 rfl (lv_at hl 0 rfl) ?_
          refine lv_iload_n hx hb dX2_same_9 rfl (lv_at hl 3 rfl) ?_
          refine bx_ci (wd := MW h dI dZ) (rest := []) F I (metX2_badGuest b) (cwX2_badGuest F.1.2.2.2.2 ⟨by decide, by decide⟩) (q0 := 0) rfl rfl rfl hl.1 rfl (Nat.le_of_ble_eq_true rfl) dX2_same_10 (fun rg ug H locs hq I => ?_)
          obtain ⟨hq, eg⟩ := hq
          rw [eg] at I
          rw [if_neg hb2] at hq
          subst hq
          refine bn_if0_ne (tgt := 33) hx hb dX2_same_13 (by decide) ?_
          refine lv_aload_n hx hb dX2_same_16 rfl (lv_at hl 0 rfl) ?_
          refine lv_iload_n hx hb dX2_same_17 rfl (lv_at hl 2 rfl) ?_
          refine bx_ci (wd := MW h dI dZ) (rest := []) F I (metX2_badPage q) (cwX2_badPage F.1.2.2.2.2 ⟨by decide, by decide⟩) (q0 := 0) rfl rfl rfl hl.1 rfl (Nat.le_of_ble_eq_true rfl) dX2_same_18 (fun rg ug H locs hq I => ?_)
          obtain ⟨hq, eg⟩ := hq
          rw [eg] at I
          rw [if_neg hq2] at hq
          subst hq
          refine bn_if0_ne (tgt := 33) hx hb dX2_same_21 (by decide) ?_
          refine lv_aload_n hx hb dX2_same_24 rfl (lv_at hl 0 rfl) ?_
          refine lv_iload hx hb dX2_same_25 (lv_at hl 4 rfl) ?_
          refine bx_ci (wd := MW h dI dZ) (rest := []) F I (metX2_badPage t) (cwX2_badPage F.1.2.2.2.2 ⟨by decide, by decide⟩) (q0 := 0) rfl rfl rfl hl.1 rfl (Nat.le_of_ble_eq_true rfl) dX2_same_27 (fun rg ug H locs hq I => ?_)
          obtain ⟨hq, eg⟩ := hq
          rw [eg] at I
          rw [if_pos ht2] at hq
          subst hq
          refine bn_if1_eq (tgt := 35) hx hb dX2_same_30 (by decide) ?_
          refine lv_iconst (v := nI 0) hx hb dX2_same_33 (by decide) ?_
          exact hret _ _ _ _ _ _ (⟨(if_pos (Or.inr (Or.inr (Or.inr ht2)))).symm, rfl⟩) I (rfl) dX2_same_34
        · have hall : ¬ (bz_bg a ∨ bz_bg b ∨ bz_bp q ∨ bz_bp t) := fun z => z.elim ha (fun z => z.elim hb2 (fun z => z.elim hq2 ht2))
          obtain ⟨an, han, rfl⟩ := bz_bg_no ha
          obtain ⟨bn, hbn, rfl⟩ := bz_bg_no hb2
          obtain ⟨qn, hqn, rfl⟩ := bz_bp_no hq2
          obtain ⟨tn, htn, rfl⟩ := bz_bp_no ht2
          refine lv_aload_n hx hb dX2_same_0 rfl (lv_at hl 0 rfl) ?_
          refine lv_iload_n hx hb dX2_same_1 rfl (lv_at hl 1 rfl) ?_
          refine bx_ci (wd := MW h dI dZ) (rest := []) F I (metX2_badGuest (nI an)) (cwX2_badGuest F.1.2.2.2.2 ⟨by decide, by decide⟩) (q0 := 0) rfl rfl rfl hl.1 rfl (Nat.le_of_ble_eq_true rfl) dX2_same_2 (fun rg ug H locs hq I => ?_)
          obtain ⟨hq, eg⟩ := hq
          rw [eg] at I
          rw [if_neg ha] at hq
          subst hq
          refine bn_if0_ne (tgt := 33) hx hb dX2_same_5 (by decide) ?_
          refine lv_aload_n hx hb dX2_same_8 rfl (lv_at hl 0 rfl) ?_
          refine lv_iload_n hx hb dX2_same_9 rfl (lv_at hl 3 rfl) ?_
          refine bx_ci (wd := MW h dI dZ) (rest := []) F I (metX2_badGuest (nI bn)) (cwX2_badGuest F.1.2.2.2.2 ⟨by decide, by decide⟩) (q0 := 0) rfl rfl rfl hl.1 rfl (Nat.le_of_ble_eq_true rfl) dX2_same_10 (fun rg ug H locs hq I => ?_)
          obtain ⟨hq, eg⟩ := hq
          rw [eg] at I
          rw [if_neg hb2] at hq
          subst hq
          refine bn_if0_ne (tgt := 33) hx hb dX2_same_13 (by decide) ?_
          refine lv_aload_n hx hb dX2_same_16 rfl (lv_at hl 0 rfl) ?_
          refine lv_iload_n hx hb dX2_same_17 rfl (lv_at hl 2 rfl) ?_
          refine bx_ci (wd := MW h dI dZ) (rest := []) F I (metX2_badPage (nI qn)) (cwX2_badPage F.1.2.2.2.2 ⟨by decide, by decide⟩) (q0 := 0) rfl rfl rfl hl.1 rfl (Nat.le_of_ble_eq_true rfl) dX2_same_18 (fun rg ug H locs hq I => ?_)
          obtain ⟨hq, eg⟩ := hq
          rw [eg] at I
          rw [if_neg hq2] at hq
          subst hq
          refine bn_if0_ne (tgt := 33) hx hb dX2_same_21 (by decide) ?_
          refine lv_aload_n hx hb dX2_same_24 rfl (lv_at hl 0 rfl) ?_
          refine lv_iload hx hb dX2_same_25 (lv_at hl 4 rfl) ?_
          refine bx_ci (wd := MW h dI dZ) (rest := []) F I (metX2_badPage (nI tn)) (cwX2_badPage F.1.2.2.2.2 ⟨by decide, by decide⟩) (q0 := 0) rfl rfl rfl hl.1 rfl (Nat.le_of_ble_eq_true rfl) dX2_same_27 (fun rg ug H locs hq I => ?_)
          obtain ⟨hq, eg⟩ := hq
          rw [eg] at I
          rw [if_neg ht2] at hq
          subst hq
          refine bn_if0_eq (tgt := 35) hx hb dX2_same_30 (by decide) ?_
          refine lv_aload_n hx hb dX2_same_35 rfl (lv_at hl 0 rfl) ?_
          refine lv_iload_n hx hb dX2_same_36 rfl (lv_at hl 1 rfl) ?_
          refine lv_bipush (v := nI 8) hx hb dX2_same_37 (by decide) ?_
          refine bn_mul hx hb dX2_same_39 ?_
          refine lv_iload_n hx hb dX2_same_40 rfl (lv_at hl 2 rfl) ?_
          refine bn_add hx hb dX2_same_41 ?_
          refine lv_iload_n hx hb dX2_same_42 rfl (lv_at hl 3 rfl) ?_
          refine lv_bipush (v := nI 8) hx hb dX2_same_43 (by decide) ?_
          refine bn_mul hx hb dX2_same_45 ?_
          refine lv_iload hx hb dX2_same_46 (lv_at hl 4 rfl) ?_
          refine bn_add hx hb dX2_same_48 ?_
          refine bx_ci (wd := MW h dI dZ) (rest := []) F I (metX2_alike (a := an * 8 + qn) (b := bn * 8 + tn) (by omega) (by omega)) (cwX2_alike F.1.2.2.2.2 ⟨by decide, by decide⟩) (q0 := 0) rfl rfl rfl hl.1 rfl (Nat.le_of_ble_eq_true rfl) dX2_same_49 (fun r1 v1 H locs hq I => ?_)
          obtain ⟨er, e1⟩ := hq
          rw [e1] at I
          have es : sr_same (g 0) (nI an) (nI qn) (nI bn) (nI tn) = if sp_al (g 0) (an * 8 + qn) (bn * 8 + tn) then nI 1 else nI 0 := by rw [sr_same, if_neg hall, nI_clamp (by omega), nI_clamp (by omega), nI_clamp (by omega), nI_clamp (by omega)]
          by_cases z : sp_al (g 0) (an * 8 + qn) (bn * 8 + tn)
          · rw [if_pos z] at er es
            subst er
            exact hret _ _ _ _ _ _ (⟨es.symm, rfl⟩) I (rfl) dX2_same_52
          · rw [if_neg z] at er es
            subst er
            exact hret _ _ _ _ _ _ (⟨es.symm, rfl⟩) I (rfl) dX2_same_52
set_option maxHeartbeats 4000000 in
theorem metX2_contents {l : Launch} {D : va_G} {h : Nat → Nat} {dI dZ : ClassId} {g : bz_S} (gu : Int32) : bc_i l D (bz_T dI dZ) (MW h dI dZ) yX2_contents cX2_contents 6 .int rmX2_contents [.ref (h 0), .int gu] g (fun r u => r = sr_contents (g 0) gu ∧ u = g) := by
  refine bc_i_of RX2 (by decide) rfl (Nat.le_of_ble_eq_true rfl) ?_
  intro p e s m args below meth c A Q ls F hl I hret
  have hx := F.1.1
  have hb := F.1.2.1
  have hl : lv_has ls 6 [(0, .ref (h 0)), (1, .int gu)] := hl
  by_cases hg : bz_bg gu
  · refine lv_aload_n hx hb dX2_contents_0 rfl (lv_at hl 0 rfl) ?_
    refine lv_iload_n hx hb dX2_contents_1 rfl (lv_at hl 1 rfl) ?_
    refine bx_ci (wd := MW h dI dZ) (rest := []) F I (metX2_badGuest gu) (cwX2_badGuest F.1.2.2.2.2 ⟨by decide, by decide⟩) (q0 := 0) rfl rfl rfl hl.1 rfl (Nat.le_of_ble_eq_true rfl) dX2_contents_2 (fun rg ug H locs hq I => ?_)
    obtain ⟨hq, eg⟩ := hq
    rw [eg] at I
    rw [if_pos hg] at hq
    subst hq
    refine bn_if1_eq (tgt := 10) hx hb dX2_contents_5 (by decide) ?_
    refine lv_iconst (v := (-1)) hx hb dX2_contents_8 (by decide) ?_
    exact hret _ _ _ _ _ _ (⟨(if_pos hg).symm, rfl⟩) I (rfl) dX2_contents_9
  · obtain ⟨gn, hgn, rfl⟩ := bz_bg_no hg
    have loop : ∀ (n k cn : Nat) (H : Heap) (locs : List Loc) (ls : Array Slot), k ≤ 8 → 8 < k + n → cn = sp_cs (g 0) (gn * 8) k → bx_I D A (MW h dI dZ g) s H locs → lv_has ls 6 [(3, .int (nI k)), (2, .int (nI cn)), (0, .ref (h 0)), (1, .int (nI gn))] → W p l e rmX2_contents s m args below meth c H locs 0 0 Q (F0 m 14 ls []) := by
      intro n
      induction n with
      | zero => intro k cn H locs ls h1 h2; exact absurd h2 (by omega)
      | succ n ih =>
        intro k cn H locs ls h1 h2 ec I hl
        refine lv_iload_n hx hb dX2_contents_14 rfl (lv_at hl 0 rfl) ?_
        refine lv_bipush (v := nI 8) hx hb dX2_contents_15 (by decide) ?_
        refine bn_ge (tgt := 75) hx hb dX2_contents_17 (by decide) (by omega) (by omega) (fun c1 => ?_) (fun c1 => ?_)
        · have e8 : k = 8 := by omega
          subst e8
          refine lv_iload_n hx hb dX2_contents_75 rfl (lv_at hl 1 rfl) ?_
          exact hret _ _ _ _ _ _ (⟨by rw [sr_contents, if_neg hg, nI_clamp (by omega), ec], rfl⟩) I (rfl) dX2_contents_76
        · have inner : ∀ (n e2 fb : Nat) (H : Heap) (locs : List Loc) (ls : Array Slot), e2 ≤ k → k < e2 + n → ((fb = 1 ∧ sp_fr (g 0) (gn * 8) k e2) ∨ (fb = 0 ∧ ¬ sp_fr (g 0) (gn * 8) k e2)) → bx_I D A (MW h dI dZ g) s H locs → lv_has ls 6 [(5, .int (nI e2)), (4, .int (nI fb)), (3, .int (nI k)), (2, .int (nI cn)), (0, .ref (h 0)), (1, .int (nI gn))] → W p l e rmX2_contents s m args below meth c H locs 0 0 Q (F0 m 26 ls []) := by
            intro n
            induction n with
            | zero => intro e2 fb H locs ls h3 h4; exact absurd h4 (by omega)
            | succ n ih2 =>
              intro e2 fb H locs ls h3 h4 hfb I hl
              refine lv_iload hx hb dX2_contents_26 (lv_at hl 0 rfl) ?_
              refine lv_iload_n hx hb dX2_contents_28 rfl (lv_at hl 2 rfl) ?_
              refine bn_ge (tgt := 61) hx hb dX2_contents_29 (by decide) (by omega) (by omega) (fun c2 => ?_) (fun c2 => ?_)
              · have ek : e2 = k := by omega
                subst ek
                rcases hfb with ⟨rfl, hf⟩ | ⟨rfl, hf⟩
                · refine lv_iload hx hb dX2_contents_61 (lv_at hl 1 rfl) ?_
                  refine bn_if1_eq (tgt := 69) hx hb dX2_contents_63 (by decide) ?_
                  refine lv_iinc (v := nI (cn + 1)) (lv' := [(2, .int (nI (cn + 1))), (5, .int (nI e2)), (4, .int (nI 1)), (3, .int (nI e2)), (0, .ref (h 0)), (1, .int (nI gn))]) hx hb dX2_contents_66 hl (k := 3) rfl (bn_inc _) (by decide) rfl (fun ls hl => ?_)
                  refine lv_iinc (v := nI (e2 + 1)) (lv' := [(3, .int (nI (e2 + 1))), (2, .int (nI (cn + 1))), (5, .int (nI e2)), (4, .int (nI 1)), (0, .ref (h 0)), (1, .int (nI gn))]) hx hb dX2_contents_69 hl (k := 3) rfl (bn_inc _) (by decide) rfl (fun ls hl => ?_)
                  refine lv_goto (tgt := 14) hx hb dX2_contents_72 (by decide) ?_
                  exact ih (e2 + 1) (cn + 1) H locs ls (by omega) (by omega) (by rw [sp_cs, if_pos hf, ec]) I (lv_sub hl [0, 1, 4, 5] rfl)
                · refine lv_iload hx hb dX2_contents_61 (lv_at hl 1 rfl) ?_
                  refine bn_if0_eq (tgt := 69) hx hb dX2_contents_63 (by decide) ?_
                  refine lv_iinc (v := nI (e2 + 1)) (lv' := [(3, .int (nI (e2 + 1))), (5, .int (nI e2)), (4, .int (nI 0)), (2, .int (nI cn)), (0, .ref (h 0)), (1, .int (nI gn))]) hx hb dX2_contents_69 hl (k := 2) rfl (bn_inc _) (by decide) rfl (fun ls hl => ?_)
                  refine lv_goto (tgt := 14) hx hb dX2_contents_72 (by decide) ?_
                  exact ih (e2 + 1) cn H locs ls (by omega) (by omega) (by rw [sp_cs, if_neg hf, ec]; rfl) I (lv_sub hl [0, 3, 4, 5] rfl)
              · refine lv_aload_n hx hb dX2_contents_32 rfl (lv_at hl 4 rfl) ?_
                refine lv_iload_n hx hb dX2_contents_33 rfl (lv_at hl 5 rfl) ?_
                refine lv_bipush (v := nI 8) hx hb dX2_contents_34 (by decide) ?_
                refine bn_mul hx hb dX2_contents_36 ?_
                refine lv_iload_n hx hb dX2_contents_37 rfl (lv_at hl 2 rfl) ?_
                refine bn_add hx hb dX2_contents_38 ?_
                refine lv_iload_n hx hb dX2_contents_39 rfl (lv_at hl 5 rfl) ?_
                refine lv_bipush (v := nI 8) hx hb dX2_contents_40 (by decide) ?_
                refine bn_mul hx hb dX2_contents_42 ?_
                refine lv_iload hx hb dX2_contents_43 (lv_at hl 0 rfl) ?_
                refine bn_add hx hb dX2_contents_45 ?_
                refine bx_ci (wd := MW h dI dZ) (rest := []) F I (metX2_alike (a := gn * 8 + k) (b := gn * 8 + e2) (by omega) (by omega)) (cwX2_alike F.1.2.2.2.2 ⟨by decide, by decide⟩) (q0 := 0) rfl rfl rfl hl.1 rfl (Nat.le_of_ble_eq_true rfl) dX2_contents_46 (fun r1 v1 H locs hq I => ?_)
                obtain ⟨er, e1⟩ := hq
                rw [e1] at I
                by_cases z : sp_al (g 0) (gn * 8 + k) (gn * 8 + e2)
                · rw [if_pos z] at er
                  subst er
                  refine bn_if1_eq (tgt := 55) hx hb dX2_contents_49 (by decide) ?_
                  refine lv_iconst (v := nI 0) hx hb dX2_contents_52 (by decide) ?_
                  refine lv_istore (lv' := [(4, .int (nI 0)), (5, .int (nI e2)), (3, .int (nI k)), (2, .int (nI cn)), (0, .ref (h 0)), (1, .int (nI gn))]) hx hb dX2_contents_53 hl (by decide) rfl (fun ls hl => ?_)
                  refine lv_iinc (v := nI (e2 + 1)) (lv' := [(5, .int (nI (e2 + 1))), (4, .int (nI 0)), (3, .int (nI k)), (2, .int (nI cn)), (0, .ref (h 0)), (1, .int (nI gn))]) hx hb dX2_contents_55 hl (k := 1) rfl (bn_inc _) (by decide) rfl (fun ls hl => ?_)
                  refine lv_goto (tgt := 26) hx hb dX2_contents_58 (by decide) ?_
                  exact ih2 (e2 + 1) 0 H locs ls (by omega) (by omega) (Or.inr ⟨rfl, fun y => y e2 (by omega) z⟩) I (lv_sub hl [0, 1, 2, 3, 4, 5] rfl)
                · rw [if_neg z] at er
                  subst er
                  refine bn_if0_eq (tgt := 55) hx hb dX2_contents_49 (by decide) ?_
                  refine lv_iinc (v := nI (e2 + 1)) (lv' := [(5, .int (nI (e2 + 1))), (4, .int (nI fb)), (3, .int (nI k)), (2, .int (nI cn)), (0, .ref (h 0)), (1, .int (nI gn))]) hx hb dX2_contents_55 hl (k := 0) rfl (bn_inc _) (by decide) rfl (fun ls hl => ?_)
                  refine lv_goto (tgt := 26) hx hb dX2_contents_58 (by decide) ?_
                  exact ih2 (e2 + 1) fb H locs ls (by omega) (by omega) (hfb.elim (fun q => Or.inl ⟨q.1, fun j hj => (Nat.lt_or_eq_of_le (Nat.le_of_lt_succ hj)).elim (q.2 j) (fun y => by rw [y]; exact z)⟩) (fun q => Or.inr ⟨q.1, fun y => q.2 (fun j hj => y j (by omega))⟩)) I (lv_sub hl [0, 1, 2, 3, 4, 5] rfl)
          refine lv_iconst (v := nI 1) hx hb dX2_contents_20 (by decide) ?_
          refine lv_istore (lv' := [(4, .int (nI 1)), (3, .int (nI k)), (2, .int (nI cn)), (0, .ref (h 0)), (1, .int (nI gn))]) hx hb dX2_contents_21 hl (by decide) rfl (fun ls hl => ?_)
          refine lv_iconst (v := nI 0) hx hb dX2_contents_23 (by decide) ?_
          refine lv_istore (lv' := [(5, .int (nI 0)), (4, .int (nI 1)), (3, .int (nI k)), (2, .int (nI cn)), (0, .ref (h 0)), (1, .int (nI gn))]) hx hb dX2_contents_24 hl (by decide) rfl (fun ls hl => ?_)
          exact inner (k + 1) 0 1 H locs ls (by omega) (by omega) (Or.inl ⟨rfl, fun j hj => absurd hj (by omega)⟩) I hl
    refine lv_aload_n hx hb dX2_contents_0 rfl (lv_at hl 0 rfl) ?_
    refine lv_iload_n hx hb dX2_contents_1 rfl (lv_at hl 1 rfl) ?_
    refine bx_ci (wd := MW h dI dZ) (rest := []) F I (metX2_badGuest (nI gn)) (cwX2_badGuest F.1.2.2.2.2 ⟨by decide, by decide⟩) (q0 := 0) rfl rfl rfl hl.1 rfl (Nat.le_of_ble_eq_true rfl) dX2_contents_2 (fun rg ug H locs hq I => ?_)
    obtain ⟨hq, eg⟩ := hq
    rw [eg] at I
    rw [if_neg hg] at hq
    subst hq
    refine bn_if0_eq (tgt := 10) hx hb dX2_contents_5 (by decide) ?_
    refine lv_iconst (v := nI 0) hx hb dX2_contents_10 (by decide) ?_
    refine lv_istore_n (lv' := [(2, .int (nI 0)), (0, .ref (h 0)), (1, .int (nI gn))]) hx hb dX2_contents_11 rfl hl (by decide) rfl (fun ls hl => ?_)
    refine lv_iconst (v := nI 0) hx hb dX2_contents_12 (by decide) ?_
    refine lv_istore_n (lv' := [(3, .int (nI 0)), (2, .int (nI 0)), (0, .ref (h 0)), (1, .int (nI gn))]) hx hb dX2_contents_13 rfl hl (by decide) rfl (fun ls hl => ?_)
    exact loop 9 0 0 _ _ _ (by omega) (by omega) rfl I hl
set_option maxHeartbeats 4000000 in
theorem metX2_twins {l : Launch} {D : va_G} {h : Nat → Nat} {dI dZ : ClassId} {g : bz_S} (gu q : Int32) : bc_i l D (bz_T dI dZ) (MW h dI dZ) yX2_twins cX2_twins 5 .int rmX2_twins [.ref (h 0), .int gu, .int q] g (fun r u => r = sr_twins (g 0) gu q ∧ u = g) := by
  refine bc_i_of RX2 (by decide) rfl (Nat.le_of_ble_eq_true rfl) ?_
  intro p e s m args below meth c A Q ls F hl I hret
  have hx := F.1.1
  have hb := F.1.2.1
  have hl : lv_has ls 5 [(0, .ref (h 0)), (1, .int gu), (2, .int q)] := hl
  by_cases hg : bz_bg gu
  · refine lv_aload_n hx hb dX2_twins_0 rfl (lv_at hl 0 rfl) ?_
    refine lv_iload_n hx hb dX2_twins_1 rfl (lv_at hl 1 rfl) ?_
    refine bx_ci (wd := MW h dI dZ) (rest := []) F I (metX2_badGuest gu) (cwX2_badGuest F.1.2.2.2.2 ⟨by decide, by decide⟩) (q0 := 0) rfl rfl rfl hl.1 rfl (Nat.le_of_ble_eq_true rfl) dX2_twins_2 (fun rg ug H locs hq I => ?_)
    obtain ⟨hq, eg⟩ := hq
    rw [eg] at I
    rw [if_pos hg] at hq
    subst hq
    refine bn_if1_eq (tgt := 10) hx hb dX2_twins_5 (by decide) ?_
    refine lv_iconst (v := (-1)) hx hb dX2_twins_8 (by decide) ?_
    exact hret _ _ _ _ _ _ (⟨(if_pos hg).symm, rfl⟩) I (rfl) dX2_twins_9
  · by_cases ha : bz_bp q
    · refine lv_aload_n hx hb dX2_twins_0 rfl (lv_at hl 0 rfl) ?_
      refine lv_iload_n hx hb dX2_twins_1 rfl (lv_at hl 1 rfl) ?_
      refine bx_ci (wd := MW h dI dZ) (rest := []) F I (metX2_badGuest gu) (cwX2_badGuest F.1.2.2.2.2 ⟨by decide, by decide⟩) (q0 := 0) rfl rfl rfl hl.1 rfl (Nat.le_of_ble_eq_true rfl) dX2_twins_2 (fun rg ug H locs hq I => ?_)
      obtain ⟨hq, eg⟩ := hq
      rw [eg] at I
      rw [if_neg hg] at hq
      subst hq
      refine bn_if0_eq (tgt := 10) hx hb dX2_twins_5 (by decide) ?_
      refine lv_aload_n hx hb dX2_twins_10 rfl (lv_at hl 0 rfl) ?_
      refine lv_iload_n hx hb dX2_twins_11 rfl (lv_at hl 2 rfl) ?_
      refine bx_ci (wd := MW h dI dZ) (rest := []) F I (metX2_badPage q) (cwX2_badPage F.1.2.2.2.2 ⟨by decide, by decide⟩) (q0 := 0) rfl rfl rfl hl.1 rfl (Nat.le_of_ble_eq_true rfl) dX2_twins_12 (fun rg ug H locs hq I => ?_)
      obtain ⟨hq, eg⟩ := hq
      rw [eg] at I
      rw [if_pos ha] at hq
      subst hq
      refine bn_if1_eq (tgt := 21) hx hb dX2_twins_15 (by decide) ?_
      refine lv_bipush (v := (-2)) hx hb dX2_twins_18 (by decide) ?_
      exact hret _ _ _ _ _ _ (⟨by rw [sr_twins, if_neg hg, if_pos ha], rfl⟩) I (rfl) dX2_twins_20
    · obtain ⟨gn, hgn, rfl⟩ := bz_bg_no hg
      obtain ⟨qn, hqn, rfl⟩ := bz_bp_no ha
      have loop : ∀ (n k cn : Nat) (H : Heap) (locs : List Loc) (ls : Array Slot), k ≤ 24 → 24 < k + n → cn = sp_tw (g 0) (gn * 8 + qn) k → bx_I D A (MW h dI dZ g) s H locs → lv_has ls 5 [(4, .int (nI k)), (3, .int (nI cn)), (0, .ref (h 0)), (1, .int (nI gn)), (2, .int (nI qn))] → W p l e rmX2_twins s m args below meth c H locs 0 0 Q (F0 m 26 ls []) := by
        intro n
        induction n with
        | zero => intro k cn H locs ls h1 h2; exact absurd h2 (by omega)
        | succ n ih =>
          intro k cn H locs ls h1 h2 ec I hl
          refine lv_iload hx hb dX2_twins_26 (lv_at hl 0 rfl) ?_
          refine lv_bipush (v := nI 24) hx hb dX2_twins_28 (by decide) ?_
          refine bn_ge (tgt := 57) hx hb dX2_twins_30 (by decide) (by omega) (by omega) (fun c1 => ?_) (fun c1 => ?_)
          · have e24 : k = 24 := by omega
            subst e24
            refine lv_iload_n hx hb dX2_twins_57 rfl (lv_at hl 1 rfl) ?_
            exact hret _ _ _ _ _ _ (⟨by rw [sr_twins, if_neg hg, if_neg ha, nI_clamp (by omega), nI_clamp (by omega), ec], rfl⟩) I (rfl) dX2_twins_58
          · refine lv_aload_n hx hb dX2_twins_33 rfl (lv_at hl 2 rfl) ?_
            refine lv_iload_n hx hb dX2_twins_34 rfl (lv_at hl 3 rfl) ?_
            refine lv_bipush (v := nI 8) hx hb dX2_twins_35 (by decide) ?_
            refine bn_mul hx hb dX2_twins_37 ?_
            refine lv_iload_n hx hb dX2_twins_38 rfl (lv_at hl 4 rfl) ?_
            refine bn_add hx hb dX2_twins_39 ?_
            refine lv_iload hx hb dX2_twins_40 (lv_at hl 0 rfl) ?_
            refine bx_ci (wd := MW h dI dZ) (rest := []) F I (metX2_alike (a := gn * 8 + qn) (b := k) (by omega) (by omega)) (cwX2_alike F.1.2.2.2.2 ⟨by decide, by decide⟩) (q0 := 0) rfl rfl rfl hl.1 rfl (Nat.le_of_ble_eq_true rfl) dX2_twins_42 (fun r1 v1 H locs hq I => ?_)
            obtain ⟨er, e1⟩ := hq
            rw [e1] at I
            by_cases z : sp_al (g 0) (gn * 8 + qn) k
            · rw [if_pos z] at er
              subst er
              refine bn_if1_eq (tgt := 51) hx hb dX2_twins_45 (by decide) ?_
              refine lv_iinc (v := nI (cn + 1)) (lv' := [(3, .int (nI (cn + 1))), (4, .int (nI k)), (0, .ref (h 0)), (1, .int (nI gn)), (2, .int (nI qn))]) hx hb dX2_twins_48 hl (k := 1) rfl (bn_inc _) (by decide) rfl (fun ls hl => ?_)
              refine lv_iinc (v := nI (k + 1)) (lv' := [(4, .int (nI (k + 1))), (3, .int (nI (cn + 1))), (0, .ref (h 0)), (1, .int (nI gn)), (2, .int (nI qn))]) hx hb dX2_twins_51 hl (k := 1) rfl (bn_inc _) (by decide) rfl (fun ls hl => ?_)
              refine lv_goto (tgt := 26) hx hb dX2_twins_54 (by decide) ?_
              exact ih (k + 1) (cn + 1) H locs ls (by omega) (by omega) (by rw [sp_tw, if_pos z, ec]) I (lv_sub hl [0, 1, 2, 3, 4] rfl)
            · rw [if_neg z] at er
              subst er
              refine bn_if0_eq (tgt := 51) hx hb dX2_twins_45 (by decide) ?_
              refine lv_iinc (v := nI (k + 1)) (lv' := [(4, .int (nI (k + 1))), (3, .int (nI cn)), (0, .ref (h 0)), (1, .int (nI gn)), (2, .int (nI qn))]) hx hb dX2_twins_51 hl (k := 0) rfl (bn_inc _) (by decide) rfl (fun ls hl => ?_)
              refine lv_goto (tgt := 26) hx hb dX2_twins_54 (by decide) ?_
              exact ih (k + 1) cn H locs ls (by omega) (by omega) (by rw [sp_tw, if_neg z, ec]; rfl) I (lv_sub hl [0, 1, 2, 3, 4] rfl)
      refine lv_aload_n hx hb dX2_twins_0 rfl (lv_at hl 0 rfl) ?_
      refine lv_iload_n hx hb dX2_twins_1 rfl (lv_at hl 1 rfl) ?_
      refine bx_ci (wd := MW h dI dZ) (rest := []) F I (metX2_badGuest (nI gn)) (cwX2_badGuest F.1.2.2.2.2 ⟨by decide, by decide⟩) (q0 := 0) rfl rfl rfl hl.1 rfl (Nat.le_of_ble_eq_true rfl) dX2_twins_2 (fun rg ug H locs hq I => ?_)
      obtain ⟨hq, eg⟩ := hq
      rw [eg] at I
      rw [if_neg hg] at hq
      subst hq
      refine bn_if0_eq (tgt := 10) hx hb dX2_twins_5 (by decide) ?_
      refine lv_aload_n hx hb dX2_twins_10 rfl (lv_at hl 0 rfl) ?_
      refine lv_iload_n hx hb dX2_twins_11 rfl (lv_at hl 2 rfl) ?_
      refine bx_ci (wd := MW h dI dZ) (rest := []) F I (metX2_badPage (nI qn)) (cwX2_badPage F.1.2.2.2.2 ⟨by decide, by decide⟩) (q0 := 0) rfl rfl rfl hl.1 rfl (Nat.le_of_ble_eq_true rfl) dX2_twins_12 (fun rg ug H locs hq I => ?_)
      obtain ⟨hq, eg⟩ := hq
      rw [eg] at I
      rw [if_neg ha] at hq
      subst hq
      refine bn_if0_eq (tgt := 21) hx hb dX2_twins_15 (by decide) ?_
      refine lv_iconst (v := nI 0) hx hb dX2_twins_21 (by decide) ?_
      refine lv_istore_n (lv' := [(3, .int (nI 0)), (0, .ref (h 0)), (1, .int (nI gn)), (2, .int (nI qn))]) hx hb dX2_twins_22 rfl hl (by decide) rfl (fun ls hl => ?_)
      refine lv_iconst (v := nI 0) hx hb dX2_twins_23 (by decide) ?_
      refine lv_istore (lv' := [(4, .int (nI 0)), (3, .int (nI 0)), (0, .ref (h 0)), (1, .int (nI gn)), (2, .int (nI qn))]) hx hb dX2_twins_24 hl (by decide) rfl (fun ls hl => ?_)
      exact loop 25 0 0 _ _ _ (by omega) (by omega) rfl I hl
end
section
/-! the constructors -/
/-- a constructor: its object has the world ws0, and WD behind it -/
def bc_n (l : Launch) (D : va_G) (tys : List (ClassId × FieldType)) (ws0 : va_W) (WD : (Nat → Nat) → bz_S → va_W) (y : MethodName) (b : ByteArray) (nL : Nat) (rm : Room) (av : List Value) (mc ms : Nat) (post : (Nat → Nat) × bz_S → Prop) : Prop :=
  ∀ sz : Nat, Met l y (ws_ y b nL none) rm (bc_Pre D tys ws0 av sz) (va_Qv post (fun u t => bc_B D tys (WD u.1) (va_A ws0 sz) u.2 t) (va_A ws0 sz)) mc ms (va_A ws0 sz)
theorem bc_n_of {l : Launch} {D : va_G} {tys : List (ClassId × FieldType)} {ws0 : va_W} {WD : (Nat → Nat) → bz_S → va_W} {y : MethodName} {b : ByteArray} {nL mc ms : Nat} {rm : Room} {av : List Value} {post : (Nat → Nat) × bz_S → Prop} (own : String) (hy : plainName y.cls = true) (hown : y.cls = own) (hn : (lg_sl av).length ≤ nL) (body : ∀ (p : Program) (e : Env) (s : State) (m : MethodId) (args : Array Value) (below : List Frame) (meth : Method) (c : Code) (A : Nat → Prop) (Q : State → Prop) (ls : Array Slot), bx_F p m c b nL s args own meth none D tys A → meth.name = y.name → lv_has ls nL (lv_args 0 av) → bx_I D A ws0 s s.heap [] →
    (∀ (pc : Nat) (H : Heap) (locs : List Loc) (ls : Array Slot) (u : (Nat → Nat) × bz_S), post u → bx_I D A (WD u.1 u.2) s H locs → decode b pc = .ok (.return_, 1) → W p l e rm s m args below meth c H locs mc ms Q (F0 m pc ls [])) →
    W p l e rm s m args below meth c s.heap [] 0 0 Q (F0 m 0 ls [])) : bc_n l D tys ws0 WD y b nL rm av mc ms post := by
  intro sz
  subst hown
  refine Met.ofW (cc := b) (maxL := nL) (ret := none) hy rfl ?_
  intro p e s m args below meth c s₁ B hml hv
  obtain ⟨rfl, hsz, hP, hK, hD0⟩ := hv
  have hts := atoms_spec (ws := ws_ y b nL none) B.pre
  have hts : ∀ w ∈ lw_all, w.before _ s = true := fun w h => hts w (List.mem_cons_of_mem _ h)
  subst hsz
  have hl := lv_entry av (n := nL) hn
  rw [lg_entry_eq]
  have F : bx_F p m c b nL s av.toArray y.cls meth none D tys (va_A ws0 s.heap.size) := ⟨⟨B.exec, B.bytes, hml, findClass_of_methodNamed B.named, hts⟩, B.returns, B.notSynchronized, hK, fun q h => Or.inr h⟩
  refine body p e s m av.toArray below meth c _ _ _ F (name_of_methodNamed B.named B.method).1 hl ⟨hP, hD0.self, va_S.rf⟩ ?_
  intro pc H locs ls u hp I hd
  exact W.vret F.1.1 F.1.2.1 F.2.1 (fun t ht hW => ⟨⟨u, rfl, hp, by rw [ht]; exact I.1, va_K.moved hW.alike hK, I.2.1⟩, I.2.2.F ht⟩) I.2.2.2.2 hd F.2.2.1
theorem bz_cI {D : va_G} {cl : List vw_C} {tys : List (ClassId × FieldType)} {U : State} {c1 c2 : ClassId} (hK : va_K D cl tys U) (i j : Nat) (h1 : tys[i]? = some (c1, .int)) (h2 : tys[j]? = some (c2, .int)) : c1 = c2 := by
  have r1 : U.vm.findClass ("[" ++ FieldType.toString .int) = some c1 := (hK.2 i _ h1).2
  have r2 : U.vm.findClass ("[" ++ FieldType.toString .int) = some c2 := (hK.2 j _ h2).2
  exact Option.some.inj (r1.symm.trans r2)
theorem bz_cZ {D : va_G} {cl : List vw_C} {tys : List (ClassId × FieldType)} {U : State} {c1 c2 : ClassId} (hK : va_K D cl tys U) (i j : Nat) (h1 : tys[i]? = some (c1, .boolean)) (h2 : tys[j]? = some (c2, .boolean)) : c1 = c2 := by
  have r1 : U.vm.findClass ("[" ++ FieldType.toString .boolean) = some c1 := (hK.2 i _ h1).2
  have r2 : U.vm.findClass ("[" ++ FieldType.toString .boolean) = some c2 := (hK.2 j _ h2).2
  exact Option.some.inj (r1.symm.trans r2)
def BN (a : Nat) : va_W := [(a, .inr (0, [.null, .null, .int 0, .null, .null, .null, .int 0, .null, .null, .null, .null, .null]))]
def bz_hh (a q1 q2 q3 q4 q5 q6 q7 q8 q9 q10 : Nat) : Nat → Nat := fun k => match k with
  | 0 => a
  | 1 => q1
  | 2 => q2
  | 3 => q3
  | 4 => q4
  | 5 => q5
  | 6 => q6
  | 7 => q7
  | 8 => q8
  | 9 => q9
  | _ => q10
def bz_g0 (n : Int32) : bz_S := fun k => if k = 10 then (fun j => if j = 0 then n else 0) else (fun _ => 0)
/-- a new BalloonShare: every page is nowhere, one share a guest -/
theorem bz_new {n : Nat} {u : bz_S} (h1 : 3 ≤ n) (h2 : n ≤ 16) (hE : ∀ k, k ≠ 0 → k ≠ 1 → k ≠ 7 → u k = bz_g0 (nI n) k) (hm : ∀ j, j < 24 → u 0 j = -1 ∧ u 1 j = -1) (hs : ∀ j, j < 3 → u 7 j = nI 1) : bz_RR n u (fun _ => 0) (fun _ => nI 1) := by
  refine ⟨⟨⟨h1, h2⟩, ?_, ⟨0, by omega, ?_⟩, fun p hp => Or.inl (hm p hp), fun f hf => ?_, fun t ht => ?_⟩, fun p hp w hw => ?_, hs⟩
  · rw [hE 10 (by decide) (by decide) (by decide)]; rfl
  · rw [hE 10 (by decide) (by decide) (by decide)]; rfl
  · rw [hE 3 (by decide) (by decide) (by decide), bz_ct_none 24 (fun q hq z => bz_m1 (show f < 2 ^ 31 by omega) ((hm q hq).1.symm.trans z))]; rfl
  · rw [hE 6 (by decide) (by decide) (by decide), bz_ct_none 24 (fun q hq z => bz_m1 (show t < 2 ^ 31 by omega) ((hm q hq).2.symm.trans z))]; rfl
  · exact (bz_vl_0 (hm p hp).1 (hm p hp).2).symm
set_option maxHeartbeats 4000000 in
theorem metX1_init {l : Launch} {D : va_G} {dI dZ : ClassId} {a : Nat} (x : Int32) : bc_n l D (bz_T dI dZ) (BN a) (fun h g => BW h dI dZ g) yX1_init cX1_init 4 rmX1_init [.ref a, .int x] 10 273 (fun u => u.1 0 = a ∧ ∃ n, bz_RR n u.2 (fun _ => 0) (fun _ => nI 1)) := by
  refine bc_n_of RX1 (by decide) rfl (Nat.le_of_ble_eq_true rfl) ?_
  intro p e s m args below meth c A Q ls F hin hl I hret
  have hin : meth.name = "<init>" := hin
  have hx := F.1.1
  have hb := F.1.2.1
  have hml := F.1.2.2.1
  have hown := F.1.2.2.2.1
  have hts := F.1.2.2.2.2
  have hK := F.2.2.2.1
  have hA := F.2.2.2.2
  have hl : lv_has ls 4 [(0, .ref a), (1, .int x)] := hl
  obtain ⟨hP, hD, hS⟩ := I
  unfold BN at hP hD
  refine lv_aload_n hx hb dX1_init_0 rfl (lv_at hl 0 rfl) ?_
  refine W.objInit hx hb hown (hts _ q25) (hts _ q26) (hts _ q27) rfl (by rw [hml]; exact hl.1) rfl dX1_init_1 (Nat.le_of_ble_eq_true rfl) (Nat.le_of_ble_eq_true rfl) ?_
  refine W.eq (g2 := F0 m 4 ls []) rfl ?_
  refine lv_aload_n hx hb dX1_init_4 rfl (lv_at hl 0 rfl) ?_
  refine lv_bipush (v := nI 24) hx hb dX1_init_5 (by decide) ?_
  refine va_newa (atype := .int) (a0 := (24, .inl (fun _ => 0))) (ty := .int) (N' := 24) hx hb (hts _ q65) rfl hK hP hD hS hA (fun _ => rfl) (by decide) (by decide) (Nat.le_of_ble_eq_true rfl) (Nat.le_of_ble_eq_true rfl) (Nat.le_of_ble_eq_true rfl) dX1_init_7 (fun q1_ cA H hK1 hP hD hS => ?_)
  have ec : cA = dI := bz_cI hK1 2 0 rfl rfl
  rw [ec] at hP hD
  clear hK1 ec cA
  refine W.widen (k := 1) (n := 24) (Nat.le_of_ble_eq_true rfl) (Nat.le_of_ble_eq_true rfl) ?_
  refine va_putF (D := D) (ci := 0) (v := .ref q1_) (ty := .array .int) (C := RX1) (T := TX1) (N := 12) hx hb hts in_X1 tyX1 tyX1_ok nmX1 hown hK hP hD hS 0 rfl rfl 0 (by decide) (hts _ q28) (fun _ h9 => h9) rfl hin rfl (by decide +kernel) rfl rfl (Nat.le_of_ble_eq_true rfl) dX1_init_9 (fun H locs hP hD hS => ?_)
  have hP : va_P D vwCl [(a, .inr (0, [.ref q1_, .null, .int 0, .null, .null, .null, .int 0, .null, .null, .null, .null, .null])), (q1_, .inl (dI, 24, .inl (fun _ => 0)))] H := hP
  have hD : va_D A [(a, .inr (0, [.ref q1_, .null, .int 0, .null, .null, .null, .int 0, .null, .null, .null, .null, .null])), (q1_, .inl (dI, 24, .inl (fun _ => 0)))] := hD
  refine lv_aload_n hx hb dX1_init_12 rfl (lv_at hl 0 rfl) ?_
  refine lv_bipush (v := nI 24) hx hb dX1_init_13 (by decide) ?_
  refine va_newa (atype := .int) (a0 := (24, .inl (fun _ => 0))) (ty := .int) (N' := 24) hx hb (hts _ q65) rfl hK hP hD hS hA (fun _ => rfl) (by decide) (by decide) (Nat.le_of_ble_eq_true rfl) (Nat.le_of_ble_eq_true rfl) (Nat.le_of_ble_eq_true rfl) dX1_init_15 (fun q2_ cA H hK1 hP hD hS => ?_)
  have ec : cA = dI := bz_cI hK1 2 0 rfl rfl
  rw [ec] at hP hD
  clear hK1 ec cA
  refine W.widen (k := 2) (n := 48) (Nat.le_of_ble_eq_true rfl) (Nat.le_of_ble_eq_true rfl) ?_
  refine va_putF (D := D) (ci := 0) (v := .ref q2_) (ty := .array .int) (C := RX1) (T := TX1) (N := 12) hx hb hts in_X1 tyX1 tyX1_ok nmX1 hown hK hP hD hS 0 rfl rfl 1 (by decide) (hts _ q29) (fun _ h9 => h9) rfl hin rfl (by decide +kernel) rfl rfl (Nat.le_of_ble_eq_true rfl) dX1_init_17 (fun H locs hP hD hS => ?_)
  have hP : va_P D vwCl [(a, .inr (0, [.ref q1_, .ref q2_, .int 0, .null, .null, .null, .int 0, .null, .null, .null, .null, .null])), (q1_, .inl (dI, 24, .inl (fun _ => 0))), (q2_, .inl (dI, 24, .inl (fun _ => 0)))] H := hP
  have hD : va_D A [(a, .inr (0, [.ref q1_, .ref q2_, .int 0, .null, .null, .null, .int 0, .null, .null, .null, .null, .null])), (q1_, .inl (dI, 24, .inl (fun _ => 0))), (q2_, .inl (dI, 24, .inl (fun _ => 0)))] := hD
  refine lv_aload_n hx hb dX1_init_20 rfl (lv_at hl 0 rfl) ?_
  refine lv_bipush (v := nI 64) hx hb dX1_init_21 (by decide) ?_
  refine va_newa (atype := .int) (a0 := (64, .inl (fun _ => 0))) (ty := .int) (N' := 64) hx hb (hts _ q65) rfl hK hP hD hS hA (fun _ => rfl) (by decide) (by decide) (Nat.le_of_ble_eq_true rfl) (Nat.le_of_ble_eq_true rfl) (Nat.le_of_ble_eq_true rfl) dX1_init_23 (fun q3_ cA H hK1 hP hD hS => ?_)
  have ec : cA = dI := bz_cI hK1 2 0 rfl rfl
  rw [ec] at hP hD
  clear hK1 ec cA
  refine W.widen (k := 3) (n := 112) (Nat.le_of_ble_eq_true rfl) (Nat.le_of_ble_eq_true rfl) ?_
  refine va_putF (D := D) (ci := 0) (v := .ref q3_) (ty := .array .int) (C := RX1) (T := TX1) (N := 12) hx hb hts in_X1 tyX1 tyX1_ok nmX1 hown hK hP hD hS 0 rfl rfl 3 (by decide) (hts _ q31) (fun _ h9 => h9) rfl hin rfl (by decide +kernel) rfl rfl (Nat.le_of_ble_eq_true rfl) dX1_init_25 (fun H locs hP hD hS => ?_)
  have hP : va_P D vwCl [(a, .inr (0, [.ref q1_, .ref q2_, .int 0, .ref q3_, .null, .null, .int 0, .null, .null, .null, .null, .null])), (q1_, .inl (dI, 24, .inl (fun _ => 0))), (q2_, .inl (dI, 24, .inl (fun _ => 0))), (q3_, .inl (dI, 64, .inl (fun _ => 0)))] H := hP
  have hD : va_D A [(a, .inr (0, [.ref q1_, .ref q2_, .int 0, .ref q3_, .null, .null, .int 0, .null, .null, .null, .null, .null])), (q1_, .inl (dI, 24, .inl (fun _ => 0))), (q2_, .inl (dI, 24, .inl (fun _ => 0))), (q3_, .inl (dI, 64, .inl (fun _ => 0)))] := hD
  refine lv_aload_n hx hb dX1_init_28 rfl (lv_at hl 0 rfl) ?_
  refine lv_bipush (v := nI 16) hx hb dX1_init_29 (by decide) ?_
  refine va_newa (atype := .int) (a0 := (16, .inl (fun _ => 0))) (ty := .int) (N' := 16) hx hb (hts _ q65) rfl hK hP hD hS hA (fun _ => rfl) (by decide) (by decide) (Nat.le_of_ble_eq_true rfl) (Nat.le_of_ble_eq_true rfl) (Nat.le_of_ble_eq_true rfl) dX1_init_31 (fun q4_ cA H hK1 hP hD hS => ?_)
  have ec : cA = dI := bz_cI hK1 2 0 rfl rfl
  rw [ec] at hP hD
  clear hK1 ec cA
  refine W.widen (k := 4) (n := 128) (Nat.le_of_ble_eq_true rfl) (Nat.le_of_ble_eq_true rfl) ?_
  refine va_putF (D := D) (ci := 0) (v := .ref q4_) (ty := .array .int) (C := RX1) (T := TX1) (N := 12) hx hb hts in_X1 tyX1 tyX1_ok nmX1 hown hK hP hD hS 0 rfl rfl 4 (by decide) (hts _ q32) (fun _ h9 => h9) rfl hin rfl (by decide +kernel) rfl rfl (Nat.le_of_ble_eq_true rfl) dX1_init_33 (fun H locs hP hD hS => ?_)
  have hP : va_P D vwCl [(a, .inr (0, [.ref q1_, .ref q2_, .int 0, .ref q3_, .ref q4_, .null, .int 0, .null, .null, .null, .null, .null])), (q1_, .inl (dI, 24, .inl (fun _ => 0))), (q2_, .inl (dI, 24, .inl (fun _ => 0))), (q3_, .inl (dI, 64, .inl (fun _ => 0))), (q4_, .inl (dI, 16, .inl (fun _ => 0)))] H := hP
  have hD : va_D A [(a, .inr (0, [.ref q1_, .ref q2_, .int 0, .ref q3_, .ref q4_, .null, .int 0, .null, .null, .null, .null, .null])), (q1_, .inl (dI, 24, .inl (fun _ => 0))), (q2_, .inl (dI, 24, .inl (fun _ => 0))), (q3_, .inl (dI, 64, .inl (fun _ => 0))), (q4_, .inl (dI, 16, .inl (fun _ => 0)))] := hD
  refine lv_aload_n hx hb dX1_init_36 rfl (lv_at hl 0 rfl) ?_
  refine lv_bipush (v := nI 16) hx hb dX1_init_37 (by decide) ?_
  refine va_newa (atype := .boolean) (a0 := (16, .inl (fun _ => 0))) (ty := .boolean) (N' := 16) hx hb (hts _ q66) rfl hK hP hD hS hA (fun _ => rfl) (by decide) (by decide) (Nat.le_of_ble_eq_true rfl) (Nat.le_of_ble_eq_true rfl) (Nat.le_of_ble_eq_true rfl) dX1_init_39 (fun q5_ cA H hK1 hP hD hS => ?_)
  have ec : cA = dZ := bz_cZ hK1 2 1 rfl rfl
  rw [ec] at hP hD
  clear hK1 ec cA
  refine W.widen (k := 5) (n := 144) (Nat.le_of_ble_eq_true rfl) (Nat.le_of_ble_eq_true rfl) ?_
  refine va_putF (D := D) (ci := 0) (v := .ref q5_) (ty := .array .boolean) (C := RX1) (T := TX1) (N := 12) hx hb hts in_X1 tyX1 tyX1_ok nmX1 hown hK hP hD hS 0 rfl rfl 5 (by decide) (hts _ q33) (fun _ h9 => h9) rfl hin rfl (by decide +kernel) rfl rfl (Nat.le_of_ble_eq_true rfl) dX1_init_41 (fun H locs hP hD hS => ?_)
  have hP : va_P D vwCl [(a, .inr (0, [.ref q1_, .ref q2_, .int 0, .ref q3_, .ref q4_, .ref q5_, .int 0, .null, .null, .null, .null, .null])), (q1_, .inl (dI, 24, .inl (fun _ => 0))), (q2_, .inl (dI, 24, .inl (fun _ => 0))), (q3_, .inl (dI, 64, .inl (fun _ => 0))), (q4_, .inl (dI, 16, .inl (fun _ => 0))), (q5_, .inl (dZ, 16, .inl (fun _ => 0)))] H := hP
  have hD : va_D A [(a, .inr (0, [.ref q1_, .ref q2_, .int 0, .ref q3_, .ref q4_, .ref q5_, .int 0, .null, .null, .null, .null, .null])), (q1_, .inl (dI, 24, .inl (fun _ => 0))), (q2_, .inl (dI, 24, .inl (fun _ => 0))), (q3_, .inl (dI, 64, .inl (fun _ => 0))), (q4_, .inl (dI, 16, .inl (fun _ => 0))), (q5_, .inl (dZ, 16, .inl (fun _ => 0)))] := hD
  refine lv_aload_n hx hb dX1_init_44 rfl (lv_at hl 0 rfl) ?_
  refine lv_bipush (v := nI 96) hx hb dX1_init_45 (by decide) ?_
  refine va_newa (atype := .int) (a0 := (96, .inl (fun _ => 0))) (ty := .int) (N' := 96) hx hb (hts _ q65) rfl hK hP hD hS hA (fun _ => rfl) (by decide) (by decide) (Nat.le_of_ble_eq_true rfl) (Nat.le_of_ble_eq_true rfl) (Nat.le_of_ble_eq_true rfl) dX1_init_47 (fun q6_ cA H hK1 hP hD hS => ?_)
  have ec : cA = dI := bz_cI hK1 2 0 rfl rfl
  rw [ec] at hP hD
  clear hK1 ec cA
  refine W.widen (k := 6) (n := 240) (Nat.le_of_ble_eq_true rfl) (Nat.le_of_ble_eq_true rfl) ?_
  refine va_putF (D := D) (ci := 0) (v := .ref q6_) (ty := .array .int) (C := RX1) (T := TX1) (N := 12) hx hb hts in_X1 tyX1 tyX1_ok nmX1 hown hK hP hD hS 0 rfl rfl 7 (by decide) (hts _ q35) (fun _ h9 => h9) rfl hin rfl (by decide +kernel) rfl rfl (Nat.le_of_ble_eq_true rfl) dX1_init_49 (fun H locs hP hD hS => ?_)
  have hP : va_P D vwCl [(a, .inr (0, [.ref q1_, .ref q2_, .int 0, .ref q3_, .ref q4_, .ref q5_, .int 0, .ref q6_, .null, .null, .null, .null])), (q1_, .inl (dI, 24, .inl (fun _ => 0))), (q2_, .inl (dI, 24, .inl (fun _ => 0))), (q3_, .inl (dI, 64, .inl (fun _ => 0))), (q4_, .inl (dI, 16, .inl (fun _ => 0))), (q5_, .inl (dZ, 16, .inl (fun _ => 0))), (q6_, .inl (dI, 96, .inl (fun _ => 0)))] H := hP
  have hD : va_D A [(a, .inr (0, [.ref q1_, .ref q2_, .int 0, .ref q3_, .ref q4_, .ref q5_, .int 0, .ref q6_, .null, .null, .null, .null])), (q1_, .inl (dI, 24, .inl (fun _ => 0))), (q2_, .inl (dI, 24, .inl (fun _ => 0))), (q3_, .inl (dI, 64, .inl (fun _ => 0))), (q4_, .inl (dI, 16, .inl (fun _ => 0))), (q5_, .inl (dZ, 16, .inl (fun _ => 0))), (q6_, .inl (dI, 96, .inl (fun _ => 0)))] := hD
  refine lv_aload_n hx hb dX1_init_52 rfl (lv_at hl 0 rfl) ?_
  refine lv_bipush (v := nI 24) hx hb dX1_init_53 (by decide) ?_
  refine va_newa (atype := .int) (a0 := (24, .inl (fun _ => 0))) (ty := .int) (N' := 24) hx hb (hts _ q65) rfl hK hP hD hS hA (fun _ => rfl) (by decide) (by decide) (Nat.le_of_ble_eq_true rfl) (Nat.le_of_ble_eq_true rfl) (Nat.le_of_ble_eq_true rfl) dX1_init_55 (fun q7_ cA H hK1 hP hD hS => ?_)
  have ec : cA = dI := bz_cI hK1 2 0 rfl rfl
  rw [ec] at hP hD
  clear hK1 ec cA
  refine W.widen (k := 7) (n := 264) (Nat.le_of_ble_eq_true rfl) (Nat.le_of_ble_eq_true rfl) ?_
  refine va_putF (D := D) (ci := 0) (v := .ref q7_) (ty := .array .int) (C := RX1) (T := TX1) (N := 12) hx hb hts in_X1 tyX1 tyX1_ok nmX1 hown hK hP hD hS 0 rfl rfl 8 (by decide) (hts _ q36) (fun _ h9 => h9) rfl hin rfl (by decide +kernel) rfl rfl (Nat.le_of_ble_eq_true rfl) dX1_init_57 (fun H locs hP hD hS => ?_)
  have hP : va_P D vwCl [(a, .inr (0, [.ref q1_, .ref q2_, .int 0, .ref q3_, .ref q4_, .ref q5_, .int 0, .ref q6_, .ref q7_, .null, .null, .null])), (q1_, .inl (dI, 24, .inl (fun _ => 0))), (q2_, .inl (dI, 24, .inl (fun _ => 0))), (q3_, .inl (dI, 64, .inl (fun _ => 0))), (q4_, .inl (dI, 16, .inl (fun _ => 0))), (q5_, .inl (dZ, 16, .inl (fun _ => 0))), (q6_, .inl (dI, 96, .inl (fun _ => 0))), (q7_, .inl (dI, 24, .inl (fun _ => 0)))] H := hP
  have hD : va_D A [(a, .inr (0, [.ref q1_, .ref q2_, .int 0, .ref q3_, .ref q4_, .ref q5_, .int 0, .ref q6_, .ref q7_, .null, .null, .null])), (q1_, .inl (dI, 24, .inl (fun _ => 0))), (q2_, .inl (dI, 24, .inl (fun _ => 0))), (q3_, .inl (dI, 64, .inl (fun _ => 0))), (q4_, .inl (dI, 16, .inl (fun _ => 0))), (q5_, .inl (dZ, 16, .inl (fun _ => 0))), (q6_, .inl (dI, 96, .inl (fun _ => 0))), (q7_, .inl (dI, 24, .inl (fun _ => 0)))] := hD
  refine lv_aload_n hx hb dX1_init_60 rfl (lv_at hl 0 rfl) ?_
  refine lv_iconst (v := nI 3) hx hb dX1_init_61 (by decide) ?_
  refine va_newa (atype := .int) (a0 := (3, .inl (fun _ => 0))) (ty := .int) (N' := 3) hx hb (hts _ q65) rfl hK hP hD hS hA (fun _ => rfl) (by decide) (by decide) (Nat.le_of_ble_eq_true rfl) (Nat.le_of_ble_eq_true rfl) (Nat.le_of_ble_eq_true rfl) dX1_init_62 (fun q8_ cA H hK1 hP hD hS => ?_)
  have ec : cA = dI := bz_cI hK1 2 0 rfl rfl
  rw [ec] at hP hD
  clear hK1 ec cA
  refine W.widen (k := 8) (n := 267) (Nat.le_of_ble_eq_true rfl) (Nat.le_of_ble_eq_true rfl) ?_
  refine va_putF (D := D) (ci := 0) (v := .ref q8_) (ty := .array .int) (C := RX1) (T := TX1) (N := 12) hx hb hts in_X1 tyX1 tyX1_ok nmX1 hown hK hP hD hS 0 rfl rfl 9 (by decide) (hts _ q37) (fun _ h9 => h9) rfl hin rfl (by decide +kernel) rfl rfl (Nat.le_of_ble_eq_true rfl) dX1_init_64 (fun H locs hP hD hS => ?_)
  have hP : va_P D vwCl [(a, .inr (0, [.ref q1_, .ref q2_, .int 0, .ref q3_, .ref q4_, .ref q5_, .int 0, .ref q6_, .ref q7_, .ref q8_, .null, .null])), (q1_, .inl (dI, 24, .inl (fun _ => 0))), (q2_, .inl (dI, 24, .inl (fun _ => 0))), (q3_, .inl (dI, 64, .inl (fun _ => 0))), (q4_, .inl (dI, 16, .inl (fun _ => 0))), (q5_, .inl (dZ, 16, .inl (fun _ => 0))), (q6_, .inl (dI, 96, .inl (fun _ => 0))), (q7_, .inl (dI, 24, .inl (fun _ => 0))), (q8_, .inl (dI, 3, .inl (fun _ => 0)))] H := hP
  have hD : va_D A [(a, .inr (0, [.ref q1_, .ref q2_, .int 0, .ref q3_, .ref q4_, .ref q5_, .int 0, .ref q6_, .ref q7_, .ref q8_, .null, .null])), (q1_, .inl (dI, 24, .inl (fun _ => 0))), (q2_, .inl (dI, 24, .inl (fun _ => 0))), (q3_, .inl (dI, 64, .inl (fun _ => 0))), (q4_, .inl (dI, 16, .inl (fun _ => 0))), (q5_, .inl (dZ, 16, .inl (fun _ => 0))), (q6_, .inl (dI, 96, .inl (fun _ => 0))), (q7_, .inl (dI, 24, .inl (fun _ => 0))), (q8_, .inl (dI, 3, .inl (fun _ => 0)))] := hD
  refine lv_aload_n hx hb dX1_init_67 rfl (lv_at hl 0 rfl) ?_
  refine lv_iconst (v := nI 3) hx hb dX1_init_68 (by decide) ?_
  refine va_newa (atype := .int) (a0 := (3, .inl (fun _ => 0))) (ty := .int) (N' := 3) hx hb (hts _ q65) rfl hK hP hD hS hA (fun _ => rfl) (by decide) (by decide) (Nat.le_of_ble_eq_true rfl) (Nat.le_of_ble_eq_true rfl) (Nat.le_of_ble_eq_true rfl) dX1_init_69 (fun q9_ cA H hK1 hP hD hS => ?_)
  have ec : cA = dI := bz_cI hK1 2 0 rfl rfl
  rw [ec] at hP hD
  clear hK1 ec cA
  refine W.widen (k := 9) (n := 270) (Nat.le_of_ble_eq_true rfl) (Nat.le_of_ble_eq_true rfl) ?_
  refine va_putF (D := D) (ci := 0) (v := .ref q9_) (ty := .array .int) (C := RX1) (T := TX1) (N := 12) hx hb hts in_X1 tyX1 tyX1_ok nmX1 hown hK hP hD hS 0 rfl rfl 10 (by decide) (hts _ q38) (fun _ h9 => h9) rfl hin rfl (by decide +kernel) rfl rfl (Nat.le_of_ble_eq_true rfl) dX1_init_71 (fun H locs hP hD hS => ?_)
  have hP : va_P D vwCl [(a, .inr (0, [.ref q1_, .ref q2_, .int 0, .ref q3_, .ref q4_, .ref q5_, .int 0, .ref q6_, .ref q7_, .ref q8_, .ref q9_, .null])), (q1_, .inl (dI, 24, .inl (fun _ => 0))), (q2_, .inl (dI, 24, .inl (fun _ => 0))), (q3_, .inl (dI, 64, .inl (fun _ => 0))), (q4_, .inl (dI, 16, .inl (fun _ => 0))), (q5_, .inl (dZ, 16, .inl (fun _ => 0))), (q6_, .inl (dI, 96, .inl (fun _ => 0))), (q7_, .inl (dI, 24, .inl (fun _ => 0))), (q8_, .inl (dI, 3, .inl (fun _ => 0))), (q9_, .inl (dI, 3, .inl (fun _ => 0)))] H := hP
  have hD : va_D A [(a, .inr (0, [.ref q1_, .ref q2_, .int 0, .ref q3_, .ref q4_, .ref q5_, .int 0, .ref q6_, .ref q7_, .ref q8_, .ref q9_, .null])), (q1_, .inl (dI, 24, .inl (fun _ => 0))), (q2_, .inl (dI, 24, .inl (fun _ => 0))), (q3_, .inl (dI, 64, .inl (fun _ => 0))), (q4_, .inl (dI, 16, .inl (fun _ => 0))), (q5_, .inl (dZ, 16, .inl (fun _ => 0))), (q6_, .inl (dI, 96, .inl (fun _ => 0))), (q7_, .inl (dI, 24, .inl (fun _ => 0))), (q8_, .inl (dI, 3, .inl (fun _ => 0))), (q9_, .inl (dI, 3, .inl (fun _ => 0)))] := hD
  refine lv_aload_n hx hb dX1_init_74 rfl (lv_at hl 0 rfl) ?_
  refine lv_iconst (v := nI 3) hx hb dX1_init_75 (by decide) ?_
  refine va_newa (atype := .int) (a0 := (3, .inl (fun _ => 0))) (ty := .int) (N' := 3) hx hb (hts _ q65) rfl hK hP hD hS hA (fun _ => rfl) (by decide) (by decide) (Nat.le_of_ble_eq_true rfl) (Nat.le_of_ble_eq_true rfl) (Nat.le_of_ble_eq_true rfl) dX1_init_76 (fun q10_ cA H hK1 hP hD hS => ?_)
  have ec : cA = dI := bz_cI hK1 2 0 rfl rfl
  rw [ec] at hP hD
  clear hK1 ec cA
  refine W.widen (k := 10) (n := 273) (Nat.le_of_ble_eq_true rfl) (Nat.le_of_ble_eq_true rfl) ?_
  refine va_putF (D := D) (ci := 0) (v := .ref q10_) (ty := .array .int) (C := RX1) (T := TX1) (N := 12) hx hb hts in_X1 tyX1 tyX1_ok nmX1 hown hK hP hD hS 0 rfl rfl 11 (by decide) (hts _ q39) (fun _ h9 => h9) rfl hin rfl (by decide +kernel) rfl rfl (Nat.le_of_ble_eq_true rfl) dX1_init_78 (fun H locs hP hD hS => ?_)
  have hP : va_P D vwCl [(a, .inr (0, [.ref q1_, .ref q2_, .int 0, .ref q3_, .ref q4_, .ref q5_, .int 0, .ref q6_, .ref q7_, .ref q8_, .ref q9_, .ref q10_])), (q1_, .inl (dI, 24, .inl (fun _ => 0))), (q2_, .inl (dI, 24, .inl (fun _ => 0))), (q3_, .inl (dI, 64, .inl (fun _ => 0))), (q4_, .inl (dI, 16, .inl (fun _ => 0))), (q5_, .inl (dZ, 16, .inl (fun _ => 0))), (q6_, .inl (dI, 96, .inl (fun _ => 0))), (q7_, .inl (dI, 24, .inl (fun _ => 0))), (q8_, .inl (dI, 3, .inl (fun _ => 0))), (q9_, .inl (dI, 3, .inl (fun _ => 0))), (q10_, .inl (dI, 3, .inl (fun _ => 0)))] H := hP
  have hD : va_D A [(a, .inr (0, [.ref q1_, .ref q2_, .int 0, .ref q3_, .ref q4_, .ref q5_, .int 0, .ref q6_, .ref q7_, .ref q8_, .ref q9_, .ref q10_])), (q1_, .inl (dI, 24, .inl (fun _ => 0))), (q2_, .inl (dI, 24, .inl (fun _ => 0))), (q3_, .inl (dI, 64, .inl (fun _ => 0))), (q4_, .inl (dI, 16, .inl (fun _ => 0))), (q5_, .inl (dZ, 16, .inl (fun _ => 0))), (q6_, .inl (dI, 96, .inl (fun _ => 0))), (q7_, .inl (dI, 24, .inl (fun _ => 0))), (q8_, .inl (dI, 3, .inl (fun _ => 0))), (q9_, .inl (dI, 3, .inl (fun _ => 0))), (q10_, .inl (dI, 3, .inl (fun _ => 0)))] := hD
  have at99 : ∀ (n : Nat) (ls : Array Slot), 3 ≤ n → n ≤ 16 → lv_has ls 4 [(2, .int (nI n)), (0, .ref (a)), (1, .int x)] → W p l e rmX1_init s m args below meth c H locs 10 273 Q (F0 m 99 ls []) := by
    intro n ls hn1 hn2 hl
    refine lv_aload_n hx hb dX1_init_99 rfl (lv_at hl 1 rfl) ?_
    refine lv_iload_n hx hb dX1_init_100 rfl (lv_at hl 0 rfl) ?_
    refine va_putF (D := D) (ci := 0) (v := .int (nI n)) (ty := .int) (C := RX1) (T := TX1) (N := 12) hx hb hts in_X1 tyX1 tyX1_ok nmX1 hown hK hP hD hS 0 rfl rfl 2 (by decide) (hts _ q30) (fun _ h9 => h9) rfl hin rfl (by decide +kernel) rfl rfl (Nat.le_of_ble_eq_true rfl) dX1_init_101 (fun H locs hP hD hS => ?_)
    obtain ⟨h, eh⟩ : ∃ h : Nat → Nat, h = bz_hh a q1_ q2_ q3_ q4_ q5_ q6_ q7_ q8_ q9_ q10_ := ⟨_, rfl⟩
    have e0 : a = h 0 := by rw [eh]; rfl
    have I : bx_I D A (BW h dI dZ (bz_g0 (nI n))) s H locs := ⟨by rw [eh]; exact hP, by rw [eh]; exact hD, hS⟩
    rw [e0] at hl
    have loop2 : ∀ (n2 i : Nat) (g' : bz_S) (H : Heap) (locs : List Loc) (ls : Array Slot), i ≤ 3 → 3 < i + n2 → (∀ k, k ≠ 0 → k ≠ 1 → k ≠ 7 → g' k = bz_g0 (nI n) k) → (∀ j, j < 24 → g' 0 j = -1 ∧ g' 1 j = -1) → (∀ j, j < i → g' 7 j = nI 1) → bx_I D A (BW h dI dZ g') s H locs → lv_has ls 4 [(3, .int (nI i)), (0, .ref (h 0)), (2, .int (nI n)), (1, .int x)] → W p l e rmX1_init s m args below meth c H locs 10 273 Q (F0 m 134 ls []) := by
      intro n2
      induction n2 with
      | zero => intro i g' H locs ls h1 h2; exact absurd h2 (by omega)
      | succ n2 ih =>
        intro i g' H locs ls h1 h2 hE hm hs I hl
        refine lv_iload_n hx hb dX1_init_134 rfl (lv_at hl 0 rfl) ?_
        refine lv_iconst (v := nI 3) hx hb dX1_init_135 (by decide) ?_
        refine bn_ge (tgt := 152) hx hb dX1_init_136 (by decide) (by omega) (by omega) (fun c1 => ?_) (fun c1 => ?_)
        · exact hret 152 H locs ls (h, g') ⟨e0.symm, n, bz_new hn1 hn2 hE hm (fun j hj => hs j (by omega))⟩ I dX1_init_152
        · refine lv_aload_n hx hb dX1_init_139 rfl (lv_at hl 1 rfl) ?_
          refine bs_sharesOf F I dX1_init_140 ?_
          refine lv_iload_n hx hb dX1_init_143 rfl (lv_at hl 0 rfl) ?_
          refine lv_iconst (v := nI 1) hx hb dX1_init_144 (by decide) ?_
          refine bs_st7 F I (by omega) dX1_init_145 (fun H locs u1 eu1 I => ?_)
          refine lv_iinc (v := nI (i + 1)) (lv' := [(3, .int (nI (i + 1))), (0, .ref (h 0)), (2, .int (nI n)), (1, .int x)]) hx hb dX1_init_146 hl (k := 0) rfl (bn_inc _) (by decide) rfl (fun ls hl => ?_)
          refine lv_goto (tgt := 134) hx hb dX1_init_149 (by decide) ?_
          exact ih (i + 1) u1 H locs ls (by omega) (by omega) (fun k k0 k1 k7 => by rw [eu1, bz_st_n k7]; exact hE k k0 k1 k7) (by rw [eu1]; exact hm) (fun j hj => by
            rw [eu1, bz_st_s]
            by_cases z : j = i
            · rw [z, bz_us]
            · rw [bz_un z]; exact hs j (by omega)) I hl
    have loop1 : ∀ (n2 i : Nat) (g' : bz_S) (H : Heap) (locs : List Loc) (ls : Array Slot), i ≤ 24 → 24 < i + n2 → (∀ k, k ≠ 0 → k ≠ 1 → k ≠ 7 → g' k = bz_g0 (nI n) k) → (∀ j, j < i → g' 0 j = -1 ∧ g' 1 j = -1) → bx_I D A (BW h dI dZ g') s H locs → lv_has ls 4 [(3, .int (nI i)), (0, .ref (h 0)), (2, .int (nI n)), (1, .int x)] → W p l e rmX1_init s m args below meth c H locs 10 273 Q (F0 m 106 ls []) := by
      intro n2
      induction n2 with
      | zero => intro i g' H locs ls h1 h2; exact absurd h2 (by omega)
      | succ n2 ih =>
        intro i g' H locs ls h1 h2 hE hm I hl
        refine lv_iload_n hx hb dX1_init_106 rfl (lv_at hl 0 rfl) ?_
        refine lv_bipush (v := nI 24) hx hb dX1_init_107 (by decide) ?_
        refine bn_ge (tgt := 132) hx hb dX1_init_109 (by decide) (by omega) (by omega) (fun c1 => ?_) (fun c1 => ?_)
        · refine lv_iconst (v := nI 0) hx hb dX1_init_132 (by decide) ?_
          refine lv_istore_n (lv' := [(3, .int (nI 0)), (0, .ref (h 0)), (2, .int (nI n)), (1, .int x)]) hx hb dX1_init_133 rfl hl (by decide) rfl (fun ls hl => ?_)
          exact loop2 4 0 g' H locs ls (by omega) (by omega) hE (fun j hj => hm j (by omega)) (fun j hj => absurd hj (by omega)) I hl
        · refine lv_aload_n hx hb dX1_init_112 rfl (lv_at hl 1 rfl) ?_
          refine bs_frameOf F I dX1_init_113 ?_
          refine lv_iload_n hx hb dX1_init_116 rfl (lv_at hl 0 rfl) ?_
          refine lv_iconst (v := (-1)) hx hb dX1_init_117 (by decide) ?_
          refine bs_st0 F I (by omega) dX1_init_118 (fun H locs u2 eu2 I => ?_)
          refine lv_aload_n hx hb dX1_init_119 rfl (lv_at hl 1 rfl) ?_
          refine bs_slotOf F I dX1_init_120 ?_
          refine lv_iload_n hx hb dX1_init_123 rfl (lv_at hl 0 rfl) ?_
          refine lv_iconst (v := (-1)) hx hb dX1_init_124 (by decide) ?_
          refine bs_st1 F I (by omega) dX1_init_125 (fun H locs u3 eu3 I => ?_)
          refine lv_iinc (v := nI (i + 1)) (lv' := [(3, .int (nI (i + 1))), (0, .ref (h 0)), (2, .int (nI n)), (1, .int x)]) hx hb dX1_init_126 hl (k := 0) rfl (bn_inc _) (by decide) rfl (fun ls hl => ?_)
          refine lv_goto (tgt := 106) hx hb dX1_init_129 (by decide) ?_
          exact ih (i + 1) u3 H locs ls (by omega) (by omega) (fun k k0 k1 k7 => by rw [eu3, bz_st_n k1, eu2, bz_st_n k0]; exact hE k k0 k1 k7) (fun j hj => by
            have a1 : u3 0 = upd (g' 0) i (-1) := by rw [eu3, eu2]; rfl
            have a2 : u3 1 = upd (g' 1) i (-1) := by rw [eu3, eu2]; rfl
            rw [a1, a2]
            by_cases z : j = i
            · rw [z, bz_us, bz_us]; exact ⟨rfl, rfl⟩
            · rw [bz_un z, bz_un z]; exact hm j (by omega)) I hl
    refine lv_iconst (v := nI 0) hx hb dX1_init_104 (by decide) ?_
    refine lv_istore_n (lv' := [(3, .int (nI 0)), (2, .int (nI n)), (0, .ref (h 0)), (1, .int x)]) hx hb dX1_init_105 rfl hl (by decide) rfl (fun ls hl => ?_)
    exact loop1 25 0 (bz_g0 (nI n)) H locs ls (by omega) (by omega) (fun _ _ _ _ => rfl) (fun j hj => absurd hj (by omega)) I (lv_sub hl [0, 2, 1, 3] rfl)
  refine lv_iload_n hx hb dX1_init_81 rfl (lv_at hl 1 rfl) ?_
  refine lv_istore_n (lv' := [(2, .int x), (0, .ref (a)), (1, .int x)]) hx hb dX1_init_82 rfl hl (by decide) rfl (fun ls hl => ?_)
  refine lv_iload_n hx hb dX1_init_83 rfl (lv_at hl 0 rfl) ?_
  refine lv_iconst (v := nI 3) hx hb dX1_init_84 (by decide) ?_
  refine lv_icmp_ge (tgt := 90) hx hb dX1_init_85 (by decide) (fun c1 => ?_) (fun c1 => ?_)
  · refine lv_iload_n hx hb dX1_init_90 rfl (lv_at hl 0 rfl) ?_
    refine lv_bipush (v := nI 16) hx hb dX1_init_91 (by decide) ?_
    refine lv_icmp_le (tgt := 99) hx hb dX1_init_93 (by decide) (fun c2 => ?_) (fun c2 => ?_)
    · obtain ⟨k, hk, rfl⟩ := nI_of2 (x := x) (M := nI 16) (n := 16) (by decide) (fun q => absurd (Int32.lt_of_le_of_lt c1 q) (by decide)) c2
      exact at99 k ls ((nI_leI (by decide) (by omega)).mp c1) hk hl
    · refine lv_bipush (v := nI 16) hx hb dX1_init_96 (by decide) ?_
      refine lv_istore_n (lv' := [(2, .int (nI 16)), (0, .ref (a)), (1, .int x)]) hx hb dX1_init_98 rfl hl (by decide) rfl (fun ls hl => ?_)
      exact at99 16 ls (by omega) (by omega) hl
  · refine lv_iconst (v := nI 3) hx hb dX1_init_88 (by decide) ?_
    refine lv_istore_n (lv' := [(2, .int (nI 3)), (0, .ref (a)), (1, .int x)]) hx hb dX1_init_89 rfl hl (by decide) rfl (fun ls hl => ?_)
    refine lv_iload_n hx hb dX1_init_90 rfl (lv_at hl 0 rfl) ?_
    refine lv_bipush (v := nI 16) hx hb dX1_init_91 (by decide) ?_
    refine bn_le (tgt := 99) hx hb dX1_init_93 (by decide) (by omega) (by omega) (fun c2 => ?_) (fun c2 => ?_)
    · exact at99 3 ls (by omega) (by omega) hl
    · exact absurd c2 (by omega)
def MN (a : Nat) : va_W := [(a, .inr (1, [.null, .null]))]
def bz_hm (a q1 q2 : Nat) : Nat → Nat := fun k => match k with
  | 0 => a
  | 1 => q1
  | _ => q2
def bz_m0 : bz_S := fun _ _ => 0
set_option maxHeartbeats 4000000 in
theorem metX2_init {l : Launch} {D : va_G} {dI dZ : ClassId} {a : Nat} (x : Int32) : bc_n l D (bz_T dI dZ) (MN a) (fun h g => MW h dI dZ g) yX2_init cX2_init 3 rmX2_init [.ref a, .int x] 2 99 (fun u => u.1 0 = a ∧ u.2 0 = (fun _ => 0) ∧ ∀ i, i < 3 → u.2 1 i = nI 1) := by
  refine bc_n_of RX2 (by decide) rfl (Nat.le_of_ble_eq_true rfl) ?_
  intro p e s m args below meth c A Q ls F hin hl I hret
  have hin : meth.name = "<init>" := hin
  have hx := F.1.1
  have hb := F.1.2.1
  have hml := F.1.2.2.1
  have hown := F.1.2.2.2.1
  have hts := F.1.2.2.2.2
  have hK := F.2.2.2.1
  have hA := F.2.2.2.2
  have hl : lv_has ls 3 [(0, .ref a), (1, .int x)] := hl
  obtain ⟨hP, hD, hS⟩ := I
  unfold MN at hP hD
  refine lv_aload_n hx hb dX2_init_0 rfl (lv_at hl 0 rfl) ?_
  refine W.objInit hx hb hown (hts _ q185) (hts _ q26) (hts _ q27) rfl (by rw [hml]; exact hl.1) rfl dX2_init_1 (Nat.le_of_ble_eq_true rfl) (Nat.le_of_ble_eq_true rfl) ?_
  refine W.eq (g2 := F0 m 4 ls []) rfl ?_
  refine lv_aload_n hx hb dX2_init_4 rfl (lv_at hl 0 rfl) ?_
  refine lv_bipush (v := nI 96) hx hb dX2_init_5 (by decide) ?_
  refine va_newa (atype := .int) (a0 := (96, .inl (fun _ => 0))) (ty := .int) (N' := 96) hx hb (hts _ q65) rfl hK hP hD hS hA (fun _ => rfl) (by decide) (by decide) (Nat.le_of_ble_eq_true rfl) (Nat.le_of_ble_eq_true rfl) (Nat.le_of_ble_eq_true rfl) dX2_init_7 (fun q1_ cA H hK1 hP hD hS => ?_)
  have ec : cA = dI := bz_cI hK1 2 0 rfl rfl
  rw [ec] at hP hD
  clear hK1 ec cA
  refine W.widen (k := 1) (n := 96) (Nat.le_of_ble_eq_true rfl) (Nat.le_of_ble_eq_true rfl) ?_
  refine va_putF (D := D) (ci := 1) (v := .ref q1_) (ty := .array .int) (C := RX2) (T := TX2) (N := 2) hx hb hts in_X2 tyX2 tyX2_ok nmX2 hown hK hP hD hS 0 rfl rfl 0 (by decide) (hts _ q186) (fun _ h9 => h9) rfl hin rfl (by decide +kernel) rfl rfl (Nat.le_of_ble_eq_true rfl) dX2_init_9 (fun H locs hP hD hS => ?_)
  have hP : va_P D vwCl [(a, .inr (1, [.ref q1_, .null])), (q1_, .inl (dI, 96, .inl (fun _ => 0)))] H := hP
  have hD : va_D A [(a, .inr (1, [.ref q1_, .null])), (q1_, .inl (dI, 96, .inl (fun _ => 0)))] := hD
  refine lv_aload_n hx hb dX2_init_12 rfl (lv_at hl 0 rfl) ?_
  refine lv_iconst (v := nI 3) hx hb dX2_init_13 (by decide) ?_
  refine va_newa (atype := .int) (a0 := (3, .inl (fun _ => 0))) (ty := .int) (N' := 3) hx hb (hts _ q65) rfl hK hP hD hS hA (fun _ => rfl) (by decide) (by decide) (Nat.le_of_ble_eq_true rfl) (Nat.le_of_ble_eq_true rfl) (Nat.le_of_ble_eq_true rfl) dX2_init_14 (fun q2_ cA H hK1 hP hD hS => ?_)
  have ec : cA = dI := bz_cI hK1 2 0 rfl rfl
  rw [ec] at hP hD
  clear hK1 ec cA
  refine W.widen (k := 2) (n := 99) (Nat.le_of_ble_eq_true rfl) (Nat.le_of_ble_eq_true rfl) ?_
  refine va_putF (D := D) (ci := 1) (v := .ref q2_) (ty := .array .int) (C := RX2) (T := TX2) (N := 2) hx hb hts in_X2 tyX2 tyX2_ok nmX2 hown hK hP hD hS 0 rfl rfl 1 (by decide) (hts _ q187) (fun _ h9 => h9) rfl hin rfl (by decide +kernel) rfl rfl (Nat.le_of_ble_eq_true rfl) dX2_init_16 (fun H locs hP hD hS => ?_)
  have hP : va_P D vwCl [(a, .inr (1, [.ref q1_, .ref q2_])), (q1_, .inl (dI, 96, .inl (fun _ => 0))), (q2_, .inl (dI, 3, .inl (fun _ => 0)))] H := hP
  have hD : va_D A [(a, .inr (1, [.ref q1_, .ref q2_])), (q1_, .inl (dI, 96, .inl (fun _ => 0))), (q2_, .inl (dI, 3, .inl (fun _ => 0)))] := hD
  obtain ⟨h, eh⟩ : ∃ h : Nat → Nat, h = bz_hm a q1_ q2_ := ⟨_, rfl⟩
  have e0 : a = h 0 := by rw [eh]; rfl
  have I : bx_I D A (MW h dI dZ bz_m0) s H locs := ⟨by rw [eh]; exact hP, by rw [eh]; exact hD, hS⟩
  rw [e0] at hl
  have loop : ∀ (n i : Nat) (g' : bz_S) (H : Heap) (locs : List Loc) (ls : Array Slot), i ≤ 3 → 3 < i + n → g' 0 = (fun _ => 0) → (∀ j, j < i → g' 1 j = nI 1) → bx_I D A (MW h dI dZ g') s H locs → lv_has ls 3 [(2, .int (nI i)), (0, .ref (h 0)), (1, .int x)] → W p l e rmX2_init s m args below meth c H locs 2 99 Q (F0 m 21 ls []) := by
    intro n
    induction n with
    | zero => intro i g' H locs ls h1 h2; exact absurd h2 (by omega)
    | succ n ih =>
      intro i g' H locs ls h1 h2 e1 hs I hl
      refine lv_iload_n hx hb dX2_init_21 rfl (lv_at hl 0 rfl) ?_
      refine lv_iconst (v := nI 3) hx hb dX2_init_22 (by decide) ?_
      refine bn_ge (tgt := 39) hx hb dX2_init_23 (by decide) (by omega) (by omega) (fun c1 => ?_) (fun c1 => ?_)
      · exact hret 39 H locs ls (h, g') ⟨e0.symm, e1, fun j hj => hs j (by omega)⟩ I dX2_init_39
      · refine lv_aload_n hx hb dX2_init_26 rfl (lv_at hl 1 rfl) ?_
        refine bm_shares F I dX2_init_27 ?_
        refine lv_iload_n hx hb dX2_init_30 rfl (lv_at hl 0 rfl) ?_
        refine lv_iconst (v := nI 1) hx hb dX2_init_31 (by decide) ?_
        refine bm_st1 F I (by omega) dX2_init_32 (fun H locs u1 eu1 I => ?_)
        refine lv_iinc (v := nI (i + 1)) (lv' := [(2, .int (nI (i + 1))), (0, .ref (h 0)), (1, .int x)]) hx hb dX2_init_33 hl (k := 0) rfl (bn_inc _) (by decide) rfl (fun ls hl => ?_)
        refine lv_goto (tgt := 21) hx hb dX2_init_36 (by decide) ?_
        exact ih (i + 1) u1 H locs ls (by omega) (by omega) (by rw [eu1]; exact e1) (fun j hj => by
          rw [eu1, bz_st_s]
          by_cases z : j = i
          · rw [z, bz_us]
          · rw [bz_un z]; exact hs j (by omega)) I hl
  refine lv_iconst (v := nI 0) hx hb dX2_init_19 (by decide) ?_
  refine lv_istore_n (lv' := [(2, .int (nI 0)), (0, .ref (h 0)), (1, .int x)]) hx hb dX2_init_20 rfl hl (by decide) rfl (fun ls hl => ?_)
  exact loop 4 0 bz_m0 H locs ls (by omega) (by omega) rfl (fun j hj => absurd hj (by omega)) I hl
end
section
/-! the law: its calls beside the other object's world; cell -/
section LX
variable {p : Program} {l : Launch} {e : Env} {R : Room} {s : State} {m : MethodId} {args : Array Value} {below : List Frame} {meth : Method} {c : Code} {H : Heap} {locs : List Loc} {cells slots : Nat} {Q : State → Prop}
variable {cc : ByteArray} {pc nL : Nat} {ls : Array Slot} {rest st : List Value} {own C : String} {ret2 : Option FieldType} {D : va_G} {tys : List (ClassId × FieldType)} {A : Nat → Prop} {wd : bz_S → va_W} {wr : va_W} {g : bz_S}
theorem lx_P {w1 w2 : va_W} (h : va_P D vwCl (w1 ++ w2) H) : va_P D vwCl w1 H := fun k q hk => h k q (by rw [List.getElem?_append_left (List.getElem?_eq_some_iff.mp hk).1]; exact hk)
theorem lx_D {w1 w2 : va_W} (h : va_D A (w1 ++ w2)) : va_D A w1 := by
  have up : ∀ (k : Nat) (q : Nat × va_E), w1[k]? = some q → (w1 ++ w2)[k]? = some q := fun k q hk => by rw [List.getElem?_append_left (List.getElem?_eq_some_iff.mp hk).1]; exact hk
  exact ⟨fun i j p q hi hj => h.1 i j p q (up i p hi) (up j q hj), fun k q hk => h.2 k q (up k q hk)⟩
theorem lx_ci {y : MethodName} {b : ByteArray} {nL2 n index q0 ci N a : Nat} {r : FieldType} {rm : Room} {As fs : List Value} {T : u_T} {post : Int32 → bz_S → Prop} (F : bx_F p m c cc nL s args own meth ret2 D tys A) (I : bx_I D A (wd g ++ wr) s H locs) (hM : bc_i l D tys wd y b nL2 r rm (.ref a :: As) g post)
    (cw : CallW R s args own C index y b nL2 (some r) (ws_ y b nL2 (some r)) rm 0 0 n) (isC isR : List Nat) (hC : isC.map (fun i => (wd g ++ wr)[i]?) = (wd g).map some) (hR : isR.map (fun i => (wd g ++ wr)[i]?) = wr.map some) (hnd : va_nd isR = true) (hdis : ∀ i ∈ isR, i ∉ isC) (ho : (wd g)[q0]? = some (a, .inr (ci, fs))) (hc : vwCl[ci]? = some (C, T, N)) (hn : As.length = n) (hl : ls.size = nL) (hst : st = As.reverse ++ .ref a :: rest) (hw : (rest.map fun v => v.category).sum ≤ 8) (hd : decode cc pc = .ok (.invokevirtual index, 3)) (hf : cells ≤ R.cells ∧ slots ≤ R.slots)
    (kk : ∀ (v : Int32) (u : bz_S) (H : Heap) (locs : List Loc), post v u → bx_I D A (wr ++ wd u) s H locs → W p l e R s m args below meth c H locs cells slots Q (F0 m (pc + 3) ls (.int v :: rest))) : W p l e R s m args below meth c H locs cells slots Q (F0 m pc ls st) := by
  obtain ⟨S, hr, hlk, hK, hA⟩ := F
  obtain ⟨hP, hD, hS⟩ := I
  have hFc := va_free (wc := wd g) hD hS hA isC hC
  have hPc := lx_P hP
  have hDc := lx_D hD
  refine va_calli (va_runV (As := As) (rest := rest) S (hM H.size) cw ⟨fun a' U g' mk q => ?_, va_recv hK hPc hc ho, fun U hU hW => ?_⟩ rfl hn hl hst (lv_room hw) hd ⟨hf.1, hf.2⟩) hS (fun q _ h => hFc q h) hFc (fun v u t H1 locs1 ht hvm hp hB hz hk hS1 => ?_)
  · obtain ⟨q0, q1, qP, qK, qD⟩ := q
    exact ⟨q0, q1, qP, va_K.moved (u := U) (U := U.calling g' mk a') (Vm.Alike.refl U.vm) qK, qD⟩
  · exact ⟨rfl, by rw [hU], by rw [hU]; exact hPc, va_K.moved hW.alike hK, hDc.weaken (fun _ _ _ _ => trivial)⟩
  · obtain ⟨hP1, hK1, hD1⟩ := hB
    rw [ht] at hP1
    obtain ⟨jP, jD⟩ := va_join hP hD isC isR hC hR hnd hdis hk hFc hP1 hD1
    exact kk v u H1 locs1 hp ⟨jP, jD, hS1⟩
theorem lx_cv {y : MethodName} {b : ByteArray} {nL2 n index q0 ci N a : Nat} {rm : Room} {As fs : List Value} {T : u_T} {post : bz_S → Prop} (F : bx_F p m c cc nL s args own meth ret2 D tys A) (I : bx_I D A (wd g ++ wr) s H locs) (hM : bc_v l D tys wd y b nL2 rm (.ref a :: As) g post)
    (cw : CallW R s args own C index y b nL2 none (ws_ y b nL2 none) rm 0 0 n) (isC isR : List Nat) (hC : isC.map (fun i => (wd g ++ wr)[i]?) = (wd g).map some) (hR : isR.map (fun i => (wd g ++ wr)[i]?) = wr.map some) (hnd : va_nd isR = true) (hdis : ∀ i ∈ isR, i ∉ isC) (ho : (wd g)[q0]? = some (a, .inr (ci, fs))) (hc : vwCl[ci]? = some (C, T, N)) (hn : As.length = n) (hl : ls.size = nL) (hst : st = As.reverse ++ .ref a :: rest) (hw : (rest.map fun v => v.category).sum ≤ 8) (hd : decode cc pc = .ok (.invokevirtual index, 3)) (hf : cells ≤ R.cells ∧ slots ≤ R.slots)
    (kk : ∀ (u : bz_S) (H : Heap) (locs : List Loc), post u → bx_I D A (wr ++ wd u) s H locs → W p l e R s m args below meth c H locs cells slots Q (F0 m (pc + 3) ls rest)) : W p l e R s m args below meth c H locs cells slots Q (F0 m pc ls st) := by
  obtain ⟨S, hr, hlk, hK, hA⟩ := F
  obtain ⟨hP, hD, hS⟩ := I
  have hFc := va_free (wc := wd g) hD hS hA isC hC
  have hPc := lx_P hP
  have hDc := lx_D hD
  refine va_callv (va_runV (As := As) (rest := rest) S (hM H.size) cw ⟨fun a' U g' mk q => ?_, va_recv hK hPc hc ho, fun U hU hW => ?_⟩ rfl hn hl hst (lv_room hw) hd ⟨hf.1, hf.2⟩) hS (fun q _ h => hFc q h) hFc (fun u t H1 locs1 ht hvm hp hB hz hk hS1 => ?_)
  · obtain ⟨q0, q1, qP, qK, qD⟩ := q
    exact ⟨q0, q1, qP, va_K.moved (u := U) (U := U.calling g' mk a') (Vm.Alike.refl U.vm) qK, qD⟩
  · exact ⟨rfl, by rw [hU], by rw [hU]; exact hPc, va_K.moved hW.alike hK, hDc.weaken (fun _ _ _ _ => trivial)⟩
  · obtain ⟨hP1, hK1, hD1⟩ := hB
    rw [ht] at hP1
    obtain ⟨jP, jD⟩ := va_join hP hD isC isR hC hR hnd hdis hk hFc hP1 hD1
    exact kk u H1 locs1 hp ⟨jP, jD, hS1⟩
/-- a constructor's call: the object's world is the last of the world -/
theorem lx_cn {y : MethodName} {b : ByteArray} {nL2 n index mc ms a : Nat} {rm : Room} {As : List Value} {w0 : va_W} {WD : (Nat → Nat) → bz_S → va_W} {post : (Nat → Nat) × bz_S → Prop} (F : bx_F p m c cc nL s args own meth ret2 D tys A) (I : bx_I D A (wr ++ w0) s H locs) (hM : bc_n l D tys w0 WD y b nL2 rm (.ref a :: As) mc ms post)
    (cw : CallB R s args own index y b nL2 none (ws_ y b nL2 none) rm mc ms n ∧ y.name = "<init>" ∧ (Cond.instanceMethod y).before args s = true) (isC isR : List Nat) (hC : isC.map (fun i => (wr ++ w0)[i]?) = w0.map some) (hC2 : isC.filterMap (fun i => (wr ++ w0)[i]?) = w0) (hCn : va_nd isC = true) (hR : isR.map (fun i => (wr ++ w0)[i]?) = wr.map some) (hnd : va_nd isR = true) (hdis : ∀ i ∈ isR, i ∉ isC) (hn : As.length = n) (hl : ls.size = nL) (hst : st = As.reverse ++ .ref a :: rest) (hw : (rest.map fun v => v.category).sum ≤ 8) (hd : decode cc pc = .ok (.invokespecial index, 3)) (hf : cells + mc ≤ R.cells ∧ slots + ms ≤ R.slots)
    (kk : ∀ (h : Nat → Nat) (g : bz_S) (H : Heap) (locs : List Loc), post (h, g) → bx_I D A (wr ++ WD h g) s H locs → W p l e R s m args below meth c H locs (cells + mc) (slots + ms) Q (F0 m (pc + 3) ls rest)) : W p l e R s m args below meth c H locs cells slots Q (F0 m pc ls st) := by
  obtain ⟨S, hr, hlk, hK, hA⟩ := F
  obtain ⟨hP, hD, hS⟩ := I
  have hFc := va_free (wc := w0) hD hS hA isC hC
  have hPc := hP.sub isC hC2
  have hDc := hD.sub isC hCn hC
  refine va_callv (va_runI (As := As) (rest := rest) S (hM H.size) cw ⟨fun a' U g' mk q => ?_, fun U hU hW => ?_⟩ rfl hn hl hst (lv_room hw) hd hf) hS (fun q _ h => hFc q h) hFc (fun u t H1 locs1 ht hvm hp hB hz hk hS1 => ?_)
  · obtain ⟨q0, q1, qP, qK, qD⟩ := q
    exact ⟨q0, q1, qP, va_K.moved (u := U) (U := U.calling g' mk a') (Vm.Alike.refl U.vm) qK, qD⟩
  · exact ⟨rfl, by rw [hU], by rw [hU]; exact hPc, va_K.moved hW.alike hK, hDc.weaken (fun _ _ _ _ => trivial)⟩
  · obtain ⟨hP1, hK1, hD1⟩ := hB
    rw [ht] at hP1
    obtain ⟨jP, jD⟩ := va_join hP hD isC isR hC hR hnd hdis hk hFc hP1 hD1
    exact kk u.1 u.2 H1 locs1 hp ⟨jP, jD, hS1⟩
/-- the script's ints and its length -/
theorem lx_sld {b L : Nat} {xs : Nat → Int32} {ws : va_W} (F : bx_F p m c cc nL s args own meth ret2 D tys A) (hX : va_X b L xs s s.heap) (hbl : b < s.heap.size) (hbA : ¬ A b) (hL : L ≤ 321) (I : bx_I D A ws s H locs) {j : Nat} (hj : j < L) (hd : decode cc pc = .ok (.iaload, 1)) (kk : W p l e R s m args below meth c H locs cells slots Q (F0 m (pc + 1) ls (.int (xs j) :: rest))) : W p l e R s m args below meth c H locs cells slots Q (F0 m pc ls (.int (nI j) :: .ref b :: rest)) := by
  have hc : (nI j).toNatClampNeg = j := nI_clamp (by omega)
  refine va_sld F.1.1 F.1.2.1 hX hbl hbA I.2.2 (vp_in_nI hj (by omega)) hd ?_
  rw [hc]
  exact kk
theorem lx_slen {b L : Nat} {xs : Nat → Int32} {ws : va_W} (F : bx_F p m c cc nL s args own meth ret2 D tys A) (hX : va_X b L xs s s.heap) (hbl : b < s.heap.size) (hbA : ¬ A b) (I : bx_I D A ws s H locs) (hd : decode cc pc = .ok (.arraylength, 1)) (kk : W p l e R s m args below meth c H locs cells slots Q (F0 m (pc + 1) ls (.int (nI L) :: rest))) : W p l e R s m args below meth c H locs cells slots Q (F0 m pc ls (.ref b :: rest)) := va_slen F.1.1 F.1.2.1 hX hbl hbA I.2.2 hd kk
end LX
set_option maxHeartbeats 4000000 in
theorem metX0_cell {l : Launch} {b L : Nat} {xs : Nat → Int32} (hL : L ≤ 321) (H0 : Heap) : Met l yX0_cell (ws_ yX0_cell cX0_cell 2 (some .int)) rmX0_cell (va_Pc [.ref b, .int (nI 0)] (fun U => U.heap = H0 ∧ b < H0.size ∧ va_X b L xs U H0)) (va_Qi (fun _ (_ : Unit) => True) (fun _ t => t.heap = H0) (fun _ => False)) 0 0 (fun _ => False) := by
  refine Met.ofW (cc := cX0_cell) (maxL := 2) (ret := some .int) (by decide) rfl ?_
  intro p e s m args below meth c s₁ B hml hv
  obtain ⟨rfl, hH, hbl, hX⟩ := hv
  subst hH
  have hx := B.exec
  have hb := B.bytes
  have hS : va_S (fun _ => False) s.heap s.heap [] := va_S.rf
  have hl := lv_entry ([.ref b, .int (nI 0)]) (n := 2) (Nat.le_of_ble_eq_true rfl)
  rw [lg_entry_eq]
  generalize (lg_sl ([.ref b, .int (nI 0)]) ++ List.replicate (2 - (lg_sl ([.ref b, .int (nI 0)])).length) Slot.unset).toArray = ls at hl ⊢
  have hl : lv_has ls 2 [(0, .ref b), (1, .int (nI 0))] := hl
  refine lv_iload_n hx hb dX0_cell_0 rfl (lv_at hl 1 rfl) ?_
  refine lv_aload_n hx hb dX0_cell_1 rfl (lv_at hl 0 rfl) ?_
  refine va_slen hx hb hX hbl (fun q => q) hS dX0_cell_2 ?_
  refine bn_ge (tgt := 12) (x := 0) (y := L) hx hb dX0_cell_3 (by decide) (by omega) (by omega) (fun c1 => ?_) (fun c1 => ?_)
  · refine lv_iconst (v := nI 0) hx hb dX0_cell_12 (by decide) ?_
    exact W.iret (v := nI 0) hx hb B.returns (fun t ht hW => ⟨⟨_, (), rfl, trivial, ht⟩, ⟨by rw [ht]; exact Nat.le_refl _, fun q _ _ => by rw [ht]⟩⟩) (fun _ h => by cases h) dX0_cell_13 B.notSynchronized
  · refine lv_aload_n hx hb dX0_cell_6 rfl (lv_at hl 0 rfl) ?_
    refine lv_iload_n hx hb dX0_cell_7 rfl (lv_at hl 1 rfl) ?_
    refine va_sld hx hb hX hbl (fun q => q) hS (vp_in_nI c1 (by omega)) dX0_cell_8 ?_
    refine lv_goto (tgt := 13) hx hb dX0_cell_9 (by decide) ?_
    exact W.iret (v := _) hx hb B.returns (fun t ht hW => ⟨⟨_, (), rfl, trivial, ht⟩, ⟨by rw [ht]; exact Nat.le_refl _, fun q _ _ => by rw [ht]⟩⟩) (fun _ h => by cases h) dX0_cell_13 B.notSynchronized
theorem lx_cell {p : Program} {l : Launch} {e : Env} {R : Room} {s : State} {m : MethodId} {args : Array Value} {below : List Frame} {meth : Method} {c : Code} {H : Heap} {locs : List Loc} {cells slots : Nat} {Q : State → Prop} {cc : ByteArray} {pc nL : Nat} {ls : Array Slot} {rest : List Value} {ret2 : Option FieldType} {D : va_G} {tys : List (ClassId × FieldType)} {A : Nat → Prop} {b L : Nat} {xs : Nat → Int32} {ws : va_W} (F : bx_F p m c cc nL s args RX0 meth ret2 D tys A) (hX : va_X b L xs s s.heap) (hbl : b < s.heap.size) (hbA : ¬ A b) (hL : L ≤ 321) (I : bx_I D A ws s H locs)
    (hR : rmX0_cell.frames + 1 ≤ R.frames ∧ 8 + (2 + 11) + rmX0_cell.locals ≤ R.locals) (hl : ls.size = nL) (hw : (rest.map fun v => v.category).sum ≤ 8) (hd : decode cc pc = .ok (.invokestatic 9, 3)) (hf : cells ≤ R.cells ∧ slots ≤ R.slots) (kk : ∀ (v : Int32) (locs : List Loc), bx_I D A ws s H locs → W p l e R s m args below meth c H locs cells slots Q (F0 m (pc + 3) ls (.int v :: rest))) : W p l e R s m args below meth c H locs cells slots Q (F0 m pc ls (.int (nI 0) :: .ref b :: rest)) := by
  obtain ⟨S, hr, hlk, hK, hA⟩ := F
  obtain ⟨hP, hD, hS⟩ := I
  refine va_calli (va_runS (As := [.ref b, .int (nI 0)]) (rest := rest) S (metX0_cell (b := b) (xs := xs) hL H) (cwLX0_cell S.2.2.2.2 hR) ⟨fun a' U g' mk q => ?_, fun U hU hW => ?_⟩ rfl rfl hl rfl (lv_room hw) hd ⟨hf.1, hf.2⟩) hS (fun q _ h => h.elim) (fun q h => h.elim) (fun v u t H1 locs1 ht hvm hp hB hz hk hS1 => ?_)
  · obtain ⟨q0, q1, q2, q3⟩ := q
    exact ⟨q0, q1, q2, va_X.moved (u := U) (U := U.calling g' mk a') (Vm.Alike.refl U.vm) q3⟩
  · exact ⟨rfl, hU, Nat.lt_of_lt_of_le hbl hS.1, va_X.moved hW.alike (hX.kept (hS.2.1 b hbl hbA))⟩
  · have e1 : H1 = H := ht.symm.trans hB
    subst e1
    exact kk v locs1 ⟨hP, hD, hS1⟩
theorem lx_gt {L i : Nat} (hL : L ≤ 321) (hi : i ≤ 322) (h : ¬ nI L - nI 5 < nI i) : i + 5 ≤ L := by
  rw [Int32.lt_iff_toInt_lt, pk_sub_toInt (by omega) (by omega), nI_toInt (by omega)] at h
  omega
theorem bn_inc5 (a : Nat) : nI a + Int32.ofInt 5 = nI (a + 5) := by
  rw [show Int32.ofInt 5 = nI 5 from by decide]
  exact nI_add a 5
end
section
/-! THE CLAIM OUT OF ONE WALK OF THE LAW'S BODY. Your part is whole_start (and what it stands on); all else here is the same for every law, but numbers. -/
def R_law : String := "BalloonShareLaw"
def lw_P (b : Addr) (xs : List Int32) (args : Array Value) (s : State) : Prop := args = #[.ref b] ∧ s.IntsAt b xs ∧ xs.length ≤ 321 ∧ (Jvm.Cond.and given_1 narrow_1).before args s = true
def lw_Q (_ : Array Value) (s : State) (o : Outcome) (t : State) : Prop := o = .returned (some (.int 1)) ∧ Framed s o t [] 600000 7290000
def lw_Z (below : List Frame) (a : Array Value) (s : State) : State → Prop := fun t => ∃ o, t.status = .running ∧ Ended t below o ∧ lw_Q a s o t
/-- the law's own end, with 1 on the stack, nothing written that was there before, its room as the claim has it -/
theorem lw_ret {p : Program} {l : Launch} {e : Env} {s : State} {m : MethodId} {below : List Frame} {meth : Method} {c : Code} {b : Nat} (hx : p.tables.exec = Jvm.exec) (hb : c.code = code) (hr : meth.sig.returnType = ret) (hlocks : meth.locks = false) {pc : Nat} {H : Heap} {ls : Array Slot} (hdg : decode code pc = .ok (.ireturn, 1)) : W p l e room_1 s m #[Value.ref b] below meth c H [] 600000 7290000 (lw_Z below #[Value.ref b] s) (F0 m pc ls [.int 1]) := by
  intro T hT X
  obtain ⟨fs, hret, hrun, hended, hW, hframe⟩ := X.leave (v := some (.int 1)) (hlocks := hlocks) (fun h => by rw [hr] at h; cases h)
  have hmeth' : T.vm.method? m = some meth := X.method'
  refine ⟨T.setFrames fs, ?_, .returned (some (.int 1)), hrun, hended, rfl, ⟨_, rfl⟩, hW, hframe⟩
  jvm_step X.here [X.here.top, hx, hb, hdg, hmeth', hr, ret, narrow_b1]
  (try refine ⟨rfl, ?_⟩); (try refine ⟨rfl, ?_⟩)
  first | (intro acts; rw [hret _ acts rfl rfl rfl]) | rw [hret _ _ rfl rfl rfl]
  exact Steps.refl _
/-- what holds at the law's entry: the machine, the code, the tables' words (any of lw_tbl by 'hts w (by decide +kernel)'), the script of L ints xs at the cell b, what the Statement gives of the start (any of its parts by flat_of_before) -/
def lw_At (p : Program) (s : State) (m : MethodId) (meth : Method) (c : Code) (b L : Nat) (xs : Nat → Int32) : Prop :=
  p.tables.exec = Jvm.exec ∧ c.code = code ∧ meth.sig.returnType = ret ∧ c.maxLocals = 4 ∧ s.vm.findClass R_law = some m.cls ∧ (∀ w ∈ lw_tbl, w.before #[Value.ref b] s = true) ∧ va_X b L xs s s.heap ∧ b < s.heap.size ∧ meth.locks = false ∧ (Jvm.Cond.and given_1 narrow_1).before #[Value.ref b] s = true
set_option maxHeartbeats 16000000 in
theorem whole_start {p : Program} {e : Env} {s : State} {m : MethodId} {below : List Frame} {meth : Method} {c : Code} (l : Launch) {b L : Nat} {xs : Nat → Int32} (hL : L ≤ 321) (C0 : lw_At p s m meth c b L xs) : W p l e room_1 s m #[Value.ref b] below meth c s.heap [] 0 0 (lw_Z below #[Value.ref b] s) (entryFrame m ([Value.ref b] : List Value).toArray 4) := by
  obtain ⟨hx, hb, hr, hml, hown, hts0, hX, hbl, hlk, hgv⟩ := C0
  have hts : ∀ w ∈ lw_all, w.before #[Value.ref b] s = true := fun w h => hts0 w (lw_all_tbl h)
  obtain ⟨c1_, i1_, K1⟩ := u_known (C := RX1) (T := TX1) (N := 12) (n := 12) hts in_X1 (hts _ q21)
  obtain ⟨c2_, i2_, K2⟩ := u_known (C := RX2) (T := TX2) (N := 2) (n := 2) hts in_X2 (hts _ q181)
  obtain ⟨dI, kI, oI, fI, gI, tI⟩ := Cond.arrayClass_spec (hts _ q65)
  obtain ⟨dZ, kZ, oZ, fZ, gZ, tZ⟩ := Cond.arrayClass_spec (hts _ q66)
  obtain ⟨D, eD⟩ : ∃ D : va_G, D = (fun k => if k = 0 then c1_ else c2_, fun k => if k = 0 then i1_ else i2_) := ⟨_, rfl⟩
  have hK : va_K D vwCl (bz_T dI dZ) s := by
    subst eD
    refine ⟨?_, ?_⟩
    · intro k q hq
      match k, hq with
      | 0, hq => cases hq; exact K1
      | 1, hq => cases hq; exact K2
      | k + 2, hq => simp [vwCl] at hq
    · intro k q hq
      match k, hq with
      | 0, hq => cases hq; exact ⟨fun n z => ⟨fun k h => (by cases h), kI, gI, oI, tI⟩, fI⟩
      | 1, hq => cases hq; exact ⟨fun n z => ⟨fun k h => (by cases h), kZ, gZ, oZ, tZ⟩, fZ⟩
      | k + 2, hq => simp at hq
  obtain ⟨A, eA⟩ : ∃ A : Nat → Prop, A = fun q => s.heap.size ≤ q := ⟨_, rfl⟩
  have hA : ∀ q : Nat, s.heap.size ≤ q → A q := fun q h => by rw [eA]; exact h
  have hAs : ∀ q : Nat, A q → s.heap.size ≤ q := fun q h => by rw [eA] at h; exact h
  have hbA : ¬ A b := fun q => absurd hbl (Nat.not_lt.mpr (hAs b q))
  have F : bx_F p m c cL_law 4 s #[Value.ref b] RX0 meth ret D (bz_T dI dZ) A := ⟨⟨hx, hb, hml, hown, hts⟩, hr, hlk, hK, hA⟩
  have I : bx_I D A [] s s.heap [] := ⟨fun k q h => by simp at h, ⟨fun i j p q h => by simp at h, fun k q h => by simp at h⟩, va_S.rf⟩
  rw [lg_entry_eq]
  have hl := lv_entry ([.ref b]) (n := 4) (Nat.le_of_ble_eq_true rfl)
  generalize (lg_sl ([.ref b]) ++ List.replicate (4 - (lg_sl ([.ref b])).length) Slot.unset).toArray = ls at hl ⊢
  have hl : lv_has ls 4 [(0, .ref b)] := hl
  have hfs1 : ∀ j, j < 12 → defaultValue (tyX1 j) = vp_V [.null, .null, .int 0, .null, .null, .null, .int 0, .null, .null, .null, .null, .null] j := fun j hj => by
    match j, hj with
    | 0, _ => rfl
    | 1, _ => rfl
    | 2, _ => rfl
    | 3, _ => rfl
    | 4, _ => rfl
    | 5, _ => rfl
    | 6, _ => rfl
    | 7, _ => rfl
    | 8, _ => rfl
    | 9, _ => rfl
    | 10, _ => rfl
    | 11, _ => rfl
    | j + 12, hj => omega
  have hfs2 : ∀ j, j < 2 → defaultValue (tyX2 j) = vp_V [.null, .null] j := fun j hj => by
    match j, hj with
    | 0, _ => rfl
    | 1, _ => rfl
    | j + 2, hj => omega
  refine va_new (ci := 0) (fs := [.null, .null, .int 0, .null, .null, .null, .int 0, .null, .null, .null, .null, .null]) (C := RX1) (T := TX1) (N := 12) hx hb hts in_X1 tyX1 tyX1_ok hown (hts _ q20) (hts _ q21) (hts _ q18) hK I.1 I.2.1 I.2.2 hA rfl hfs1 (Nat.le_of_ble_eq_true rfl) (Nat.le_of_ble_eq_true rfl) dL_law_0 (fun qx H hP hD hS => ?_)
  have I : bx_I D A ([] ++ BN qx) s H [] := ⟨hP, hD, hS⟩
  refine W.widen (k := 1) (n := 12) (Nat.le_of_ble_eq_true rfl) (Nat.le_of_ble_eq_true rfl) ?_
  refine lv_dup hx hb dL_law_3 rfl ?_
  refine lv_aload_n hx hb dL_law_4 rfl (lv_at hl 0 rfl) ?_
  refine lv_iconst (v := nI 0) hx hb dL_law_5 (by decide) ?_
  refine lx_cell F hX hbl hbA hL I ⟨by decide, by decide⟩ hl.1 (Nat.le_of_ble_eq_true rfl) dL_law_6 ⟨Nat.le_of_ble_eq_true rfl, Nat.le_of_ble_eq_true rfl⟩ (fun r1 locs I => ?_)
  refine lx_cn (rest := [.ref qx]) F I (metX1_init r1) (cwI 1 hts (lw_meth q24) rfl rfl rfl (hts _ q18) (hts _ q22) (hts _ q23) rfl (by decide +kernel) ⟨by decide, by decide⟩) [0] [] rfl rfl rfl rfl rfl (by decide) rfl hl.1 rfl (Nat.le_of_ble_eq_true rfl) dL_law_9 ⟨Nat.le_of_ble_eq_true rfl, Nat.le_of_ble_eq_true rfl⟩ (fun ha g0 H locs hp I => ?_)
  obtain ⟨ea, N, RR0⟩ := hp
  have RR0 : bz_RR N g0 (fun _ => 0) (fun _ => nI 1) := RR0
  have I2 : bx_I D A (BW ha dI dZ g0) s H locs := I
  have ea : ha 0 = qx := ea
  subst ea
  refine W.widen (k := 11) (n := 285) (Nat.le_of_ble_eq_true rfl) (Nat.le_of_ble_eq_true rfl) ?_
  have I : bx_I D A (BW ha dI dZ g0) s H locs := I2
  refine lv_astore_n (lv' := [(1, .ref (ha 0)), (0, .ref (b))]) hx hb dL_law_12 rfl hl (by decide) rfl (fun ls hl => ?_)
  refine va_new (ci := 1) (fs := [.null, .null]) (C := RX2) (T := TX2) (N := 2) hx hb hts in_X2 tyX2 tyX2_ok hown (hts _ q180) (hts _ q181) (hts _ q19) hK I.1 I.2.1 I.2.2 hA rfl hfs2 (Nat.le_of_ble_eq_true rfl) (Nat.le_of_ble_eq_true rfl) dL_law_13 (fun qm H hP hD hS => ?_)
  have I : bx_I D A (BW ha dI dZ g0 ++ MN qm) s H locs := ⟨hP, hD, hS⟩
  refine W.widen (k := 12) (n := 287) (Nat.le_of_ble_eq_true rfl) (Nat.le_of_ble_eq_true rfl) ?_
  refine lv_dup hx hb dL_law_16 rfl ?_
  refine lv_aload_n hx hb dL_law_17 rfl (lv_at hl 1 rfl) ?_
  refine lv_iconst (v := nI 0) hx hb dL_law_18 (by decide) ?_
  refine lx_cell F hX hbl hbA hL I ⟨by decide, by decide⟩ hl.1 (Nat.le_of_ble_eq_true rfl) dL_law_19 ⟨Nat.le_of_ble_eq_true rfl, Nat.le_of_ble_eq_true rfl⟩ (fun r2 locs I => ?_)
  refine lx_cn (rest := [.ref qm]) F I (metX2_init r2) (cwI 1 hts (lw_meth q184) rfl rfl rfl (hts _ q19) (hts _ q182) (hts _ q183) rfl (by decide +kernel) ⟨by decide, by decide⟩) [11] [0, 1, 2, 3, 4, 5, 6, 7, 8, 9, 10] rfl rfl rfl rfl rfl (by decide) rfl hl.1 rfl (Nat.le_of_ble_eq_true rfl) dL_law_22 ⟨Nat.le_of_ble_eq_true rfl, Nat.le_of_ble_eq_true rfl⟩ (fun hm m0 H locs hp I => ?_)
  obtain ⟨em, ew, es⟩ := hp
  have ew : m0 0 = (fun _ => 0) := ew
  have es : ∀ i, i < 3 → m0 1 i = nI 1 := es
  have I3 : bx_I D A (BW ha dI dZ g0 ++ MW hm dI dZ m0) s H locs := I
  have em : hm 0 = qm := em
  subst em
  refine W.widen (k := 600000) (n := 7290000) (Nat.le_of_ble_eq_true rfl) (Nat.le_of_ble_eq_true rfl) ?_
  have I : bx_I D A (BW ha dI dZ g0 ++ MW hm dI dZ m0) s H locs := I3
  refine lv_astore_n (lv' := [(2, .ref (hm 0)), (1, .ref (ha 0)), (0, .ref (b))]) hx hb dL_law_25 rfl hl (by decide) rfl (fun ls hl => ?_)
  refine lv_iconst (v := nI 1) hx hb dL_law_26 (by decide) ?_
  refine lv_istore_n (lv' := [(3, .int (nI 1)), (2, .ref (hm 0)), (1, .ref (ha 0)), (0, .ref (b))]) hx hb dL_law_27 rfl hl (by decide) rfl (fun ls hl => ?_)
  have loop : ∀ (n i : Nat) (g mm : bz_S) (H : Heap) (locs : List Loc) (ls : Array Slot), i ≤ 322 → 322 < i + n → bz_RR N g (mm 0) (mm 1) → bx_I D A (BW ha dI dZ g ++ MW hm dI dZ mm) s H locs → lv_has ls 4 [(3, .int (nI i)), (0, .ref (b)), (1, .ref (ha 0)), (2, .ref (hm 0))] → W p l e room_1 s m #[Value.ref b] below meth c H locs 600000 7290000 (lw_Z below #[Value.ref b] s) (F0 m 28 ls []) := by
    intro n
    induction n with
    | zero => intro i g mm H locs ls h1 h2; exact absurd h2 (by omega)
    | succ n ih =>
      intro i g mm H locs ls h1 h2 RR I hl
      refine lv_iload_n hx hb dL_law_28 rfl (lv_at hl 0 rfl) ?_
      refine lv_aload_n hx hb dL_law_29 rfl (lv_at hl 1 rfl) ?_
      refine lx_slen F hX hbl hbA I dL_law_30 ?_
      refine lv_iconst (v := nI 5) hx hb dL_law_31 (by decide) ?_
      refine lv_isub hx hb dL_law_32 ?_
      refine lv_icmp_gt (tgt := 554) hx hb dL_law_33 (by decide) (fun c1 => ?_) (fun c1 => ?_)
      · refine lv_iconst (v := 1) hx hb dL_law_554 (by decide) ?_
        refine va_forget (fun q hq => hAs _ (I.2.2.2.2 q hq)) ?_
        exact lw_ret hx hb hr hlk dL_law_555
      · have hi5 := lx_gt hL h1 c1
        have next : ∀ (g mm : bz_S) (H : Heap) (locs : List Loc) (ls : Array Slot), bz_RR N g (mm 0) (mm 1) → bx_I D A (BW ha dI dZ g ++ MW hm dI dZ mm) s H locs → lv_has ls 4 [(3, .int (nI i)), (0, .ref (b)), (1, .ref (ha 0)), (2, .ref (hm 0))] → W p l e room_1 s m #[Value.ref b] below meth c H locs 600000 7290000 (lw_Z below #[Value.ref b] s) (F0 m 548 ls []) := by
          intro g mm H locs ls RR I hl
          refine lv_iinc (v := nI (i + 5)) (lv' := [(3, .int (nI (i + 5))), (0, .ref (b)), (1, .ref (ha 0)), (2, .ref (hm 0))]) hx hb dL_law_548 hl (k := 0) rfl (bn_inc5 _) (by decide) rfl (fun ls hl => ?_)
          refine lv_goto (tgt := 28) hx hb dL_law_551 (by decide) ?_
          exact ih (i + 5) g mm H locs ls (by omega) (by omega) RR I hl
        refine lv_aload_n hx hb dL_law_36 rfl (lv_at hl 1 rfl) ?_
        refine lv_iload_n hx hb dL_law_37 rfl (lv_at hl 0 rfl) ?_
        refine lx_sld F hX hbl hbA hL I (by omega) dL_law_38 ?_
        refine lv_bipush (v := nI 15) hx hb dL_law_39 (by decide) ?_
        refine lv_iand hx hb dL_law_41 ?_
        obtain ⟨j, hj, ej⟩ := pk_andE (xs i) (m := nI 15) 4 (by decide)
        have hj : j < 16 := hj
        refine bn_top (y := nI j) ej ?_
        rcases (show j = 0 ∨ j = 1 ∨ j = 2 ∨ j = 3 ∨ j = 4 ∨ j = 5 ∨ j = 6 ∨ j = 7 ∨ j = 8 ∨ j = 9 ∨ j = 10 ∨ j = 11 ∨ 12 ≤ j by omega) with rfl | rfl | rfl | rfl | rfl | rfl | rfl | rfl | rfl | rfl | rfl | rfl | hj12
        · refine lv_tableIn (x := nI 0) (off := 62) (tgt := 104) hx hb dL_law_42 (by decide) (by decide) (by decide) (by decide) ?_
          refine lv_aload_n hx hb dL_law_104 rfl (lv_at hl 2 rfl) ?_
          refine lv_aload_n hx hb dL_law_105 rfl (lv_at hl 1 rfl) ?_
          refine lv_iload_n hx hb dL_law_106 rfl (lv_at hl 0 rfl) ?_
          refine lv_iconst (v := nI 1) hx hb dL_law_107 (by decide) ?_
          refine bn_add hx hb dL_law_108 ?_
          refine lx_sld F hX hbl hbA hL I (by omega) dL_law_109 ?_
          refine lv_aload_n hx hb dL_law_110 rfl (lv_at hl 1 rfl) ?_
          refine lv_iload_n hx hb dL_law_111 rfl (lv_at hl 0 rfl) ?_
          refine lv_iconst (v := nI 2) hx hb dL_law_112 (by decide) ?_
          refine bn_add hx hb dL_law_113 ?_
          refine lx_sld F hX hbl hbA hL I (by omega) dL_law_114 ?_
          refine lv_aload_n hx hb dL_law_115 rfl (lv_at hl 1 rfl) ?_
          refine lv_iload_n hx hb dL_law_116 rfl (lv_at hl 0 rfl) ?_
          refine lv_iconst (v := nI 3) hx hb dL_law_117 (by decide) ?_
          refine bn_add hx hb dL_law_118 ?_
          refine lx_sld F hX hbl hbA hL I (by omega) dL_law_119 ?_
          refine lx_ci (wd := BW ha dI dZ) (wr := MW hm dI dZ mm) (rest := []) F I (metX1_write RR (xs (i + 1)) (xs (i + 2)) (xs (i + 3))) (cwLX1_write hts ⟨by decide, by decide⟩) [0, 1, 2, 3, 4, 5, 6, 7, 8, 9, 10] [11, 12, 13] rfl rfl rfl (by decide) (q0 := 0) rfl rfl rfl hl.1 rfl (Nat.le_of_ble_eq_true rfl) dL_law_120 ⟨Nat.le_of_ble_eq_true rfl, Nat.le_of_ble_eq_true rfl⟩ (fun v1 u1 H locs hq I => ?_)
          refine lv_aload_n hx hb dL_law_123 rfl (lv_at hl 3 rfl) ?_
          refine lv_aload_n hx hb dL_law_124 rfl (lv_at hl 1 rfl) ?_
          refine lv_iload_n hx hb dL_law_125 rfl (lv_at hl 0 rfl) ?_
          refine lv_iconst (v := nI 1) hx hb dL_law_126 (by decide) ?_
          refine bn_add hx hb dL_law_127 ?_
          refine lx_sld F hX hbl hbA hL I (by omega) dL_law_128 ?_
          refine lv_aload_n hx hb dL_law_129 rfl (lv_at hl 1 rfl) ?_
          refine lv_iload_n hx hb dL_law_130 rfl (lv_at hl 0 rfl) ?_
          refine lv_iconst (v := nI 2) hx hb dL_law_131 (by decide) ?_
          refine bn_add hx hb dL_law_132 ?_
          refine lx_sld F hX hbl hbA hL I (by omega) dL_law_133 ?_
          refine lv_aload_n hx hb dL_law_134 rfl (lv_at hl 1 rfl) ?_
          refine lv_iload_n hx hb dL_law_135 rfl (lv_at hl 0 rfl) ?_
          refine lv_iconst (v := nI 3) hx hb dL_law_136 (by decide) ?_
          refine bn_add hx hb dL_law_137 ?_
          refine lx_sld F hX hbl hbA hL I (by omega) dL_law_138 ?_
          refine lx_ci (wd := MW hm dI dZ) (wr := BW ha dI dZ u1) (rest := [.int v1]) F I (metX2_write (xs (i + 1)) (xs (i + 2)) (xs (i + 3))) (cwLX2_write hts ⟨by decide, by decide⟩) [0, 1, 2] [3, 4, 5, 6, 7, 8, 9, 10, 11, 12, 13] rfl rfl rfl (by decide) (q0 := 0) rfl rfl rfl hl.1 rfl (Nat.le_of_ble_eq_true rfl) dL_law_139 ⟨Nat.le_of_ble_eq_true rfl, Nat.le_of_ble_eq_true rfl⟩ (fun v2 u2 H locs hq2 I => ?_)
          refine lv_icmp_eq (tgt := 548) hx hb dL_law_142 (by decide) (fun c2 => ?_) (fun c2 => ?_)
          · exact next u1 u2 H locs ls (by rw [hq2.2.1, hq2.2.2]; exact hq.2) I hl
          · exact absurd (hq.1.trans hq2.1.symm) c2
        · refine lv_tableIn (x := nI 1) (off := 105) (tgt := 147) hx hb dL_law_42 (by decide) (by decide) (by decide) (by decide) ?_
          refine lv_aload_n hx hb dL_law_147 rfl (lv_at hl 2 rfl) ?_
          refine lv_aload_n hx hb dL_law_148 rfl (lv_at hl 1 rfl) ?_
          refine lv_iload_n hx hb dL_law_149 rfl (lv_at hl 0 rfl) ?_
          refine lv_iconst (v := nI 1) hx hb dL_law_150 (by decide) ?_
          refine bn_add hx hb dL_law_151 ?_
          refine lx_sld F hX hbl hbA hL I (by omega) dL_law_152 ?_
          refine lv_aload_n hx hb dL_law_153 rfl (lv_at hl 1 rfl) ?_
          refine lv_iload_n hx hb dL_law_154 rfl (lv_at hl 0 rfl) ?_
          refine lv_iconst (v := nI 2) hx hb dL_law_155 (by decide) ?_
          refine bn_add hx hb dL_law_156 ?_
          refine lx_sld F hX hbl hbA hL I (by omega) dL_law_157 ?_
          refine lv_aload_n hx hb dL_law_158 rfl (lv_at hl 1 rfl) ?_
          refine lv_iload_n hx hb dL_law_159 rfl (lv_at hl 0 rfl) ?_
          refine lv_iconst (v := nI 3) hx hb dL_law_160 (by decide) ?_
          refine bn_add hx hb dL_law_161 ?_
          refine lx_sld F hX hbl hbA hL I (by omega) dL_law_162 ?_
          refine lv_aload_n hx hb dL_law_163 rfl (lv_at hl 1 rfl) ?_
          refine lv_iload_n hx hb dL_law_164 rfl (lv_at hl 0 rfl) ?_
          refine lv_iconst (v := nI 4) hx hb dL_law_165 (by decide) ?_
          refine bn_add hx hb dL_law_166 ?_
          refine lx_sld F hX hbl hbA hL I (by omega) dL_law_167 ?_
          refine lx_ci (wd := BW ha dI dZ) (wr := MW hm dI dZ mm) (rest := []) F I (metX1_fill RR (xs (i + 1)) (xs (i + 2)) (xs (i + 3)) (xs (i + 4))) (cwLX1_fill hts ⟨by decide, by decide⟩) [0, 1, 2, 3, 4, 5, 6, 7, 8, 9, 10] [11, 12, 13] rfl rfl rfl (by decide) (q0 := 0) rfl rfl rfl hl.1 rfl (Nat.le_of_ble_eq_true rfl) dL_law_168 ⟨Nat.le_of_ble_eq_true rfl, Nat.le_of_ble_eq_true rfl⟩ (fun v1 u1 H locs hq I => ?_)
          refine lv_aload_n hx hb dL_law_171 rfl (lv_at hl 3 rfl) ?_
          refine lv_aload_n hx hb dL_law_172 rfl (lv_at hl 1 rfl) ?_
          refine lv_iload_n hx hb dL_law_173 rfl (lv_at hl 0 rfl) ?_
          refine lv_iconst (v := nI 1) hx hb dL_law_174 (by decide) ?_
          refine bn_add hx hb dL_law_175 ?_
          refine lx_sld F hX hbl hbA hL I (by omega) dL_law_176 ?_
          refine lv_aload_n hx hb dL_law_177 rfl (lv_at hl 1 rfl) ?_
          refine lv_iload_n hx hb dL_law_178 rfl (lv_at hl 0 rfl) ?_
          refine lv_iconst (v := nI 2) hx hb dL_law_179 (by decide) ?_
          refine bn_add hx hb dL_law_180 ?_
          refine lx_sld F hX hbl hbA hL I (by omega) dL_law_181 ?_
          refine lv_aload_n hx hb dL_law_182 rfl (lv_at hl 1 rfl) ?_
          refine lv_iload_n hx hb dL_law_183 rfl (lv_at hl 0 rfl) ?_
          refine lv_iconst (v := nI 3) hx hb dL_law_184 (by decide) ?_
          refine bn_add hx hb dL_law_185 ?_
          refine lx_sld F hX hbl hbA hL I (by omega) dL_law_186 ?_
          refine lv_aload_n hx hb dL_law_187 rfl (lv_at hl 1 rfl) ?_
          refine lv_iload_n hx hb dL_law_188 rfl (lv_at hl 0 rfl) ?_
          refine lv_iconst (v := nI 4) hx hb dL_law_189 (by decide) ?_
          refine bn_add hx hb dL_law_190 ?_
          refine lx_sld F hX hbl hbA hL I (by omega) dL_law_191 ?_
          refine lx_ci (wd := MW hm dI dZ) (wr := BW ha dI dZ u1) (rest := [.int v1]) F I (metX2_fill (xs (i + 1)) (xs (i + 2)) (xs (i + 3)) (xs (i + 4))) (cwLX2_fill hts ⟨by decide, by decide⟩) [0, 1, 2] [3, 4, 5, 6, 7, 8, 9, 10, 11, 12, 13] rfl rfl rfl (by decide) (q0 := 0) rfl rfl rfl hl.1 rfl (Nat.le_of_ble_eq_true rfl) dL_law_192 ⟨Nat.le_of_ble_eq_true rfl, Nat.le_of_ble_eq_true rfl⟩ (fun v2 u2 H locs hq2 I => ?_)
          refine lv_icmp_eq (tgt := 548) hx hb dL_law_195 (by decide) (fun c2 => ?_) (fun c2 => ?_)
          · exact next u1 u2 H locs ls (by rw [hq2.2.1, hq2.2.2]; exact hq.2) I hl
          · exact absurd (hq.1.trans hq2.1.symm) c2
        · refine lv_tableIn (x := nI 2) (off := 158) (tgt := 200) hx hb dL_law_42 (by decide) (by decide) (by decide) (by decide) ?_
          refine lv_aload_n hx hb dL_law_200 rfl (lv_at hl 2 rfl) ?_
          refine lv_aload_n hx hb dL_law_201 rfl (lv_at hl 1 rfl) ?_
          refine lv_iload_n hx hb dL_law_202 rfl (lv_at hl 0 rfl) ?_
          refine lv_iconst (v := nI 1) hx hb dL_law_203 (by decide) ?_
          refine bn_add hx hb dL_law_204 ?_
          refine lx_sld F hX hbl hbA hL I (by omega) dL_law_205 ?_
          refine lv_aload_n hx hb dL_law_206 rfl (lv_at hl 1 rfl) ?_
          refine lv_iload_n hx hb dL_law_207 rfl (lv_at hl 0 rfl) ?_
          refine lv_iconst (v := nI 2) hx hb dL_law_208 (by decide) ?_
          refine bn_add hx hb dL_law_209 ?_
          refine lx_sld F hX hbl hbA hL I (by omega) dL_law_210 ?_
          refine lv_aload_n hx hb dL_law_211 rfl (lv_at hl 1 rfl) ?_
          refine lv_iload_n hx hb dL_law_212 rfl (lv_at hl 0 rfl) ?_
          refine lv_iconst (v := nI 3) hx hb dL_law_213 (by decide) ?_
          refine bn_add hx hb dL_law_214 ?_
          refine lx_sld F hX hbl hbA hL I (by omega) dL_law_215 ?_
          refine lv_aload_n hx hb dL_law_216 rfl (lv_at hl 1 rfl) ?_
          refine lv_iload_n hx hb dL_law_217 rfl (lv_at hl 0 rfl) ?_
          refine lv_iconst (v := nI 4) hx hb dL_law_218 (by decide) ?_
          refine bn_add hx hb dL_law_219 ?_
          refine lx_sld F hX hbl hbA hL I (by omega) dL_law_220 ?_
          refine lx_ci (wd := BW ha dI dZ) (wr := MW hm dI dZ mm) (rest := []) F I (metX1_copy RR (xs (i + 1)) (xs (i + 2)) (xs (i + 3)) (xs (i + 4))) (cwLX1_copy hts ⟨by decide, by decide⟩) [0, 1, 2, 3, 4, 5, 6, 7, 8, 9, 10] [11, 12, 13] rfl rfl rfl (by decide) (q0 := 0) rfl rfl rfl hl.1 rfl (Nat.le_of_ble_eq_true rfl) dL_law_221 ⟨Nat.le_of_ble_eq_true rfl, Nat.le_of_ble_eq_true rfl⟩ (fun v1 u1 H locs hq I => ?_)
          refine lv_aload_n hx hb dL_law_224 rfl (lv_at hl 3 rfl) ?_
          refine lv_aload_n hx hb dL_law_225 rfl (lv_at hl 1 rfl) ?_
          refine lv_iload_n hx hb dL_law_226 rfl (lv_at hl 0 rfl) ?_
          refine lv_iconst (v := nI 1) hx hb dL_law_227 (by decide) ?_
          refine bn_add hx hb dL_law_228 ?_
          refine lx_sld F hX hbl hbA hL I (by omega) dL_law_229 ?_
          refine lv_aload_n hx hb dL_law_230 rfl (lv_at hl 1 rfl) ?_
          refine lv_iload_n hx hb dL_law_231 rfl (lv_at hl 0 rfl) ?_
          refine lv_iconst (v := nI 2) hx hb dL_law_232 (by decide) ?_
          refine bn_add hx hb dL_law_233 ?_
          refine lx_sld F hX hbl hbA hL I (by omega) dL_law_234 ?_
          refine lv_aload_n hx hb dL_law_235 rfl (lv_at hl 1 rfl) ?_
          refine lv_iload_n hx hb dL_law_236 rfl (lv_at hl 0 rfl) ?_
          refine lv_iconst (v := nI 3) hx hb dL_law_237 (by decide) ?_
          refine bn_add hx hb dL_law_238 ?_
          refine lx_sld F hX hbl hbA hL I (by omega) dL_law_239 ?_
          refine lv_aload_n hx hb dL_law_240 rfl (lv_at hl 1 rfl) ?_
          refine lv_iload_n hx hb dL_law_241 rfl (lv_at hl 0 rfl) ?_
          refine lv_iconst (v := nI 4) hx hb dL_law_242 (by decide) ?_
          refine bn_add hx hb dL_law_243 ?_
          refine lx_sld F hX hbl hbA hL I (by omega) dL_law_244 ?_
          refine lx_ci (wd := MW hm dI dZ) (wr := BW ha dI dZ u1) (rest := [.int v1]) F I (metX2_copy (xs (i + 1)) (xs (i + 2)) (xs (i + 3)) (xs (i + 4))) (cwLX2_copy hts ⟨by decide, by decide⟩) [0, 1, 2] [3, 4, 5, 6, 7, 8, 9, 10, 11, 12, 13] rfl rfl rfl (by decide) (q0 := 0) rfl rfl rfl hl.1 rfl (Nat.le_of_ble_eq_true rfl) dL_law_245 ⟨Nat.le_of_ble_eq_true rfl, Nat.le_of_ble_eq_true rfl⟩ (fun v2 u2 H locs hq2 I => ?_)
          refine lv_icmp_eq (tgt := 548) hx hb dL_law_248 (by decide) (fun c2 => ?_) (fun c2 => ?_)
          · exact next u1 u2 H locs ls (by rw [hq2.2.1, hq2.2.2]; exact hq.2) I hl
          · exact absurd (hq.1.trans hq2.1.symm) c2
        · refine lv_tableIn (x := nI 3) (off := 211) (tgt := 253) hx hb dL_law_42 (by decide) (by decide) (by decide) (by decide) ?_
          refine lv_aload_n hx hb dL_law_253 rfl (lv_at hl 2 rfl) ?_
          refine lv_aload_n hx hb dL_law_254 rfl (lv_at hl 1 rfl) ?_
          refine lv_iload_n hx hb dL_law_255 rfl (lv_at hl 0 rfl) ?_
          refine lv_iconst (v := nI 1) hx hb dL_law_256 (by decide) ?_
          refine bn_add hx hb dL_law_257 ?_
          refine lx_sld F hX hbl hbA hL I (by omega) dL_law_258 ?_
          refine lv_aload_n hx hb dL_law_259 rfl (lv_at hl 1 rfl) ?_
          refine lv_iload_n hx hb dL_law_260 rfl (lv_at hl 0 rfl) ?_
          refine lv_iconst (v := nI 2) hx hb dL_law_261 (by decide) ?_
          refine bn_add hx hb dL_law_262 ?_
          refine lx_sld F hX hbl hbA hL I (by omega) dL_law_263 ?_
          refine lx_ci (wd := BW ha dI dZ) (wr := MW hm dI dZ mm) (rest := []) F I (metX1_release RR (xs (i + 1)) (xs (i + 2))) (cwLX1_release hts ⟨by decide, by decide⟩) [0, 1, 2, 3, 4, 5, 6, 7, 8, 9, 10] [11, 12, 13] rfl rfl rfl (by decide) (q0 := 0) rfl rfl rfl hl.1 rfl (Nat.le_of_ble_eq_true rfl) dL_law_264 ⟨Nat.le_of_ble_eq_true rfl, Nat.le_of_ble_eq_true rfl⟩ (fun v1 u1 H locs hq I => ?_)
          refine lv_aload_n hx hb dL_law_267 rfl (lv_at hl 3 rfl) ?_
          refine lv_aload_n hx hb dL_law_268 rfl (lv_at hl 1 rfl) ?_
          refine lv_iload_n hx hb dL_law_269 rfl (lv_at hl 0 rfl) ?_
          refine lv_iconst (v := nI 1) hx hb dL_law_270 (by decide) ?_
          refine bn_add hx hb dL_law_271 ?_
          refine lx_sld F hX hbl hbA hL I (by omega) dL_law_272 ?_
          refine lv_aload_n hx hb dL_law_273 rfl (lv_at hl 1 rfl) ?_
          refine lv_iload_n hx hb dL_law_274 rfl (lv_at hl 0 rfl) ?_
          refine lv_iconst (v := nI 2) hx hb dL_law_275 (by decide) ?_
          refine bn_add hx hb dL_law_276 ?_
          refine lx_sld F hX hbl hbA hL I (by omega) dL_law_277 ?_
          refine lx_ci (wd := MW hm dI dZ) (wr := BW ha dI dZ u1) (rest := [.int v1]) F I (metX2_release (xs (i + 1)) (xs (i + 2))) (cwLX2_release hts ⟨by decide, by decide⟩) [0, 1, 2] [3, 4, 5, 6, 7, 8, 9, 10, 11, 12, 13] rfl rfl rfl (by decide) (q0 := 0) rfl rfl rfl hl.1 rfl (Nat.le_of_ble_eq_true rfl) dL_law_278 ⟨Nat.le_of_ble_eq_true rfl, Nat.le_of_ble_eq_true rfl⟩ (fun v2 u2 H locs hq2 I => ?_)
          refine lv_icmp_eq (tgt := 548) hx hb dL_law_281 (by decide) (fun c2 => ?_) (fun c2 => ?_)
          · exact next u1 u2 H locs ls (by rw [hq2.2.1, hq2.2.2]; exact hq.2) I hl
          · exact absurd (hq.1.trans hq2.1.symm) c2
        · refine lv_tableIn (x := nI 4) (off := 244) (tgt := 286) hx hb dL_law_42 (by decide) (by decide) (by decide) (by decide) ?_
          refine lv_aload_n hx hb dL_law_286 rfl (lv_at hl 2 rfl) ?_
          refine lv_aload_n hx hb dL_law_287 rfl (lv_at hl 1 rfl) ?_
          refine lv_iload_n hx hb dL_law_288 rfl (lv_at hl 0 rfl) ?_
          refine lv_iconst (v := nI 1) hx hb dL_law_289 (by decide) ?_
          refine bn_add hx hb dL_law_290 ?_
          refine lx_sld F hX hbl hbA hL I (by omega) dL_law_291 ?_
          refine lv_aload_n hx hb dL_law_292 rfl (lv_at hl 1 rfl) ?_
          refine lv_iload_n hx hb dL_law_293 rfl (lv_at hl 0 rfl) ?_
          refine lv_iconst (v := nI 2) hx hb dL_law_294 (by decide) ?_
          refine bn_add hx hb dL_law_295 ?_
          refine lx_sld F hX hbl hbA hL I (by omega) dL_law_296 ?_
          refine lx_ci (wd := BW ha dI dZ) (wr := MW hm dI dZ mm) (rest := []) F I (metX1_cloneGuest RR (xs (i + 1)) (xs (i + 2))) (cwLX1_cloneGuest hts ⟨by decide, by decide⟩) [0, 1, 2, 3, 4, 5, 6, 7, 8, 9, 10] [11, 12, 13] rfl rfl rfl (by decide) (q0 := 0) rfl rfl rfl hl.1 rfl (Nat.le_of_ble_eq_true rfl) dL_law_297 ⟨Nat.le_of_ble_eq_true rfl, Nat.le_of_ble_eq_true rfl⟩ (fun v1 u1 H locs hq I => ?_)
          refine lv_aload_n hx hb dL_law_300 rfl (lv_at hl 3 rfl) ?_
          refine lv_aload_n hx hb dL_law_301 rfl (lv_at hl 1 rfl) ?_
          refine lv_iload_n hx hb dL_law_302 rfl (lv_at hl 0 rfl) ?_
          refine lv_iconst (v := nI 1) hx hb dL_law_303 (by decide) ?_
          refine bn_add hx hb dL_law_304 ?_
          refine lx_sld F hX hbl hbA hL I (by omega) dL_law_305 ?_
          refine lv_aload_n hx hb dL_law_306 rfl (lv_at hl 1 rfl) ?_
          refine lv_iload_n hx hb dL_law_307 rfl (lv_at hl 0 rfl) ?_
          refine lv_iconst (v := nI 2) hx hb dL_law_308 (by decide) ?_
          refine bn_add hx hb dL_law_309 ?_
          refine lx_sld F hX hbl hbA hL I (by omega) dL_law_310 ?_
          refine lx_ci (wd := MW hm dI dZ) (wr := BW ha dI dZ u1) (rest := [.int v1]) F I (metX2_cloneGuest (xs (i + 1)) (xs (i + 2))) (cwLX2_cloneGuest hts ⟨by decide, by decide⟩) [0, 1, 2] [3, 4, 5, 6, 7, 8, 9, 10, 11, 12, 13] rfl rfl rfl (by decide) (q0 := 0) rfl rfl rfl hl.1 rfl (Nat.le_of_ble_eq_true rfl) dL_law_311 ⟨Nat.le_of_ble_eq_true rfl, Nat.le_of_ble_eq_true rfl⟩ (fun v2 u2 H locs hq2 I => ?_)
          refine lv_icmp_eq (tgt := 548) hx hb dL_law_314 (by decide) (fun c2 => ?_) (fun c2 => ?_)
          · exact next u1 u2 H locs ls (by rw [hq2.2.1, hq2.2.2]; exact hq.2) I hl
          · exact absurd (hq.1.trans hq2.1.symm) c2
        · refine lv_tableIn (x := nI 5) (off := 277) (tgt := 319) hx hb dL_law_42 (by decide) (by decide) (by decide) (by decide) ?_
          refine lv_aload_n hx hb dL_law_319 rfl (lv_at hl 2 rfl) ?_
          refine lv_aload_n hx hb dL_law_320 rfl (lv_at hl 1 rfl) ?_
          refine lv_iload_n hx hb dL_law_321 rfl (lv_at hl 0 rfl) ?_
          refine lv_iconst (v := nI 1) hx hb dL_law_322 (by decide) ?_
          refine bn_add hx hb dL_law_323 ?_
          refine lx_sld F hX hbl hbA hL I (by omega) dL_law_324 ?_
          refine lv_aload_n hx hb dL_law_325 rfl (lv_at hl 1 rfl) ?_
          refine lv_iload_n hx hb dL_law_326 rfl (lv_at hl 0 rfl) ?_
          refine lv_iconst (v := nI 2) hx hb dL_law_327 (by decide) ?_
          refine bn_add hx hb dL_law_328 ?_
          refine lx_sld F hX hbl hbA hL I (by omega) dL_law_329 ?_
          refine lx_ci (wd := BW ha dI dZ) (wr := MW hm dI dZ mm) (rest := []) F I (metX1_shares RR (xs (i + 1)) (xs (i + 2))) (cwLX1_shares hts ⟨by decide, by decide⟩) [0, 1, 2, 3, 4, 5, 6, 7, 8, 9, 10] [11, 12, 13] rfl rfl rfl (by decide) (q0 := 0) rfl rfl rfl hl.1 rfl (Nat.le_of_ble_eq_true rfl) dL_law_330 ⟨Nat.le_of_ble_eq_true rfl, Nat.le_of_ble_eq_true rfl⟩ (fun v1 u1 H locs hq I => ?_)
          refine lv_aload_n hx hb dL_law_333 rfl (lv_at hl 3 rfl) ?_
          refine lv_aload_n hx hb dL_law_334 rfl (lv_at hl 1 rfl) ?_
          refine lv_iload_n hx hb dL_law_335 rfl (lv_at hl 0 rfl) ?_
          refine lv_iconst (v := nI 1) hx hb dL_law_336 (by decide) ?_
          refine bn_add hx hb dL_law_337 ?_
          refine lx_sld F hX hbl hbA hL I (by omega) dL_law_338 ?_
          refine lv_aload_n hx hb dL_law_339 rfl (lv_at hl 1 rfl) ?_
          refine lv_iload_n hx hb dL_law_340 rfl (lv_at hl 0 rfl) ?_
          refine lv_iconst (v := nI 2) hx hb dL_law_341 (by decide) ?_
          refine bn_add hx hb dL_law_342 ?_
          refine lx_sld F hX hbl hbA hL I (by omega) dL_law_343 ?_
          refine lx_ci (wd := MW hm dI dZ) (wr := BW ha dI dZ u1) (rest := [.int v1]) F I (metX2_shares (xs (i + 1)) (xs (i + 2))) (cwLX2_shares hts ⟨by decide, by decide⟩) [0, 1, 2] [3, 4, 5, 6, 7, 8, 9, 10, 11, 12, 13] rfl rfl rfl (by decide) (q0 := 0) rfl rfl rfl hl.1 rfl (Nat.le_of_ble_eq_true rfl) dL_law_344 ⟨Nat.le_of_ble_eq_true rfl, Nat.le_of_ble_eq_true rfl⟩ (fun v2 u2 H locs hq2 I => ?_)
          refine lv_icmp_eq (tgt := 548) hx hb dL_law_347 (by decide) (fun c2 => ?_) (fun c2 => ?_)
          · exact next u1 u2 H locs ls (by rw [hq2.2.1, hq2.2.2]; exact hq.2) I hl
          · exact absurd (hq.1.trans hq2.1.symm) c2
        · refine lv_tableIn (x := nI 6) (off := 310) (tgt := 352) hx hb dL_law_42 (by decide) (by decide) (by decide) (by decide) ?_
          refine lv_aload_n hx hb dL_law_352 rfl (lv_at hl 2 rfl) ?_
          refine lv_aload_n hx hb dL_law_353 rfl (lv_at hl 1 rfl) ?_
          refine lv_iload_n hx hb dL_law_354 rfl (lv_at hl 0 rfl) ?_
          refine lv_iconst (v := nI 1) hx hb dL_law_355 (by decide) ?_
          refine bn_add hx hb dL_law_356 ?_
          refine lx_sld F hX hbl hbA hL I (by omega) dL_law_357 ?_
          refine lx_cv (wd := BW ha dI dZ) (wr := MW hm dI dZ mm) (rest := []) F I (metX1_tidy RR (xs (i + 1))) (cwLX1_tidy hts ⟨by decide, by decide⟩) [0, 1, 2, 3, 4, 5, 6, 7, 8, 9, 10] [11, 12, 13] rfl rfl rfl (by decide) (q0 := 0) rfl rfl rfl hl.1 rfl (Nat.le_of_ble_eq_true rfl) dL_law_358 ⟨Nat.le_of_ble_eq_true rfl, Nat.le_of_ble_eq_true rfl⟩ (fun u1 H locs hq I => ?_)
          refine lv_aload_n hx hb dL_law_361 rfl (lv_at hl 3 rfl) ?_
          refine lv_aload_n hx hb dL_law_362 rfl (lv_at hl 1 rfl) ?_
          refine lv_iload_n hx hb dL_law_363 rfl (lv_at hl 0 rfl) ?_
          refine lv_iconst (v := nI 1) hx hb dL_law_364 (by decide) ?_
          refine bn_add hx hb dL_law_365 ?_
          refine lx_sld F hX hbl hbA hL I (by omega) dL_law_366 ?_
          refine lx_cv (wd := MW hm dI dZ) (wr := BW ha dI dZ u1) (rest := []) F I (metX2_tidy (xs (i + 1))) (cwLX2_tidy hts ⟨by decide, by decide⟩) [0, 1, 2] [3, 4, 5, 6, 7, 8, 9, 10, 11, 12, 13] rfl rfl rfl (by decide) (q0 := 0) rfl rfl rfl hl.1 rfl (Nat.le_of_ble_eq_true rfl) dL_law_367 ⟨Nat.le_of_ble_eq_true rfl, Nat.le_of_ble_eq_true rfl⟩ (fun u2 H locs hq2 I => ?_)
          refine lv_goto (tgt := 548) hx hb dL_law_370 (by decide) ?_
          exact next u1 u2 H locs ls (by rw [hq2]; exact hq) I hl
        · refine lv_tableIn (x := nI 7) (off := 331) (tgt := 373) hx hb dL_law_42 (by decide) (by decide) (by decide) (by decide) ?_
          refine lv_aload_n hx hb dL_law_373 rfl (lv_at hl 2 rfl) ?_
          refine lv_aload_n hx hb dL_law_374 rfl (lv_at hl 1 rfl) ?_
          refine lv_iload_n hx hb dL_law_375 rfl (lv_at hl 0 rfl) ?_
          refine lv_iconst (v := nI 1) hx hb dL_law_376 (by decide) ?_
          refine bn_add hx hb dL_law_377 ?_
          refine lx_sld F hX hbl hbA hL I (by omega) dL_law_378 ?_
          refine lv_aload_n hx hb dL_law_379 rfl (lv_at hl 1 rfl) ?_
          refine lv_iload_n hx hb dL_law_380 rfl (lv_at hl 0 rfl) ?_
          refine lv_iconst (v := nI 2) hx hb dL_law_381 (by decide) ?_
          refine bn_add hx hb dL_law_382 ?_
          refine lx_sld F hX hbl hbA hL I (by omega) dL_law_383 ?_
          refine lx_ci (wd := BW ha dI dZ) (wr := MW hm dI dZ mm) (rest := []) F I (metX1_read RR (xs (i + 1)) (xs (i + 2))) (cwLX1_read hts ⟨by decide, by decide⟩) [0, 1, 2, 3, 4, 5, 6, 7, 8, 9, 10] [11, 12, 13] rfl rfl rfl (by decide) (q0 := 0) rfl rfl rfl hl.1 rfl (Nat.le_of_ble_eq_true rfl) dL_law_384 ⟨Nat.le_of_ble_eq_true rfl, Nat.le_of_ble_eq_true rfl⟩ (fun v1 u1 H locs hq I => ?_)
          refine lv_aload_n hx hb dL_law_387 rfl (lv_at hl 3 rfl) ?_
          refine lv_aload_n hx hb dL_law_388 rfl (lv_at hl 1 rfl) ?_
          refine lv_iload_n hx hb dL_law_389 rfl (lv_at hl 0 rfl) ?_
          refine lv_iconst (v := nI 1) hx hb dL_law_390 (by decide) ?_
          refine bn_add hx hb dL_law_391 ?_
          refine lx_sld F hX hbl hbA hL I (by omega) dL_law_392 ?_
          refine lv_aload_n hx hb dL_law_393 rfl (lv_at hl 1 rfl) ?_
          refine lv_iload_n hx hb dL_law_394 rfl (lv_at hl 0 rfl) ?_
          refine lv_iconst (v := nI 2) hx hb dL_law_395 (by decide) ?_
          refine bn_add hx hb dL_law_396 ?_
          refine lx_sld F hX hbl hbA hL I (by omega) dL_law_397 ?_
          refine lx_ci (wd := MW hm dI dZ) (wr := BW ha dI dZ u1) (rest := [.int v1]) F I (metX2_read (xs (i + 1)) (xs (i + 2))) (cwLX2_read hts ⟨by decide, by decide⟩) [0, 1, 2] [3, 4, 5, 6, 7, 8, 9, 10, 11, 12, 13] rfl rfl rfl (by decide) (q0 := 0) rfl rfl rfl hl.1 rfl (Nat.le_of_ble_eq_true rfl) dL_law_398 ⟨Nat.le_of_ble_eq_true rfl, Nat.le_of_ble_eq_true rfl⟩ (fun v2 u2 H locs hq2 I => ?_)
          refine lv_icmp_eq (tgt := 548) hx hb dL_law_401 (by decide) (fun c2 => ?_) (fun c2 => ?_)
          · exact next u1 u2 H locs ls (by rw [hq2.2]; exact hq.2) I hl
          · exact absurd (hq.1.trans hq2.1.symm) c2
        · refine lv_tableIn (x := nI 8) (off := 364) (tgt := 406) hx hb dL_law_42 (by decide) (by decide) (by decide) (by decide) ?_
          refine lv_aload_n hx hb dL_law_406 rfl (lv_at hl 2 rfl) ?_
          refine lv_aload_n hx hb dL_law_407 rfl (lv_at hl 1 rfl) ?_
          refine lv_iload_n hx hb dL_law_408 rfl (lv_at hl 0 rfl) ?_
          refine lv_iconst (v := nI 1) hx hb dL_law_409 (by decide) ?_
          refine bn_add hx hb dL_law_410 ?_
          refine lx_sld F hX hbl hbA hL I (by omega) dL_law_411 ?_
          refine lv_aload_n hx hb dL_law_412 rfl (lv_at hl 1 rfl) ?_
          refine lv_iload_n hx hb dL_law_413 rfl (lv_at hl 0 rfl) ?_
          refine lv_iconst (v := nI 2) hx hb dL_law_414 (by decide) ?_
          refine bn_add hx hb dL_law_415 ?_
          refine lx_sld F hX hbl hbA hL I (by omega) dL_law_416 ?_
          refine lx_ci (wd := BW ha dI dZ) (wr := MW hm dI dZ mm) (rest := []) F I (metX1_sum RR (xs (i + 1)) (xs (i + 2))) (cwLX1_sum hts ⟨by decide, by decide⟩) [0, 1, 2, 3, 4, 5, 6, 7, 8, 9, 10] [11, 12, 13] rfl rfl rfl (by decide) (q0 := 0) rfl rfl rfl hl.1 rfl (Nat.le_of_ble_eq_true rfl) dL_law_417 ⟨Nat.le_of_ble_eq_true rfl, Nat.le_of_ble_eq_true rfl⟩ (fun v1 u1 H locs hq I => ?_)
          refine lv_aload_n hx hb dL_law_420 rfl (lv_at hl 3 rfl) ?_
          refine lv_aload_n hx hb dL_law_421 rfl (lv_at hl 1 rfl) ?_
          refine lv_iload_n hx hb dL_law_422 rfl (lv_at hl 0 rfl) ?_
          refine lv_iconst (v := nI 1) hx hb dL_law_423 (by decide) ?_
          refine bn_add hx hb dL_law_424 ?_
          refine lx_sld F hX hbl hbA hL I (by omega) dL_law_425 ?_
          refine lv_aload_n hx hb dL_law_426 rfl (lv_at hl 1 rfl) ?_
          refine lv_iload_n hx hb dL_law_427 rfl (lv_at hl 0 rfl) ?_
          refine lv_iconst (v := nI 2) hx hb dL_law_428 (by decide) ?_
          refine bn_add hx hb dL_law_429 ?_
          refine lx_sld F hX hbl hbA hL I (by omega) dL_law_430 ?_
          refine lx_ci (wd := MW hm dI dZ) (wr := BW ha dI dZ u1) (rest := [.int v1]) F I (metX2_sum (xs (i + 1)) (xs (i + 2))) (cwLX2_sum hts ⟨by decide, by decide⟩) [0, 1, 2] [3, 4, 5, 6, 7, 8, 9, 10, 11, 12, 13] rfl rfl rfl (by decide) (q0 := 0) rfl rfl rfl hl.1 rfl (Nat.le_of_ble_eq_true rfl) dL_law_431 ⟨Nat.le_of_ble_eq_true rfl, Nat.le_of_ble_eq_true rfl⟩ (fun v2 u2 H locs hq2 I => ?_)
          refine lv_icmp_eq (tgt := 548) hx hb dL_law_434 (by decide) (fun c2 => ?_) (fun c2 => ?_)
          · exact next u1 u2 H locs ls (by rw [hq2.2]; exact hq.2) I hl
          · exact absurd (hq.1.trans hq2.1.symm) c2
        · refine lv_tableIn (x := nI 9) (off := 397) (tgt := 439) hx hb dL_law_42 (by decide) (by decide) (by decide) (by decide) ?_
          refine lv_aload_n hx hb dL_law_439 rfl (lv_at hl 2 rfl) ?_
          refine lv_aload_n hx hb dL_law_440 rfl (lv_at hl 1 rfl) ?_
          refine lv_iload_n hx hb dL_law_441 rfl (lv_at hl 0 rfl) ?_
          refine lv_iconst (v := nI 1) hx hb dL_law_442 (by decide) ?_
          refine bn_add hx hb dL_law_443 ?_
          refine lx_sld F hX hbl hbA hL I (by omega) dL_law_444 ?_
          refine lv_aload_n hx hb dL_law_445 rfl (lv_at hl 1 rfl) ?_
          refine lv_iload_n hx hb dL_law_446 rfl (lv_at hl 0 rfl) ?_
          refine lv_iconst (v := nI 2) hx hb dL_law_447 (by decide) ?_
          refine bn_add hx hb dL_law_448 ?_
          refine lx_sld F hX hbl hbA hL I (by omega) dL_law_449 ?_
          refine lv_aload_n hx hb dL_law_450 rfl (lv_at hl 1 rfl) ?_
          refine lv_iload_n hx hb dL_law_451 rfl (lv_at hl 0 rfl) ?_
          refine lv_iconst (v := nI 3) hx hb dL_law_452 (by decide) ?_
          refine bn_add hx hb dL_law_453 ?_
          refine lx_sld F hX hbl hbA hL I (by omega) dL_law_454 ?_
          refine lv_aload_n hx hb dL_law_455 rfl (lv_at hl 1 rfl) ?_
          refine lv_iload_n hx hb dL_law_456 rfl (lv_at hl 0 rfl) ?_
          refine lv_iconst (v := nI 4) hx hb dL_law_457 (by decide) ?_
          refine bn_add hx hb dL_law_458 ?_
          refine lx_sld F hX hbl hbA hL I (by omega) dL_law_459 ?_
          refine lx_ci (wd := BW ha dI dZ) (wr := MW hm dI dZ mm) (rest := []) F I (metX1_same RR (xs (i + 1)) (xs (i + 2)) (xs (i + 3)) (xs (i + 4))) (cwLX1_same hts ⟨by decide, by decide⟩) [0, 1, 2, 3, 4, 5, 6, 7, 8, 9, 10] [11, 12, 13] rfl rfl rfl (by decide) (q0 := 0) rfl rfl rfl hl.1 rfl (Nat.le_of_ble_eq_true rfl) dL_law_460 ⟨Nat.le_of_ble_eq_true rfl, Nat.le_of_ble_eq_true rfl⟩ (fun v1 u1 H locs hq I => ?_)
          refine lv_aload_n hx hb dL_law_463 rfl (lv_at hl 3 rfl) ?_
          refine lv_aload_n hx hb dL_law_464 rfl (lv_at hl 1 rfl) ?_
          refine lv_iload_n hx hb dL_law_465 rfl (lv_at hl 0 rfl) ?_
          refine lv_iconst (v := nI 1) hx hb dL_law_466 (by decide) ?_
          refine bn_add hx hb dL_law_467 ?_
          refine lx_sld F hX hbl hbA hL I (by omega) dL_law_468 ?_
          refine lv_aload_n hx hb dL_law_469 rfl (lv_at hl 1 rfl) ?_
          refine lv_iload_n hx hb dL_law_470 rfl (lv_at hl 0 rfl) ?_
          refine lv_iconst (v := nI 2) hx hb dL_law_471 (by decide) ?_
          refine bn_add hx hb dL_law_472 ?_
          refine lx_sld F hX hbl hbA hL I (by omega) dL_law_473 ?_
          refine lv_aload_n hx hb dL_law_474 rfl (lv_at hl 1 rfl) ?_
          refine lv_iload_n hx hb dL_law_475 rfl (lv_at hl 0 rfl) ?_
          refine lv_iconst (v := nI 3) hx hb dL_law_476 (by decide) ?_
          refine bn_add hx hb dL_law_477 ?_
          refine lx_sld F hX hbl hbA hL I (by omega) dL_law_478 ?_
          refine lv_aload_n hx hb dL_law_479 rfl (lv_at hl 1 rfl) ?_
          refine lv_iload_n hx hb dL_law_480 rfl (lv_at hl 0 rfl) ?_
          refine lv_iconst (v := nI 4) hx hb dL_law_481 (by decide) ?_
          refine bn_add hx hb dL_law_482 ?_
          refine lx_sld F hX hbl hbA hL I (by omega) dL_law_483 ?_
          refine lx_ci (wd := MW hm dI dZ) (wr := BW ha dI dZ u1) (rest := [.int v1]) F I (metX2_same (xs (i + 1)) (xs (i + 2)) (xs (i + 3)) (xs (i + 4))) (cwLX2_same hts ⟨by decide, by decide⟩) [0, 1, 2] [3, 4, 5, 6, 7, 8, 9, 10, 11, 12, 13] rfl rfl rfl (by decide) (q0 := 0) rfl rfl rfl hl.1 rfl (Nat.le_of_ble_eq_true rfl) dL_law_484 ⟨Nat.le_of_ble_eq_true rfl, Nat.le_of_ble_eq_true rfl⟩ (fun v2 u2 H locs hq2 I => ?_)
          refine lv_icmp_eq (tgt := 548) hx hb dL_law_487 (by decide) (fun c2 => ?_) (fun c2 => ?_)
          · exact next u1 u2 H locs ls (by rw [hq2.2]; exact hq.2) I hl
          · exact absurd (hq.1.trans hq2.1.symm) c2
        · refine lv_tableIn (x := nI 10) (off := 450) (tgt := 492) hx hb dL_law_42 (by decide) (by decide) (by decide) (by decide) ?_
          refine lv_aload_n hx hb dL_law_492 rfl (lv_at hl 2 rfl) ?_
          refine lv_aload_n hx hb dL_law_493 rfl (lv_at hl 1 rfl) ?_
          refine lv_iload_n hx hb dL_law_494 rfl (lv_at hl 0 rfl) ?_
          refine lv_iconst (v := nI 1) hx hb dL_law_495 (by decide) ?_
          refine bn_add hx hb dL_law_496 ?_
          refine lx_sld F hX hbl hbA hL I (by omega) dL_law_497 ?_
          refine lx_ci (wd := BW ha dI dZ) (wr := MW hm dI dZ mm) (rest := []) F I (metX1_contents RR (xs (i + 1))) (cwLX1_contents hts ⟨by decide, by decide⟩) [0, 1, 2, 3, 4, 5, 6, 7, 8, 9, 10] [11, 12, 13] rfl rfl rfl (by decide) (q0 := 0) rfl rfl rfl hl.1 rfl (Nat.le_of_ble_eq_true rfl) dL_law_498 ⟨Nat.le_of_ble_eq_true rfl, Nat.le_of_ble_eq_true rfl⟩ (fun v1 u1 H locs hq I => ?_)
          refine lv_aload_n hx hb dL_law_501 rfl (lv_at hl 3 rfl) ?_
          refine lv_aload_n hx hb dL_law_502 rfl (lv_at hl 1 rfl) ?_
          refine lv_iload_n hx hb dL_law_503 rfl (lv_at hl 0 rfl) ?_
          refine lv_iconst (v := nI 1) hx hb dL_law_504 (by decide) ?_
          refine bn_add hx hb dL_law_505 ?_
          refine lx_sld F hX hbl hbA hL I (by omega) dL_law_506 ?_
          refine lx_ci (wd := MW hm dI dZ) (wr := BW ha dI dZ u1) (rest := [.int v1]) F I (metX2_contents (xs (i + 1))) (cwLX2_contents hts ⟨by decide, by decide⟩) [0, 1, 2] [3, 4, 5, 6, 7, 8, 9, 10, 11, 12, 13] rfl rfl rfl (by decide) (q0 := 0) rfl rfl rfl hl.1 rfl (Nat.le_of_ble_eq_true rfl) dL_law_507 ⟨Nat.le_of_ble_eq_true rfl, Nat.le_of_ble_eq_true rfl⟩ (fun v2 u2 H locs hq2 I => ?_)
          refine lv_icmp_eq (tgt := 548) hx hb dL_law_510 (by decide) (fun c2 => ?_) (fun c2 => ?_)
          · exact next u1 u2 H locs ls (by rw [hq2.2]; exact hq.2) I hl
          · exact absurd (hq.1.trans hq2.1.symm) c2
        · refine lv_tableIn (x := nI 11) (off := 473) (tgt := 515) hx hb dL_law_42 (by decide) (by decide) (by decide) (by decide) ?_
          refine lv_aload_n hx hb dL_law_515 rfl (lv_at hl 2 rfl) ?_
          refine lv_aload_n hx hb dL_law_516 rfl (lv_at hl 1 rfl) ?_
          refine lv_iload_n hx hb dL_law_517 rfl (lv_at hl 0 rfl) ?_
          refine lv_iconst (v := nI 1) hx hb dL_law_518 (by decide) ?_
          refine bn_add hx hb dL_law_519 ?_
          refine lx_sld F hX hbl hbA hL I (by omega) dL_law_520 ?_
          refine lv_aload_n hx hb dL_law_521 rfl (lv_at hl 1 rfl) ?_
          refine lv_iload_n hx hb dL_law_522 rfl (lv_at hl 0 rfl) ?_
          refine lv_iconst (v := nI 2) hx hb dL_law_523 (by decide) ?_
          refine bn_add hx hb dL_law_524 ?_
          refine lx_sld F hX hbl hbA hL I (by omega) dL_law_525 ?_
          refine lx_ci (wd := BW ha dI dZ) (wr := MW hm dI dZ mm) (rest := []) F I (metX1_twins RR (xs (i + 1)) (xs (i + 2))) (cwLX1_twins hts ⟨by decide, by decide⟩) [0, 1, 2, 3, 4, 5, 6, 7, 8, 9, 10] [11, 12, 13] rfl rfl rfl (by decide) (q0 := 0) rfl rfl rfl hl.1 rfl (Nat.le_of_ble_eq_true rfl) dL_law_526 ⟨Nat.le_of_ble_eq_true rfl, Nat.le_of_ble_eq_true rfl⟩ (fun v1 u1 H locs hq I => ?_)
          refine lv_aload_n hx hb dL_law_529 rfl (lv_at hl 3 rfl) ?_
          refine lv_aload_n hx hb dL_law_530 rfl (lv_at hl 1 rfl) ?_
          refine lv_iload_n hx hb dL_law_531 rfl (lv_at hl 0 rfl) ?_
          refine lv_iconst (v := nI 1) hx hb dL_law_532 (by decide) ?_
          refine bn_add hx hb dL_law_533 ?_
          refine lx_sld F hX hbl hbA hL I (by omega) dL_law_534 ?_
          refine lv_aload_n hx hb dL_law_535 rfl (lv_at hl 1 rfl) ?_
          refine lv_iload_n hx hb dL_law_536 rfl (lv_at hl 0 rfl) ?_
          refine lv_iconst (v := nI 2) hx hb dL_law_537 (by decide) ?_
          refine bn_add hx hb dL_law_538 ?_
          refine lx_sld F hX hbl hbA hL I (by omega) dL_law_539 ?_
          refine lx_ci (wd := MW hm dI dZ) (wr := BW ha dI dZ u1) (rest := [.int v1]) F I (metX2_twins (xs (i + 1)) (xs (i + 2))) (cwLX2_twins hts ⟨by decide, by decide⟩) [0, 1, 2] [3, 4, 5, 6, 7, 8, 9, 10, 11, 12, 13] rfl rfl rfl (by decide) (q0 := 0) rfl rfl rfl hl.1 rfl (Nat.le_of_ble_eq_true rfl) dL_law_540 ⟨Nat.le_of_ble_eq_true rfl, Nat.le_of_ble_eq_true rfl⟩ (fun v2 u2 H locs hq2 I => ?_)
          refine lv_icmp_eq (tgt := 548) hx hb dL_law_543 (by decide) (fun c2 => ?_) (fun c2 => ?_)
          · exact next u1 u2 H locs ls (by rw [hq2.2]; exact hq.2) I hl
          · exact absurd (hq.1.trans hq2.1.symm) c2
        · refine lv_tableOut (tgt := 548) hx hb dL_law_42 (Or.inr (by rw [nI_toInt (by omega)]; omega)) (by decide) ?_
          exact next g mm H locs ls RR I hl
  exact loop 322 1 g0 m0 H locs ls (by omega) (by omega) ⟨RR0.1, by rw [ew]; exact RR0.2.1, fun i hi => (RR0.2.2 i hi).trans (es i hi).symm⟩ I (lv_sub hl [0, 3, 2, 1] rfl)
end
section
set_option maxHeartbeats 4000000 in
theorem lw_walk (l : Launch) (b : Addr) (xs : List Int32) : MetFree l x (headSpec (Jvm.Cond.code x code maxLocals ret :: tables_1) room_1) (lw_P b xs) (fun _ _ _ _ _ => True) lw_Q := by
  refine MetFree.of_bodyS (code := code) (maxLocals := maxLocals) (ret := ret) (by decide) ?_ ?_
  · intro args s m h hn
    obtain ⟨meth, c, h1, h2, h3, h4, h5, h6, -, -⟩ := Cond.code_spec hn (atoms_spec (ws := Jvm.Cond.code x code maxLocals ret :: tables_1) h _ List.mem_cons_self)
    exact ⟨meth, c, h1, h2, h3, h4, h5, h6⟩
  · intro p e s m args below meth c s₁ B hml0 hP _
    obtain ⟨rfl, hx, hbd, hgv⟩ := hP
    obtain ⟨scr, harrAt, hlist, hof, hsmall⟩ := hx
    obtain ⟨hcb, hkn, -, -⟩ := State.arrayAt?_spec harrAt
    have hown : s.vm.findClass R_law = some m.cls := findClass_of_methodNamed B.named
    have hts0 : ∀ c ∈ (Jvm.Cond.code x code maxLocals ret :: tables_1), c.before #[Value.ref b] s = true := atoms_spec (ws := Jvm.Cond.code x code maxLocals ret :: tables_1) B.pre
    have hts : ∀ w ∈ lw_tbl, w.before #[Value.ref b] s = true := k2_hts_sels lw_privs (fun w hw => hts0 w (List.mem_cons_of_mem _ hw)) lw_privs_ok
    have hml : c.maxLocals = 4 := B.maxLocals_eq (hts0 _ List.mem_cons_self)
    have X₀ : Stand p l e room_1 s m #[Value.ref b] below meth c s₁ [] 0 0 := Stand.of_body B
    have hh0 : s₁.heap = s.heap := by rw [B.state]; rfl
    have hsz : scr.slots.size = xs.length := by rw [← Array.length_toList, hlist, List.length_map]
    have hval : ∀ j : Nat, j < xs.length → scr.slots[j]? = some (.int (xs.getD j 0)) := fun j hj => by
      rw [← Array.getElem?_toList, hlist]
      simp [hj]
    have hbl : b < s.heap.size := (Array.getElem?_eq_some_iff.mp hcb).1
    have hX : va_X b xs.length (fun j => xs.getD j 0) s s.heap := ⟨scr, hcb, hof, hkn, hsz, hval⟩
    have K : W p l e room_1 s m #[Value.ref b] below meth c s₁.heap [] 0 0 (lw_Z below #[Value.ref b] s) (entryFrame m ([Value.ref b] : List Value).toArray 4) := by
      rw [hh0]
      exact whole_start l hbd ⟨B.exec, B.bytes, B.returns, hml, hown, hts, hX, hbl, B.notSynchronized, hgv⟩
    obtain ⟨t, a1, o, b1, b2, b3⟩ := K s₁ rfl X₀
    exact ⟨t, o, a1, b1, b2, b3⟩
theorem lw_pre_spec {args : Array Value} {s : State} (h : (Jvm.Cond.and given_1 narrow_1).before args s = true) (hr : rest_1_c.before args s = true) : ∃ (b : Addr) (xs : List Int32), lw_P b xs args s := by
  have hs := flat_of_before _ h
  have hq := flat_of_before _ hr
  have hc : (Cond.count 1).before args s = true := hs _ (by decide +kernel)
  have harr : (Cond.arrayOf (.arg 0) .int).before args s = true := hs _ (by decide +kernel)
  have hle : (Cond.le (.length (.arg 0)) (.int 321)).before args s = true := hs _ (by decide +kernel)
  have hlen : (Cond.isInt (.length (.arg 0))).before args s = true := hq _ (by decide +kernel)
  have hall : (Cond.all (.arg 0) (.isInt (.elem (.arg 0) (.index 0)))).before args s = true := hq _ (by decide +kernel)
  obtain ⟨b, xs, hb, hx⟩ := State.ints_of_pre rfl harr hlen hall
  have hsm : xs.length < 2 ^ 31 := hx.choose_spec.2.2.2
  have hev : (Term.length (.arg 0)).eval args s none [] s = some (.int xs.length.toInt32) := hx.length_eval hb
  have hv := Cond.le_ints hev (show (Term.int 321).eval args s none [] s = some (.int 321) from rfl)
  have hd : xs.length.toInt32 ≤ 321 := by
    simpa [Cond.before, Cond.holds, hv] using hle
  have hN : xs.length ≤ 321 := (Int32.ofNat_le_ofNat hsm (by decide)).mp (show Int32.ofNat xs.length ≤ Int32.ofNat 321 from hd)
  exact ⟨b, xs, Cond.one_arg hc (show args[0]? = some (.ref b) from hb), hx, hN, h⟩
theorem lw_comes (l : Launch) : Comes l x (Jvm.Cond.code x code maxLocals ret :: tables_1) room_1 (fun tb e args s => Calls_1 tb e args s ∧ rest_1 tb e args s ∧ Pre_1 tb e args s)
    (fun _ _ args s o t => lw_Q args s o t) := by
  intro p e ha hc hk s m args below hf hfit hheap happ hpre
  obtain ⟨b, xs, hP⟩ := lw_pre_spec hpre.2.2 hpre.2.1
  obtain ⟨k, o, h1, h2, h3, hQ⟩ := lw_walk l b xs p e ha hc hk s m args below hf ((Spec.applies_iff_loose hf).mp happ).1 hP trivial
  exact ⟨k, o, h1, h2, h3, hQ⟩
theorem lw_frame {s t : State} {o : Outcome} {args : Array Value} (h : Framed s o t [] 600000 7290000) :
    Framed s o t (fieldLocs frame_1_writes args s ++ arrayLocs frame_1_arrays args s ++ staticLocs frame_1_statics s) 600000 7290000 := h
theorem lw_limb (L : Cond) (hL : ∀ (args : Array Value) (s t : State), L.after args s (.returned (some (.int 1))) t = true) :
    ArmFor flags0 classFile x code maxLocals ret World_1 tables_1 room_1 Calls_1 rest_1 Pre_1
      (fun tb e a s o t => postC L tb e a s o t ∧ Framed s o t (fieldLocs frame_1_writes a s ++ arrayLocs frame_1_arrays a s ++ staticLocs frame_1_statics s) 600000 7290000) := by
  intro l _ _ _ p e ha hc hk s m args below hf hfit hheap happ hpre
  obtain ⟨k, o, h1, h2, h3, rfl, hF⟩ := lw_comes l p e ha hc hk s m args below hf hfit hheap happ hpre
  exact ⟨k, _, h1, h2, h3, hL args s _, lw_frame hF⟩
theorem i_vc : Claimed_1_1 ∧ Claimed_1_2 := ⟨lw_limb limb_1_1 (fun args s t => by simp [limb_1_1, Cond.after, Cond.holds, Cond.value]), lw_limb limb_1_2 (fun args s t => Cond.after_iff.mpr (by
  first | (rw [show limb_1_2 = Cond.eq .result (.int 1) from rfl, Cond.eq_ints (x := 1) (y := 1) rfl rfl]; simp; done) | (simp [limb_1_2, Cond.value, Term.eval]; done)))⟩
end
