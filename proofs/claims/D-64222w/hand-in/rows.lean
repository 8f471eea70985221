section
-- ===== PART A: goes FIRST, ahead of the names: the tables' words, and 'selects' of the private methods out of them =====
/-- a private method of a class that the tables say can be made, by its rows of tables_1 -/
def lw_okq (q : MethodName × Nat) : Prop := (q.1.cls ≠ "java/lang/invoke/MethodHandle" ∧ q.1.cls ≠ "java/lang/invoke/VarHandle") ∧ Cond.instantiable q.1.cls q.2 ∈ tables_1 ∧ Cond.privateMethod q.1 ∈ tables_1 ∧ Cond.instanceMethod q.1 ∈ tables_1
set_option maxRecDepth 100000
theorem lw_p0 : lw_okq (⟨"FieldTower", "build", "(III)V"⟩, 6) := ⟨⟨by decide +kernel, by decide +kernel⟩, List.mem_of_getElem? (i := 4) rfl, List.mem_of_getElem? (i := 12) rfl, List.mem_of_getElem? (i := 13) rfl⟩
theorem lw_p1 : lw_okq (⟨"FieldTower", "makesAll", "(I)Z"⟩, 6) := ⟨⟨by decide +kernel, by decide +kernel⟩, List.mem_of_getElem? (i := 4) rfl, List.mem_of_getElem? (i := 16) rfl, List.mem_of_getElem? (i := 17) rfl⟩
theorem lw_p2 : lw_okq (⟨"FieldTower", "productByCoefficients", "(II)I"⟩, 6) := ⟨⟨by decide +kernel, by decide +kernel⟩, List.mem_of_getElem? (i := 4) rfl, List.mem_of_getElem? (i := 20) rfl, List.mem_of_getElem? (i := 21) rfl⟩
theorem lw_p3 : lw_okq (⟨"FieldTower", "isElement", "(I)Z"⟩, 6) := ⟨⟨by decide +kernel, by decide +kernel⟩, List.mem_of_getElem? (i := 4) rfl, List.mem_of_getElem? (i := 52) rfl, List.mem_of_getElem? (i := 53) rfl⟩
theorem lw_p4 : lw_okq (⟨"FieldTower", "sumOf", "(II)I"⟩, 6) := ⟨⟨by decide +kernel, by decide +kernel⟩, List.mem_of_getElem? (i := 4) rfl, List.mem_of_getElem? (i := 56) rfl, List.mem_of_getElem? (i := 57) rfl⟩
theorem lw_p5 : lw_okq (⟨"FieldTower", "productOf", "(II)I"⟩, 6) := ⟨⟨by decide +kernel, by decide +kernel⟩, List.mem_of_getElem? (i := 4) rfl, List.mem_of_getElem? (i := 64) rfl, List.mem_of_getElem? (i := 65) rfl⟩
theorem lw_p6 : lw_okq (⟨"FieldTower", "powerOf", "(II)I"⟩, 6) := ⟨⟨by decide +kernel, by decide +kernel⟩, List.mem_of_getElem? (i := 4) rfl, List.mem_of_getElem? (i := 77) rfl, List.mem_of_getElem? (i := 78) rfl⟩
theorem lw_p7 : lw_okq (⟨"FieldTower", "isField", "(I)Z"⟩, 6) := ⟨⟨by decide +kernel, by decide +kernel⟩, List.mem_of_getElem? (i := 4) rfl, List.mem_of_getElem? (i := 100) rfl, List.mem_of_getElem? (i := 101) rfl⟩
theorem lw_p8 : lw_okq (⟨"FieldTowerModel", "bad", "(I)Z"⟩, 4) := ⟨⟨by decide +kernel, by decide +kernel⟩, List.mem_of_getElem? (i := 115) rfl, List.mem_of_getElem? (i := 142) rfl, List.mem_of_getElem? (i := 143) rfl⟩
theorem lw_p9 : lw_okq (⟨"FieldTowerModel", "sum", "(II)I"⟩, 4) := ⟨⟨by decide +kernel, by decide +kernel⟩, List.mem_of_getElem? (i := 115) rfl, List.mem_of_getElem? (i := 146) rfl, List.mem_of_getElem? (i := 147) rfl⟩
theorem lw_p10 : lw_okq (⟨"FieldTowerModel", "coefficient", "(II)I"⟩, 4) := ⟨⟨by decide +kernel, by decide +kernel⟩, List.mem_of_getElem? (i := 115) rfl, List.mem_of_getElem? (i := 150) rfl, List.mem_of_getElem? (i := 151) rfl⟩
theorem lw_p11 : lw_okq (⟨"FieldTowerModel", "unit", "(I)I"⟩, 4) := ⟨⟨by decide +kernel, by decide +kernel⟩, List.mem_of_getElem? (i := 115) rfl, List.mem_of_getElem? (i := 154) rfl, List.mem_of_getElem? (i := 155) rfl⟩
theorem lw_p12 : lw_okq (⟨"FieldTowerModel", "product", "(II)I"⟩, 4) := ⟨⟨by decide +kernel, by decide +kernel⟩, List.mem_of_getElem? (i := 115) rfl, List.mem_of_getElem? (i := 162) rfl, List.mem_of_getElem? (i := 163) rfl⟩
theorem lw_p13 : lw_okq (⟨"FieldTowerModel", "timesAt", "(IIII)I"⟩, 4) := ⟨⟨by decide +kernel, by decide +kernel⟩, List.mem_of_getElem? (i := 115) rfl, List.mem_of_getElem? (i := 166) rfl, List.mem_of_getElem? (i := 167) rfl⟩
theorem lw_p14 : lw_okq (⟨"FieldTowerModel", "put", "(II)V"⟩, 4) := ⟨⟨by decide +kernel, by decide +kernel⟩, List.mem_of_getElem? (i := 115) rfl, List.mem_of_getElem? (i := 170) rfl, List.mem_of_getElem? (i := 171) rfl⟩
theorem lw_p15 : lw_okq (⟨"FieldTowerModel", "raised", "(II)I"⟩, 4) := ⟨⟨by decide +kernel, by decide +kernel⟩, List.mem_of_getElem? (i := 115) rfl, List.mem_of_getElem? (i := 183) rfl, List.mem_of_getElem? (i := 184) rfl⟩
def lw_privs_1 : List (MethodName × Nat) := [(⟨"FieldTower", "build", "(III)V"⟩, 6), (⟨"FieldTower", "makesAll", "(I)Z"⟩, 6), (⟨"FieldTower", "productByCoefficients", "(II)I"⟩, 6), (⟨"FieldTower", "isElement", "(I)Z"⟩, 6), (⟨"FieldTower", "sumOf", "(II)I"⟩, 6), (⟨"FieldTower", "productOf", "(II)I"⟩, 6), (⟨"FieldTower", "powerOf", "(II)I"⟩, 6), (⟨"FieldTower", "isField", "(I)Z"⟩, 6), (⟨"FieldTowerModel", "bad", "(I)Z"⟩, 4), (⟨"FieldTowerModel", "sum", "(II)I"⟩, 4), (⟨"FieldTowerModel", "coefficient", "(II)I"⟩, 4), (⟨"FieldTowerModel", "unit", "(I)I"⟩, 4), (⟨"FieldTowerModel", "product", "(II)I"⟩, 4), (⟨"FieldTowerModel", "timesAt", "(IIII)I"⟩, 4), (⟨"FieldTowerModel", "put", "(II)V"⟩, 4), (⟨"FieldTowerModel", "raised", "(II)I"⟩, 4)]
theorem lw_r1 : ∀ q ∈ lw_privs_1, lw_okq q := List.forall_mem_cons.mpr ⟨lw_p0, List.forall_mem_cons.mpr ⟨lw_p1, List.forall_mem_cons.mpr ⟨lw_p2, List.forall_mem_cons.mpr ⟨lw_p3, List.forall_mem_cons.mpr ⟨lw_p4, List.forall_mem_cons.mpr ⟨lw_p5, List.forall_mem_cons.mpr ⟨lw_p6, List.forall_mem_cons.mpr ⟨lw_p7, List.forall_mem_cons.mpr ⟨lw_p8, List.forall_mem_cons.mpr ⟨lw_p9, List.forall_mem_cons.mpr ⟨lw_p10, List.forall_mem_cons.mpr ⟨lw_p11, List.forall_mem_cons.mpr ⟨lw_p12, List.forall_mem_cons.mpr ⟨lw_p13, List.forall_mem_cons.mpr ⟨lw_p14, List.forall_mem_cons.mpr ⟨lw_p15, fun _ h => absurd h List.not_mem_nil⟩⟩⟩⟩⟩⟩⟩⟩⟩⟩⟩⟩⟩⟩⟩⟩
theorem lw_p16 : lw_okq (⟨"FieldTowerModel", "steps", "(I)I"⟩, 4) := ⟨⟨by decide +kernel, by decide +kernel⟩, List.mem_of_getElem? (i := 115) rfl, List.mem_of_getElem? (i := 203) rfl, List.mem_of_getElem? (i := 204) rfl⟩
def lw_privs_2 : List (MethodName × Nat) := [(⟨"FieldTowerModel", "steps", "(I)I"⟩, 4)]
theorem lw_r2 : ∀ q ∈ lw_privs_2, lw_okq q := List.forall_mem_cons.mpr ⟨lw_p16, fun _ h => absurd h List.not_mem_nil⟩
def lw_privs : List (MethodName × Nat) := lw_privs_1 ++ (lw_privs_2)
def lw_tbl : List Cond := k2_sels lw_privs ++ tables_1
theorem lw_privs_ok : ∀ q ∈ lw_privs, lw_okq q := by
  show ∀ q ∈ lw_privs_1 ++ (lw_privs_2), lw_okq q
  exact List.forall_mem_append.mpr ⟨lw_r1, lw_r2⟩
-- ===== ONE list of words for every method: the tables' words that hold all through a run =====
def lw_all : List Cond := lw_tbl.filter goodWord
/-- a word of the tables by its place: claim/WORDS.tsv -/
theorem lw_w {w : Cond} (i : Nat) (h : lw_tbl[i]? = some w) (g : goodWord w = true) : w ∈ lw_all := List.mem_filter.mpr ⟨List.mem_of_getElem? h, g⟩
theorem lw_all_tbl {w : Cond} (h : w ∈ lw_all) : w ∈ lw_tbl := (List.mem_filter.mp h).1
theorem lw_self : GoodIn lw_all lw_all := fun w h => ⟨h, good_of_word (List.mem_filter.mp h).2⟩
/-- a class's field words, by their places -/
theorem lw_in (ws : List Cond) (ps : List Nat) (hp : ws = ps.filterMap (fun i => lw_tbl[i]?)) (hg : ws.all goodWord = true) : ∀ w ∈ ws, w ∈ lw_all := by
  intro w h
  have h1 := List.all_eq_true.mp hg w h
  rw [hp] at h
  obtain ⟨i, -, hi⟩ := List.mem_filterMap.mp h
  exact lw_w i hi h1
/-- the words of a contract for the method y with code b, L locals, answer r -/
abbrev ws_ (y : MethodName) (b : ByteArray) (L : Nat) (r : Option FieldType) : List Cond := Cond.code y b L r :: lw_all
theorem lw_meth {y : MethodName} {b : ByteArray} {L : Nat} {r : Option FieldType} (h : Cond.code y b L r ∈ lw_all) : GoodIn lw_all (ws_ y b L r) := by
  intro w hw
  rcases List.mem_cons.mp hw with e | e
  · rw [e]
    exact lw_self _ h
  · exact lw_self _ e
theorem lw_app {a c : List Cond} (ha : ∀ w ∈ a, w ∈ lw_all) (hc : GoodIn lw_all c) : GoodIn lw_all (a ++ c) := by
  intro w hw
  rcases List.mem_append.mp hw with e | e
  · exact lw_self w (ha w e)
  · exact hc w e
/-- what a call through an object asks: cwV n hts (lw_V ..) -/
theorem lw_V {own : String} {idx : Nat} {C : String} {y : MethodName} {b : ByteArray} {L : Nat} {r : Option FieldType} (h1 : Cond.methodLink own idx y ∈ lw_all) (h2 : Cond.instanceMethod y ∈ lw_all) (h3 : Cond.selects C y y ∈ lw_all) (h4 : Cond.initialized C ∈ lw_all) (h5 : Cond.code y b L r ∈ lw_all) : GoodIn lw_all (wsV own idx C y (ws_ y b L r)) := by
  refine lw_app ?_ (lw_meth h5)
  intro w hw
  simp only [List.mem_cons, List.not_mem_nil, or_false] at hw
  rcases hw with e | e | e | e
  · rw [e]; exact h1
  · rw [e]; exact h2
  · rw [e]; exact h3
  · rw [e]; exact h4
/-- what a static call asks: va_cwS n hts (lw_S ..) -/
theorem lw_S {own : String} {idx : Nat} {y : MethodName} {b : ByteArray} {L : Nat} {r : Option FieldType} (h1 : Cond.methodLink own idx y ∈ lw_all) (h2 : Cond.static y ∈ lw_all) (h3 : Cond.initialized y.cls ∈ lw_all) (h4 : Cond.code y b L r ∈ lw_all) : GoodIn lw_all (va_wsS own idx y (ws_ y b L r)) := by
  refine lw_app ?_ (lw_meth h4)
  intro w hw
  simp only [List.mem_cons, List.not_mem_nil, or_false] at hw
  rcases hw with e | e | e
  · rw [e]; exact h1
  · rw [e]; exact h2
  · rw [e]; exact h3
/-- the words of a contract for a method WITH HANDLERS (hh: its table) -/
abbrev wsW_ (y : MethodName) (b : ByteArray) (L : Nat) (r : Option FieldType) (hh : List (Nat × Nat × Nat × Nat)) : List Cond := Cond.codeWith y b L r hh :: lw_all
theorem lw_methW {y : MethodName} {b : ByteArray} {L : Nat} {r : Option FieldType} {hh : List (Nat × Nat × Nat × Nat)} (h : Cond.codeWith y b L r hh ∈ lw_all) : GoodIn lw_all (wsW_ y b L r hh) := by
  intro w hw
  rcases List.mem_cons.mp hw with e | e
  · rw [e]
    exact lw_self _ h
  · exact lw_self _ e
/-- any list of words by their places (lw_in), good -/
theorem lw_good {ws : List Cond} (h : ∀ w ∈ ws, w ∈ lw_all) : GoodIn lw_all ws := fun w hw => lw_self w (h w hw)
/-- what a call of a method with handlers asks: vx_cwVW n hts (lw_VW ..), vx_cwSW n hts (lw_SW ..) -/
theorem lw_VW {own : String} {idx : Nat} {C : String} {y : MethodName} {b : ByteArray} {L : Nat} {r : Option FieldType} {hh : List (Nat × Nat × Nat × Nat)} (h1 : Cond.methodLink own idx y ∈ lw_all) (h2 : Cond.instanceMethod y ∈ lw_all) (h3 : Cond.selects C y y ∈ lw_all) (h4 : Cond.initialized C ∈ lw_all) (h5 : Cond.codeWith y b L r hh ∈ lw_all) : GoodIn lw_all (wsV own idx C y (wsW_ y b L r hh)) := by
  refine lw_app ?_ (lw_methW h5)
  intro w hw
  simp only [List.mem_cons, List.not_mem_nil, or_false] at hw
  rcases hw with e | e | e | e
  · rw [e]; exact h1
  · rw [e]; exact h2
  · rw [e]; exact h3
  · rw [e]; exact h4
theorem lw_SW {own : String} {idx : Nat} {y : MethodName} {b : ByteArray} {L : Nat} {r : Option FieldType} {hh : List (Nat × Nat × Nat × Nat)} (h1 : Cond.methodLink own idx y ∈ lw_all) (h2 : Cond.static y ∈ lw_all) (h3 : Cond.initialized y.cls ∈ lw_all) (h4 : Cond.codeWith y b L r hh ∈ lw_all) : GoodIn lw_all (va_wsS own idx y (wsW_ y b L r hh)) := by
  refine lw_app ?_ (lw_methW h4)
  intro w hw
  simp only [List.mem_cons, List.not_mem_nil, or_false] at hw
  rcases hw with e | e | e
  · rw [e]; exact h1
  · rw [e]; exact h2
  · rw [e]; exact h3
/-- a word by its place in its run of the tables -/
theorem lw_at {r : List Cond} (hr : ∀ w ∈ r, w ∈ lw_tbl) {w : Cond} (i : Nat) (h : r[i]? = some w) : w ∈ lw_tbl := hr w (List.mem_of_getElem? h)
theorem lw_g {w : Cond} (h : w ∈ lw_tbl) (g : goodWord w = true) : w ∈ lw_all := List.mem_filter.mpr ⟨h, g⟩
theorem lw_ms : ∀ w ∈ k2_sels lw_privs, w ∈ lw_tbl := fun w h => show w ∈ k2_sels lw_privs ++ tables_1 from List.mem_append_left _ h
theorem lw_m0 : ∀ w ∈ tables_1, w ∈ lw_tbl := fun w h => show w ∈ k2_sels lw_privs ++ tables_1 from List.mem_append_right (k2_sels lw_privs) h
theorem qs0 : (Cond.selects "FieldTower" ⟨"FieldTower", "build", "(III)V"⟩ ⟨"FieldTower", "build", "(III)V"⟩) ∈ lw_all := lw_g (lw_at lw_ms 0 rfl) rfl
theorem qs1 : (Cond.selects "FieldTower" ⟨"FieldTower", "makesAll", "(I)Z"⟩ ⟨"FieldTower", "makesAll", "(I)Z"⟩) ∈ lw_all := lw_g (lw_at lw_ms 1 rfl) rfl
theorem qs2 : (Cond.selects "FieldTower" ⟨"FieldTower", "productByCoefficients", "(II)I"⟩ ⟨"FieldTower", "productByCoefficients", "(II)I"⟩) ∈ lw_all := lw_g (lw_at lw_ms 2 rfl) rfl
theorem qs3 : (Cond.selects "FieldTower" ⟨"FieldTower", "isElement", "(I)Z"⟩ ⟨"FieldTower", "isElement", "(I)Z"⟩) ∈ lw_all := lw_g (lw_at lw_ms 3 rfl) rfl
theorem qs4 : (Cond.selects "FieldTower" ⟨"FieldTower", "sumOf", "(II)I"⟩ ⟨"FieldTower", "sumOf", "(II)I"⟩) ∈ lw_all := lw_g (lw_at lw_ms 4 rfl) rfl
theorem qs5 : (Cond.selects "FieldTower" ⟨"FieldTower", "productOf", "(II)I"⟩ ⟨"FieldTower", "productOf", "(II)I"⟩) ∈ lw_all := lw_g (lw_at lw_ms 5 rfl) rfl
theorem qs6 : (Cond.selects "FieldTower" ⟨"FieldTower", "powerOf", "(II)I"⟩ ⟨"FieldTower", "powerOf", "(II)I"⟩) ∈ lw_all := lw_g (lw_at lw_ms 6 rfl) rfl
theorem qs7 : (Cond.selects "FieldTower" ⟨"FieldTower", "isField", "(I)Z"⟩ ⟨"FieldTower", "isField", "(I)Z"⟩) ∈ lw_all := lw_g (lw_at lw_ms 7 rfl) rfl
theorem qs8 : (Cond.selects "FieldTowerModel" ⟨"FieldTowerModel", "bad", "(I)Z"⟩ ⟨"FieldTowerModel", "bad", "(I)Z"⟩) ∈ lw_all := lw_g (lw_at lw_ms 8 rfl) rfl
theorem qs9 : (Cond.selects "FieldTowerModel" ⟨"FieldTowerModel", "sum", "(II)I"⟩ ⟨"FieldTowerModel", "sum", "(II)I"⟩) ∈ lw_all := lw_g (lw_at lw_ms 9 rfl) rfl
theorem qs10 : (Cond.selects "FieldTowerModel" ⟨"FieldTowerModel", "coefficient", "(II)I"⟩ ⟨"FieldTowerModel", "coefficient", "(II)I"⟩) ∈ lw_all := lw_g (lw_at lw_ms 10 rfl) rfl
theorem qs11 : (Cond.selects "FieldTowerModel" ⟨"FieldTowerModel", "unit", "(I)I"⟩ ⟨"FieldTowerModel", "unit", "(I)I"⟩) ∈ lw_all := lw_g (lw_at lw_ms 11 rfl) rfl
theorem qs12 : (Cond.selects "FieldTowerModel" ⟨"FieldTowerModel", "product", "(II)I"⟩ ⟨"FieldTowerModel", "product", "(II)I"⟩) ∈ lw_all := lw_g (lw_at lw_ms 12 rfl) rfl
theorem qs13 : (Cond.selects "FieldTowerModel" ⟨"FieldTowerModel", "timesAt", "(IIII)I"⟩ ⟨"FieldTowerModel", "timesAt", "(IIII)I"⟩) ∈ lw_all := lw_g (lw_at lw_ms 13 rfl) rfl
theorem qs14 : (Cond.selects "FieldTowerModel" ⟨"FieldTowerModel", "put", "(II)V"⟩ ⟨"FieldTowerModel", "put", "(II)V"⟩) ∈ lw_all := lw_g (lw_at lw_ms 14 rfl) rfl
theorem qs15 : (Cond.selects "FieldTowerModel" ⟨"FieldTowerModel", "raised", "(II)I"⟩ ⟨"FieldTowerModel", "raised", "(II)I"⟩) ∈ lw_all := lw_g (lw_at lw_ms 15 rfl) rfl
theorem qs16 : (Cond.selects "FieldTowerModel" ⟨"FieldTowerModel", "steps", "(I)I"⟩ ⟨"FieldTowerModel", "steps", "(I)I"⟩) ∈ lw_all := lw_g (lw_at lw_ms 16 rfl) rfl
-- ===== end of PART A; then your names; then what follows =====
end
section
/-! FieldTower -/
set_option maxRecDepth 100000
def RX0 : String := "FieldTower"
def TX0 : u_T := fun k => match k with
  | 0 => ("FieldTower", "q", "I", false)
  | 1 => ("FieldTower", "p", "I", false)
  | 2 => ("FieldTower", "k", "I", false)
  | 3 => ("FieldTower", "powers", "[I", true)
  | 4 => ("FieldTower", "exponent", "[I", true)
  | _ => ("FieldTower", "coefficient", "[I", true)
def tyX0 : Nat → FieldType := fun k => match k with
  | 0 => .int
  | 1 => .int
  | 2 => .int
  | 3 => .array .int
  | 4 => .array .int
  | _ => .array .int
abbrev wsX00 : List Cond := u_ws RX0 TX0 6
theorem nmX0 : ∀ a, a < 6 → ∀ b, b < 6 → a ≠ b → (TX0 a).2.1 ≠ (TX0 b).2.1 := by decide +kernel
theorem tyX0_ok : ∀ k, k < 6 → parseFieldDescriptor (TX0 k).2.2.1 = some (tyX0 k) := by decide +kernel
abbrev cX0_init : ByteArray := prog_1_method_1_code
def yX0_init : MethodName := ⟨RX0, "<init>", "()V"⟩
abbrev cX0_build : ByteArray := prog_1_method_21_code
def yX0_build : MethodName := ⟨RX0, "build", "(III)V"⟩
abbrev cX0_makesAll : ByteArray := prog_1_method_22_code
def yX0_makesAll : MethodName := ⟨RX0, "makesAll", "(I)Z"⟩
abbrev cX0_productByCoefficients : ByteArray := prog_1_method_20_code
def yX0_productByCoefficients : MethodName := ⟨RX0, "productByCoefficients", "(II)I"⟩
abbrev cX0_use : ByteArray := prog_1_method_2_code
def yX0_use : MethodName := ⟨RX0, "use", "(I)I"⟩
abbrev cX0_add : ByteArray := prog_1_method_3_code
def yX0_add : MethodName := ⟨RX0, "add", "(II)I"⟩
abbrev cX0_isElement : ByteArray := prog_1_method_13_code
def yX0_isElement : MethodName := ⟨RX0, "isElement", "(I)Z"⟩
abbrev cX0_sumOf : ByteArray := prog_1_method_19_code
def yX0_sumOf : MethodName := ⟨RX0, "sumOf", "(II)I"⟩
abbrev cX0_multiply : ByteArray := prog_1_method_4_code
def yX0_multiply : MethodName := ⟨RX0, "multiply", "(II)I"⟩
abbrev cX0_productOf : ByteArray := prog_1_method_15_code
def yX0_productOf : MethodName := ⟨RX0, "productOf", "(II)I"⟩
abbrev cX0_invert : ByteArray := prog_1_method_5_code
def yX0_invert : MethodName := ⟨RX0, "invert", "(I)I"⟩
abbrev cX0_power : ByteArray := prog_1_method_6_code
def yX0_power : MethodName := ⟨RX0, "power", "(II)I"⟩
abbrev cX0_powerOf : ByteArray := prog_1_method_16_code
def yX0_powerOf : MethodName := ⟨RX0, "powerOf", "(II)I"⟩
abbrev cX0_order : ByteArray := prog_1_method_7_code
def yX0_order : MethodName := ⟨RX0, "order", "(I)I"⟩
abbrev cX0_divisor : ByteArray := prog_1_method_17_code
def yX0_divisor : MethodName := ⟨RX0, "divisor", "(II)I"⟩
abbrev cX0_root : ByteArray := prog_1_method_8_code
def yX0_root : MethodName := ⟨RX0, "root", "(I)I"⟩
abbrev cX0_roots : ByteArray := prog_1_method_9_code
def yX0_roots : MethodName := ⟨RX0, "roots", "(II)I"⟩
abbrev cX0_trace : ByteArray := prog_1_method_10_code
def yX0_trace : MethodName := ⟨RX0, "trace", "(II)I"⟩
abbrev cX0_isField : ByteArray := prog_1_method_14_code
def yX0_isField : MethodName := ⟨RX0, "isField", "(I)Z"⟩
abbrev cX0_home : ByteArray := prog_1_method_11_code
def yX0_home : MethodName := ⟨RX0, "home", "(I)I"⟩
abbrev cX0_logarithm : ByteArray := prog_1_method_12_code
def yX0_logarithm : MethodName := ⟨RX0, "logarithm", "(II)I"⟩
abbrev cX0_inverseModulo : ByteArray := prog_1_method_18_code
def yX0_inverseModulo : MethodName := ⟨RX0, "inverseModulo", "(II)I"⟩
theorem q18 : (Jvm.Cond.initialized "FieldTower") ∈ lw_all := lw_g (lw_at lw_m0 1 rfl) rfl
theorem q21 : (Jvm.Cond.instantiable "FieldTower" (6 : Nat)) ∈ lw_all := lw_g (lw_at lw_m0 4 rfl) rfl
theorem q23 : (Jvm.Cond.instanceMethod ({ cls := "FieldTower", name := "<init>", desc := "()V" } : Jvm.MethodName)) ∈ lw_all := lw_g (lw_at lw_m0 6 rfl) rfl
theorem q24 : (Jvm.Cond.code ({ cls := "FieldTower", name := "<init>", desc := "()V" } : Jvm.MethodName) prog_1_method_1_code (1 : Nat) (Option.none : Option Jvm.ClassFile.FieldType)) ∈ lw_all := lw_g (lw_at lw_m0 7 rfl) rfl
theorem q25 : (Jvm.Cond.methodLink "FieldTower" (1 : Nat) ({ cls := "java/lang/Object", name := "<init>", desc := "()V" } : Jvm.MethodName)) ∈ lw_all := lw_g (lw_at lw_m0 8 rfl) rfl
theorem q28 : (Jvm.Cond.methodLink "FieldTower" (19 : Nat) ({ cls := "FieldTower", name := "build", desc := "(III)V" } : Jvm.MethodName)) ∈ lw_all := lw_g (lw_at lw_m0 11 rfl) rfl
theorem q29 : (Jvm.Cond.privateMethod ({ cls := "FieldTower", name := "build", desc := "(III)V" } : Jvm.MethodName)) ∈ lw_tbl := lw_at lw_m0 12 rfl
theorem q30 : (Jvm.Cond.instanceMethod ({ cls := "FieldTower", name := "build", desc := "(III)V" } : Jvm.MethodName)) ∈ lw_all := lw_g (lw_at lw_m0 13 rfl) rfl
theorem q31 : (Jvm.Cond.code ({ cls := "FieldTower", name := "build", desc := "(III)V" } : Jvm.MethodName) prog_1_method_21_code (6 : Nat) (Option.none : Option Jvm.ClassFile.FieldType)) ∈ lw_all := lw_g (lw_at lw_m0 14 rfl) rfl
theorem q32 : (Jvm.Cond.methodLink "FieldTower" (57 : Nat) ({ cls := "FieldTower", name := "makesAll", desc := "(I)Z" } : Jvm.MethodName)) ∈ lw_all := lw_g (lw_at lw_m0 15 rfl) rfl
theorem q33 : (Jvm.Cond.privateMethod ({ cls := "FieldTower", name := "makesAll", desc := "(I)Z" } : Jvm.MethodName)) ∈ lw_tbl := lw_at lw_m0 16 rfl
theorem q34 : (Jvm.Cond.instanceMethod ({ cls := "FieldTower", name := "makesAll", desc := "(I)Z" } : Jvm.MethodName)) ∈ lw_all := lw_g (lw_at lw_m0 17 rfl) rfl
theorem q35 : (Jvm.Cond.code ({ cls := "FieldTower", name := "makesAll", desc := "(I)Z" } : Jvm.MethodName) prog_1_method_22_code (4 : Nat) (Option.some Jvm.ClassFile.FieldType.boolean)) ∈ lw_all := lw_g (lw_at lw_m0 18 rfl) rfl
theorem q36 : (Jvm.Cond.methodLink "FieldTower" (60 : Nat) ({ cls := "FieldTower", name := "productByCoefficients", desc := "(II)I" } : Jvm.MethodName)) ∈ lw_all := lw_g (lw_at lw_m0 19 rfl) rfl
theorem q37 : (Jvm.Cond.privateMethod ({ cls := "FieldTower", name := "productByCoefficients", desc := "(II)I" } : Jvm.MethodName)) ∈ lw_tbl := lw_at lw_m0 20 rfl
theorem q38 : (Jvm.Cond.instanceMethod ({ cls := "FieldTower", name := "productByCoefficients", desc := "(II)I" } : Jvm.MethodName)) ∈ lw_all := lw_g (lw_at lw_m0 21 rfl) rfl
theorem q39 : (Jvm.Cond.code ({ cls := "FieldTower", name := "productByCoefficients", desc := "(II)I" } : Jvm.MethodName) prog_1_method_20_code (7 : Nat) (Option.some Jvm.ClassFile.FieldType.int)) ∈ lw_all := lw_g (lw_at lw_m0 22 rfl) rfl
theorem q40 : (Jvm.Cond.fieldLink "FieldTower" (34 : Nat) "FieldTower" "q" "I") ∈ lw_all := lw_g (lw_at lw_m0 23 rfl) rfl
theorem q41 : (Jvm.Cond.fieldLink "FieldTower" (45 : Nat) "FieldTower" "p" "I") ∈ lw_all := lw_g (lw_at lw_m0 24 rfl) rfl
theorem q42 : (Jvm.Cond.fieldLink "FieldTower" (54 : Nat) "FieldTower" "k" "I") ∈ lw_all := lw_g (lw_at lw_m0 25 rfl) rfl
theorem q43 : (Jvm.Cond.fieldLink "FieldTower" (7 : Nat) "FieldTower" "powers" "[I") ∈ lw_all := lw_g (lw_at lw_m0 26 rfl) rfl
theorem q44 : (Jvm.Cond.fieldLink "FieldTower" (13 : Nat) "FieldTower" "exponent" "[I") ∈ lw_all := lw_g (lw_at lw_m0 27 rfl) rfl
theorem q45 : (Jvm.Cond.fieldLink "FieldTower" (16 : Nat) "FieldTower" "coefficient" "[I") ∈ lw_all := lw_g (lw_at lw_m0 28 rfl) rfl
theorem q46 : (Jvm.Cond.lays "FieldTower" "FieldTower" "q" "I") ∈ lw_all := lw_g (lw_at lw_m0 29 rfl) rfl
theorem q47 : (Jvm.Cond.soleField "FieldTower" "q") ∈ lw_all := lw_g (lw_at lw_m0 30 rfl) rfl
theorem q48 : (Jvm.Cond.lays "FieldTower" "FieldTower" "p" "I") ∈ lw_all := lw_g (lw_at lw_m0 31 rfl) rfl
theorem q49 : (Jvm.Cond.soleField "FieldTower" "p") ∈ lw_all := lw_g (lw_at lw_m0 32 rfl) rfl
theorem q50 : (Jvm.Cond.lays "FieldTower" "FieldTower" "k" "I") ∈ lw_all := lw_g (lw_at lw_m0 33 rfl) rfl
theorem q51 : (Jvm.Cond.soleField "FieldTower" "k") ∈ lw_all := lw_g (lw_at lw_m0 34 rfl) rfl
theorem q52 : (Jvm.Cond.laysFinal "FieldTower" "FieldTower" "powers" "[I") ∈ lw_all := lw_g (lw_at lw_m0 35 rfl) rfl
theorem q53 : (Jvm.Cond.soleField "FieldTower" "powers") ∈ lw_all := lw_g (lw_at lw_m0 36 rfl) rfl
theorem q54 : (Jvm.Cond.laysFinal "FieldTower" "FieldTower" "exponent" "[I") ∈ lw_all := lw_g (lw_at lw_m0 37 rfl) rfl
theorem q55 : (Jvm.Cond.soleField "FieldTower" "exponent") ∈ lw_all := lw_g (lw_at lw_m0 38 rfl) rfl
theorem q56 : (Jvm.Cond.laysFinal "FieldTower" "FieldTower" "coefficient" "[I") ∈ lw_all := lw_g (lw_at lw_m0 39 rfl) rfl
theorem q57 : (Jvm.Cond.soleField "FieldTower" "coefficient") ∈ lw_all := lw_g (lw_at lw_m0 40 rfl) rfl
theorem q58 : (Jvm.Cond.superclass "FieldTower" "java/lang/Object") ∈ lw_all := lw_g (lw_at lw_m0 41 rfl) rfl
theorem q61 : (Jvm.Cond.instanceMethod ({ cls := "FieldTower", name := "use", desc := "(I)I" } : Jvm.MethodName)) ∈ lw_all := lw_g (lw_at lw_m0 44 rfl) rfl
theorem q62 : (Jvm.Cond.selects "FieldTower" ({ cls := "FieldTower", name := "use", desc := "(I)I" } : Jvm.MethodName) ({ cls := "FieldTower", name := "use", desc := "(I)I" } : Jvm.MethodName)) ∈ lw_all := lw_g (lw_at lw_m0 45 rfl) rfl
theorem q63 : (Jvm.Cond.code ({ cls := "FieldTower", name := "use", desc := "(I)I" } : Jvm.MethodName) prog_1_method_2_code (2 : Nat) (Option.some Jvm.ClassFile.FieldType.int)) ∈ lw_all := lw_g (lw_at lw_m0 46 rfl) rfl
theorem q65 : (Jvm.Cond.instanceMethod ({ cls := "FieldTower", name := "add", desc := "(II)I" } : Jvm.MethodName)) ∈ lw_all := lw_g (lw_at lw_m0 48 rfl) rfl
theorem q66 : (Jvm.Cond.selects "FieldTower" ({ cls := "FieldTower", name := "add", desc := "(II)I" } : Jvm.MethodName) ({ cls := "FieldTower", name := "add", desc := "(II)I" } : Jvm.MethodName)) ∈ lw_all := lw_g (lw_at lw_m0 49 rfl) rfl
theorem q67 : (Jvm.Cond.code ({ cls := "FieldTower", name := "add", desc := "(II)I" } : Jvm.MethodName) prog_1_method_3_code (3 : Nat) (Option.some Jvm.ClassFile.FieldType.int)) ∈ lw_all := lw_g (lw_at lw_m0 50 rfl) rfl
theorem q68 : (Jvm.Cond.methodLink "FieldTower" (23 : Nat) ({ cls := "FieldTower", name := "isElement", desc := "(I)Z" } : Jvm.MethodName)) ∈ lw_all := lw_g (lw_at lw_m0 51 rfl) rfl
theorem q69 : (Jvm.Cond.privateMethod ({ cls := "FieldTower", name := "isElement", desc := "(I)Z" } : Jvm.MethodName)) ∈ lw_tbl := lw_at lw_m0 52 rfl
theorem q70 : (Jvm.Cond.instanceMethod ({ cls := "FieldTower", name := "isElement", desc := "(I)Z" } : Jvm.MethodName)) ∈ lw_all := lw_g (lw_at lw_m0 53 rfl) rfl
theorem q71 : (Jvm.Cond.code ({ cls := "FieldTower", name := "isElement", desc := "(I)Z" } : Jvm.MethodName) prog_1_method_13_code (2 : Nat) (Option.some Jvm.ClassFile.FieldType.boolean)) ∈ lw_all := lw_g (lw_at lw_m0 54 rfl) rfl
theorem q72 : (Jvm.Cond.methodLink "FieldTower" (27 : Nat) ({ cls := "FieldTower", name := "sumOf", desc := "(II)I" } : Jvm.MethodName)) ∈ lw_all := lw_g (lw_at lw_m0 55 rfl) rfl
theorem q73 : (Jvm.Cond.privateMethod ({ cls := "FieldTower", name := "sumOf", desc := "(II)I" } : Jvm.MethodName)) ∈ lw_tbl := lw_at lw_m0 56 rfl
theorem q74 : (Jvm.Cond.instanceMethod ({ cls := "FieldTower", name := "sumOf", desc := "(II)I" } : Jvm.MethodName)) ∈ lw_all := lw_g (lw_at lw_m0 57 rfl) rfl
theorem q75 : (Jvm.Cond.code ({ cls := "FieldTower", name := "sumOf", desc := "(II)I" } : Jvm.MethodName) prog_1_method_19_code (8 : Nat) (Option.some Jvm.ClassFile.FieldType.int)) ∈ lw_all := lw_g (lw_at lw_m0 58 rfl) rfl
theorem q77 : (Jvm.Cond.instanceMethod ({ cls := "FieldTower", name := "multiply", desc := "(II)I" } : Jvm.MethodName)) ∈ lw_all := lw_g (lw_at lw_m0 60 rfl) rfl
theorem q78 : (Jvm.Cond.selects "FieldTower" ({ cls := "FieldTower", name := "multiply", desc := "(II)I" } : Jvm.MethodName) ({ cls := "FieldTower", name := "multiply", desc := "(II)I" } : Jvm.MethodName)) ∈ lw_all := lw_g (lw_at lw_m0 61 rfl) rfl
theorem q79 : (Jvm.Cond.code ({ cls := "FieldTower", name := "multiply", desc := "(II)I" } : Jvm.MethodName) prog_1_method_4_code (3 : Nat) (Option.some Jvm.ClassFile.FieldType.int)) ∈ lw_all := lw_g (lw_at lw_m0 62 rfl) rfl
theorem q80 : (Jvm.Cond.methodLink "FieldTower" (31 : Nat) ({ cls := "FieldTower", name := "productOf", desc := "(II)I" } : Jvm.MethodName)) ∈ lw_all := lw_g (lw_at lw_m0 63 rfl) rfl
theorem q81 : (Jvm.Cond.privateMethod ({ cls := "FieldTower", name := "productOf", desc := "(II)I" } : Jvm.MethodName)) ∈ lw_tbl := lw_at lw_m0 64 rfl
theorem q82 : (Jvm.Cond.instanceMethod ({ cls := "FieldTower", name := "productOf", desc := "(II)I" } : Jvm.MethodName)) ∈ lw_all := lw_g (lw_at lw_m0 65 rfl) rfl
theorem q83 : (Jvm.Cond.code ({ cls := "FieldTower", name := "productOf", desc := "(II)I" } : Jvm.MethodName) prog_1_method_15_code (3 : Nat) (Option.some Jvm.ClassFile.FieldType.int)) ∈ lw_all := lw_g (lw_at lw_m0 66 rfl) rfl
theorem q85 : (Jvm.Cond.instanceMethod ({ cls := "FieldTower", name := "invert", desc := "(I)I" } : Jvm.MethodName)) ∈ lw_all := lw_g (lw_at lw_m0 68 rfl) rfl
theorem q86 : (Jvm.Cond.selects "FieldTower" ({ cls := "FieldTower", name := "invert", desc := "(I)I" } : Jvm.MethodName) ({ cls := "FieldTower", name := "invert", desc := "(I)I" } : Jvm.MethodName)) ∈ lw_all := lw_g (lw_at lw_m0 69 rfl) rfl
theorem q87 : (Jvm.Cond.code ({ cls := "FieldTower", name := "invert", desc := "(I)I" } : Jvm.MethodName) prog_1_method_5_code (2 : Nat) (Option.some Jvm.ClassFile.FieldType.int)) ∈ lw_all := lw_g (lw_at lw_m0 70 rfl) rfl
theorem q89 : (Jvm.Cond.instanceMethod ({ cls := "FieldTower", name := "power", desc := "(II)I" } : Jvm.MethodName)) ∈ lw_all := lw_g (lw_at lw_m0 72 rfl) rfl
theorem q90 : (Jvm.Cond.selects "FieldTower" ({ cls := "FieldTower", name := "power", desc := "(II)I" } : Jvm.MethodName) ({ cls := "FieldTower", name := "power", desc := "(II)I" } : Jvm.MethodName)) ∈ lw_all := lw_g (lw_at lw_m0 73 rfl) rfl
theorem q91 : (Jvm.Cond.code ({ cls := "FieldTower", name := "power", desc := "(II)I" } : Jvm.MethodName) prog_1_method_6_code (3 : Nat) (Option.some Jvm.ClassFile.FieldType.int)) ∈ lw_all := lw_g (lw_at lw_m0 74 rfl) rfl
theorem q92 : (Jvm.Cond.constant "FieldTower" (38 : Nat) (1000000 : Int32)) ∈ lw_all := lw_g (lw_at lw_m0 75 rfl) rfl
theorem q93 : (Jvm.Cond.methodLink "FieldTower" (39 : Nat) ({ cls := "FieldTower", name := "powerOf", desc := "(II)I" } : Jvm.MethodName)) ∈ lw_all := lw_g (lw_at lw_m0 76 rfl) rfl
theorem q94 : (Jvm.Cond.privateMethod ({ cls := "FieldTower", name := "powerOf", desc := "(II)I" } : Jvm.MethodName)) ∈ lw_tbl := lw_at lw_m0 77 rfl
theorem q95 : (Jvm.Cond.instanceMethod ({ cls := "FieldTower", name := "powerOf", desc := "(II)I" } : Jvm.MethodName)) ∈ lw_all := lw_g (lw_at lw_m0 78 rfl) rfl
theorem q96 : (Jvm.Cond.code ({ cls := "FieldTower", name := "powerOf", desc := "(II)I" } : Jvm.MethodName) prog_1_method_16_code (3 : Nat) (Option.some Jvm.ClassFile.FieldType.int)) ∈ lw_all := lw_g (lw_at lw_m0 79 rfl) rfl
theorem q98 : (Jvm.Cond.instanceMethod ({ cls := "FieldTower", name := "order", desc := "(I)I" } : Jvm.MethodName)) ∈ lw_all := lw_g (lw_at lw_m0 81 rfl) rfl
theorem q99 : (Jvm.Cond.selects "FieldTower" ({ cls := "FieldTower", name := "order", desc := "(I)I" } : Jvm.MethodName) ({ cls := "FieldTower", name := "order", desc := "(I)I" } : Jvm.MethodName)) ∈ lw_all := lw_g (lw_at lw_m0 82 rfl) rfl
theorem q100 : (Jvm.Cond.code ({ cls := "FieldTower", name := "order", desc := "(I)I" } : Jvm.MethodName) prog_1_method_7_code (2 : Nat) (Option.some Jvm.ClassFile.FieldType.int)) ∈ lw_all := lw_g (lw_at lw_m0 83 rfl) rfl
theorem q101 : (Jvm.Cond.methodLink "FieldTower" (42 : Nat) ({ cls := "FieldTower", name := "divisor", desc := "(II)I" } : Jvm.MethodName)) ∈ lw_all := lw_g (lw_at lw_m0 84 rfl) rfl
theorem q102 : (Jvm.Cond.static ({ cls := "FieldTower", name := "divisor", desc := "(II)I" } : Jvm.MethodName)) ∈ lw_all := lw_g (lw_at lw_m0 85 rfl) rfl
theorem q103 : (Jvm.Cond.code ({ cls := "FieldTower", name := "divisor", desc := "(II)I" } : Jvm.MethodName) prog_1_method_17_code (6 : Nat) (Option.some Jvm.ClassFile.FieldType.int)) ∈ lw_all := lw_g (lw_at lw_m0 86 rfl) rfl
theorem q105 : (Jvm.Cond.instanceMethod ({ cls := "FieldTower", name := "root", desc := "(I)I" } : Jvm.MethodName)) ∈ lw_all := lw_g (lw_at lw_m0 88 rfl) rfl
theorem q106 : (Jvm.Cond.selects "FieldTower" ({ cls := "FieldTower", name := "root", desc := "(I)I" } : Jvm.MethodName) ({ cls := "FieldTower", name := "root", desc := "(I)I" } : Jvm.MethodName)) ∈ lw_all := lw_g (lw_at lw_m0 89 rfl) rfl
theorem q107 : (Jvm.Cond.code ({ cls := "FieldTower", name := "root", desc := "(I)I" } : Jvm.MethodName) prog_1_method_8_code (5 : Nat) (Option.some Jvm.ClassFile.FieldType.int)) ∈ lw_all := lw_g (lw_at lw_m0 90 rfl) rfl
theorem q109 : (Jvm.Cond.instanceMethod ({ cls := "FieldTower", name := "roots", desc := "(II)I" } : Jvm.MethodName)) ∈ lw_all := lw_g (lw_at lw_m0 92 rfl) rfl
theorem q110 : (Jvm.Cond.selects "FieldTower" ({ cls := "FieldTower", name := "roots", desc := "(II)I" } : Jvm.MethodName) ({ cls := "FieldTower", name := "roots", desc := "(II)I" } : Jvm.MethodName)) ∈ lw_all := lw_g (lw_at lw_m0 93 rfl) rfl
theorem q111 : (Jvm.Cond.code ({ cls := "FieldTower", name := "roots", desc := "(II)I" } : Jvm.MethodName) prog_1_method_9_code (4 : Nat) (Option.some Jvm.ClassFile.FieldType.int)) ∈ lw_all := lw_g (lw_at lw_m0 94 rfl) rfl
theorem q113 : (Jvm.Cond.instanceMethod ({ cls := "FieldTower", name := "trace", desc := "(II)I" } : Jvm.MethodName)) ∈ lw_all := lw_g (lw_at lw_m0 96 rfl) rfl
theorem q114 : (Jvm.Cond.selects "FieldTower" ({ cls := "FieldTower", name := "trace", desc := "(II)I" } : Jvm.MethodName) ({ cls := "FieldTower", name := "trace", desc := "(II)I" } : Jvm.MethodName)) ∈ lw_all := lw_g (lw_at lw_m0 97 rfl) rfl
theorem q115 : (Jvm.Cond.code ({ cls := "FieldTower", name := "trace", desc := "(II)I" } : Jvm.MethodName) prog_1_method_10_code (6 : Nat) (Option.some Jvm.ClassFile.FieldType.int)) ∈ lw_all := lw_g (lw_at lw_m0 98 rfl) rfl
theorem q116 : (Jvm.Cond.methodLink "FieldTower" (48 : Nat) ({ cls := "FieldTower", name := "isField", desc := "(I)Z" } : Jvm.MethodName)) ∈ lw_all := lw_g (lw_at lw_m0 99 rfl) rfl
theorem q117 : (Jvm.Cond.privateMethod ({ cls := "FieldTower", name := "isField", desc := "(I)Z" } : Jvm.MethodName)) ∈ lw_tbl := lw_at lw_m0 100 rfl
theorem q118 : (Jvm.Cond.instanceMethod ({ cls := "FieldTower", name := "isField", desc := "(I)Z" } : Jvm.MethodName)) ∈ lw_all := lw_g (lw_at lw_m0 101 rfl) rfl
theorem q119 : (Jvm.Cond.code ({ cls := "FieldTower", name := "isField", desc := "(I)Z" } : Jvm.MethodName) prog_1_method_14_code (2 : Nat) (Option.some Jvm.ClassFile.FieldType.boolean)) ∈ lw_all := lw_g (lw_at lw_m0 102 rfl) rfl
theorem q121 : (Jvm.Cond.instanceMethod ({ cls := "FieldTower", name := "home", desc := "(I)I" } : Jvm.MethodName)) ∈ lw_all := lw_g (lw_at lw_m0 104 rfl) rfl
theorem q122 : (Jvm.Cond.selects "FieldTower" ({ cls := "FieldTower", name := "home", desc := "(I)I" } : Jvm.MethodName) ({ cls := "FieldTower", name := "home", desc := "(I)I" } : Jvm.MethodName)) ∈ lw_all := lw_g (lw_at lw_m0 105 rfl) rfl
theorem q123 : (Jvm.Cond.code ({ cls := "FieldTower", name := "home", desc := "(I)I" } : Jvm.MethodName) prog_1_method_11_code (3 : Nat) (Option.some Jvm.ClassFile.FieldType.int)) ∈ lw_all := lw_g (lw_at lw_m0 106 rfl) rfl
theorem q125 : (Jvm.Cond.instanceMethod ({ cls := "FieldTower", name := "logarithm", desc := "(II)I" } : Jvm.MethodName)) ∈ lw_all := lw_g (lw_at lw_m0 108 rfl) rfl
theorem q126 : (Jvm.Cond.selects "FieldTower" ({ cls := "FieldTower", name := "logarithm", desc := "(II)I" } : Jvm.MethodName) ({ cls := "FieldTower", name := "logarithm", desc := "(II)I" } : Jvm.MethodName)) ∈ lw_all := lw_g (lw_at lw_m0 109 rfl) rfl
theorem q127 : (Jvm.Cond.code ({ cls := "FieldTower", name := "logarithm", desc := "(II)I" } : Jvm.MethodName) prog_1_method_12_code (6 : Nat) (Option.some Jvm.ClassFile.FieldType.int)) ∈ lw_all := lw_g (lw_at lw_m0 110 rfl) rfl
theorem q128 : (Jvm.Cond.methodLink "FieldTower" (51 : Nat) ({ cls := "FieldTower", name := "inverseModulo", desc := "(II)I" } : Jvm.MethodName)) ∈ lw_all := lw_g (lw_at lw_m0 111 rfl) rfl
theorem q129 : (Jvm.Cond.static ({ cls := "FieldTower", name := "inverseModulo", desc := "(II)I" } : Jvm.MethodName)) ∈ lw_all := lw_g (lw_at lw_m0 112 rfl) rfl
theorem q130 : (Jvm.Cond.code ({ cls := "FieldTower", name := "inverseModulo", desc := "(II)I" } : Jvm.MethodName) prog_1_method_18_code (10 : Nat) (Option.some Jvm.ClassFile.FieldType.int)) ∈ lw_all := lw_g (lw_at lw_m0 113 rfl) rfl
theorem in_X0 : ∀ w ∈ wsX00, w ∈ lw_all := lw_in wsX00 [46, 48, 50, 52, 54, 56] (by decide +kernel) (by decide +kernel)
/-! java/lang/Object -/
def RJ0 : String := "java/lang/Object"
abbrev cJ0_init : ByteArray := object_method_1_code
def yJ0_init : MethodName := ⟨RJ0, "<init>", "()V"⟩
theorem dJ0_init_0 : decode cJ0_init 0 = .ok (.return_, 1) := by decide +kernel
theorem q26 : (Jvm.Cond.instanceMethod ({ cls := "java/lang/Object", name := "<init>", desc := "()V" } : Jvm.MethodName)) ∈ lw_all := lw_g (lw_at lw_m0 9 rfl) rfl
theorem q27 : (Jvm.Cond.code ({ cls := "java/lang/Object", name := "<init>", desc := "()V" } : Jvm.MethodName) object_method_1_code (1 : Nat) (Option.none : Option Jvm.ClassFile.FieldType)) ∈ lw_all := lw_g (lw_at lw_m0 10 rfl) rfl
theorem q59 : (Jvm.Cond.arrayClass Jvm.ClassFile.FieldType.int) ∈ lw_all := lw_g (lw_at lw_m0 42 rfl) rfl
/-! FieldTowerModel -/
def RX1 : String := "FieldTowerModel"
def TX1 : u_T := fun k => match k with
  | 0 => ("FieldTowerModel", "q", "I", false)
  | 1 => ("FieldTowerModel", "p", "I", false)
  | 2 => ("FieldTowerModel", "k", "I", false)
  | _ => ("FieldTowerModel", "digits", "[I", true)
def tyX1 : Nat → FieldType := fun k => match k with
  | 0 => .int
  | 1 => .int
  | 2 => .int
  | _ => .array .int
abbrev wsX10 : List Cond := u_ws RX1 TX1 4
theorem nmX1 : ∀ a, a < 4 → ∀ b, b < 4 → a ≠ b → (TX1 a).2.1 ≠ (TX1 b).2.1 := by decide +kernel
theorem tyX1_ok : ∀ k, k < 4 → parseFieldDescriptor (TX1 k).2.2.1 = some (tyX1 k) := by decide +kernel
abbrev cX1_init : ByteArray := prog_3_method_1_code
def yX1_init : MethodName := ⟨RX1, "<init>", "()V"⟩
abbrev cX1_use : ByteArray := prog_3_method_2_code
def yX1_use : MethodName := ⟨RX1, "use", "(I)I"⟩
abbrev cX1_add : ByteArray := prog_3_method_10_code
def yX1_add : MethodName := ⟨RX1, "add", "(II)I"⟩
abbrev cX1_bad : ByteArray := prog_3_method_3_code
def yX1_bad : MethodName := ⟨RX1, "bad", "(I)Z"⟩
abbrev cX1_sum : ByteArray := prog_3_method_6_code
def yX1_sum : MethodName := ⟨RX1, "sum", "(II)I"⟩
abbrev cX1_coefficient : ByteArray := prog_3_method_5_code
def yX1_coefficient : MethodName := ⟨RX1, "coefficient", "(II)I"⟩
abbrev cX1_unit : ByteArray := prog_3_method_4_code
def yX1_unit : MethodName := ⟨RX1, "unit", "(I)I"⟩
abbrev cX1_multiply : ByteArray := prog_3_method_11_code
def yX1_multiply : MethodName := ⟨RX1, "multiply", "(II)I"⟩
abbrev cX1_product : ByteArray := prog_3_method_8_code
def yX1_product : MethodName := ⟨RX1, "product", "(II)I"⟩
abbrev cX1_timesAt : ByteArray := prog_3_method_9_code
def yX1_timesAt : MethodName := ⟨RX1, "timesAt", "(IIII)I"⟩
abbrev cX1_put : ByteArray := prog_3_method_7_code
def yX1_put : MethodName := ⟨RX1, "put", "(II)V"⟩
abbrev cX1_invert : ByteArray := prog_3_method_12_code
def yX1_invert : MethodName := ⟨RX1, "invert", "(I)I"⟩
abbrev cX1_power : ByteArray := prog_3_method_14_code
def yX1_power : MethodName := ⟨RX1, "power", "(II)I"⟩
abbrev cX1_raised : ByteArray := prog_3_method_13_code
def yX1_raised : MethodName := ⟨RX1, "raised", "(II)I"⟩
abbrev cX1_order : ByteArray := prog_3_method_15_code
def yX1_order : MethodName := ⟨RX1, "order", "(I)I"⟩
abbrev cX1_root : ByteArray := prog_3_method_16_code
def yX1_root : MethodName := ⟨RX1, "root", "(I)I"⟩
abbrev cX1_roots : ByteArray := prog_3_method_17_code
def yX1_roots : MethodName := ⟨RX1, "roots", "(II)I"⟩
abbrev cX1_trace : ByteArray := prog_3_method_19_code
def yX1_trace : MethodName := ⟨RX1, "trace", "(II)I"⟩
abbrev cX1_steps : ByteArray := prog_3_method_18_code
def yX1_steps : MethodName := ⟨RX1, "steps", "(I)I"⟩
abbrev cX1_home : ByteArray := prog_3_method_20_code
def yX1_home : MethodName := ⟨RX1, "home", "(I)I"⟩
abbrev cX1_logarithm : ByteArray := prog_3_method_21_code
def yX1_logarithm : MethodName := ⟨RX1, "logarithm", "(II)I"⟩
theorem q19 : (Jvm.Cond.initialized "FieldTowerModel") ∈ lw_all := lw_g (lw_at lw_m0 2 rfl) rfl
theorem q132 : (Jvm.Cond.instantiable "FieldTowerModel" (4 : Nat)) ∈ lw_all := lw_g (lw_at lw_m0 115 rfl) rfl
theorem q134 : (Jvm.Cond.instanceMethod ({ cls := "FieldTowerModel", name := "<init>", desc := "()V" } : Jvm.MethodName)) ∈ lw_all := lw_g (lw_at lw_m0 117 rfl) rfl
theorem q135 : (Jvm.Cond.code ({ cls := "FieldTowerModel", name := "<init>", desc := "()V" } : Jvm.MethodName) prog_3_method_1_code (1 : Nat) (Option.none : Option Jvm.ClassFile.FieldType)) ∈ lw_all := lw_g (lw_at lw_m0 118 rfl) rfl
theorem q136 : (Jvm.Cond.methodLink "FieldTowerModel" (1 : Nat) ({ cls := "java/lang/Object", name := "<init>", desc := "()V" } : Jvm.MethodName)) ∈ lw_all := lw_g (lw_at lw_m0 119 rfl) rfl
theorem q137 : (Jvm.Cond.fieldLink "FieldTowerModel" (7 : Nat) "FieldTowerModel" "q" "I") ∈ lw_all := lw_g (lw_at lw_m0 120 rfl) rfl
theorem q138 : (Jvm.Cond.fieldLink "FieldTowerModel" (13 : Nat) "FieldTowerModel" "p" "I") ∈ lw_all := lw_g (lw_at lw_m0 121 rfl) rfl
theorem q139 : (Jvm.Cond.fieldLink "FieldTowerModel" (16 : Nat) "FieldTowerModel" "k" "I") ∈ lw_all := lw_g (lw_at lw_m0 122 rfl) rfl
theorem q140 : (Jvm.Cond.fieldLink "FieldTowerModel" (19 : Nat) "FieldTowerModel" "digits" "[I") ∈ lw_all := lw_g (lw_at lw_m0 123 rfl) rfl
theorem q141 : (Jvm.Cond.lays "FieldTowerModel" "FieldTowerModel" "q" "I") ∈ lw_all := lw_g (lw_at lw_m0 124 rfl) rfl
theorem q142 : (Jvm.Cond.soleField "FieldTowerModel" "q") ∈ lw_all := lw_g (lw_at lw_m0 125 rfl) rfl
theorem q143 : (Jvm.Cond.lays "FieldTowerModel" "FieldTowerModel" "p" "I") ∈ lw_all := lw_g (lw_at lw_m0 126 rfl) rfl
theorem q144 : (Jvm.Cond.soleField "FieldTowerModel" "p") ∈ lw_all := lw_g (lw_at lw_m0 127 rfl) rfl
theorem q145 : (Jvm.Cond.lays "FieldTowerModel" "FieldTowerModel" "k" "I") ∈ lw_all := lw_g (lw_at lw_m0 128 rfl) rfl
theorem q146 : (Jvm.Cond.soleField "FieldTowerModel" "k") ∈ lw_all := lw_g (lw_at lw_m0 129 rfl) rfl
theorem q147 : (Jvm.Cond.laysFinal "FieldTowerModel" "FieldTowerModel" "digits" "[I") ∈ lw_all := lw_g (lw_at lw_m0 130 rfl) rfl
theorem q148 : (Jvm.Cond.soleField "FieldTowerModel" "digits") ∈ lw_all := lw_g (lw_at lw_m0 131 rfl) rfl
theorem q149 : (Jvm.Cond.superclass "FieldTowerModel" "java/lang/Object") ∈ lw_all := lw_g (lw_at lw_m0 132 rfl) rfl
theorem q151 : (Jvm.Cond.instanceMethod ({ cls := "FieldTowerModel", name := "use", desc := "(I)I" } : Jvm.MethodName)) ∈ lw_all := lw_g (lw_at lw_m0 134 rfl) rfl
theorem q152 : (Jvm.Cond.selects "FieldTowerModel" ({ cls := "FieldTowerModel", name := "use", desc := "(I)I" } : Jvm.MethodName) ({ cls := "FieldTowerModel", name := "use", desc := "(I)I" } : Jvm.MethodName)) ∈ lw_all := lw_g (lw_at lw_m0 135 rfl) rfl
theorem q153 : (Jvm.Cond.code ({ cls := "FieldTowerModel", name := "use", desc := "(I)I" } : Jvm.MethodName) prog_3_method_2_code (2 : Nat) (Option.some Jvm.ClassFile.FieldType.int)) ∈ lw_all := lw_g (lw_at lw_m0 136 rfl) rfl
theorem q155 : (Jvm.Cond.instanceMethod ({ cls := "FieldTowerModel", name := "add", desc := "(II)I" } : Jvm.MethodName)) ∈ lw_all := lw_g (lw_at lw_m0 138 rfl) rfl
theorem q156 : (Jvm.Cond.selects "FieldTowerModel" ({ cls := "FieldTowerModel", name := "add", desc := "(II)I" } : Jvm.MethodName) ({ cls := "FieldTowerModel", name := "add", desc := "(II)I" } : Jvm.MethodName)) ∈ lw_all := lw_g (lw_at lw_m0 139 rfl) rfl
theorem q157 : (Jvm.Cond.code ({ cls := "FieldTowerModel", name := "add", desc := "(II)I" } : Jvm.MethodName) prog_3_method_10_code (3 : Nat) (Option.some Jvm.ClassFile.FieldType.int)) ∈ lw_all := lw_g (lw_at lw_m0 140 rfl) rfl
theorem q158 : (Jvm.Cond.methodLink "FieldTowerModel" (39 : Nat) ({ cls := "FieldTowerModel", name := "bad", desc := "(I)Z" } : Jvm.MethodName)) ∈ lw_all := lw_g (lw_at lw_m0 141 rfl) rfl
theorem q159 : (Jvm.Cond.privateMethod ({ cls := "FieldTowerModel", name := "bad", desc := "(I)Z" } : Jvm.MethodName)) ∈ lw_tbl := lw_at lw_m0 142 rfl
theorem q160 : (Jvm.Cond.instanceMethod ({ cls := "FieldTowerModel", name := "bad", desc := "(I)Z" } : Jvm.MethodName)) ∈ lw_all := lw_g (lw_at lw_m0 143 rfl) rfl
theorem q161 : (Jvm.Cond.code ({ cls := "FieldTowerModel", name := "bad", desc := "(I)Z" } : Jvm.MethodName) prog_3_method_3_code (2 : Nat) (Option.some Jvm.ClassFile.FieldType.boolean)) ∈ lw_all := lw_g (lw_at lw_m0 144 rfl) rfl
theorem q162 : (Jvm.Cond.methodLink "FieldTowerModel" (43 : Nat) ({ cls := "FieldTowerModel", name := "sum", desc := "(II)I" } : Jvm.MethodName)) ∈ lw_all := lw_g (lw_at lw_m0 145 rfl) rfl
theorem q163 : (Jvm.Cond.privateMethod ({ cls := "FieldTowerModel", name := "sum", desc := "(II)I" } : Jvm.MethodName)) ∈ lw_tbl := lw_at lw_m0 146 rfl
theorem q164 : (Jvm.Cond.instanceMethod ({ cls := "FieldTowerModel", name := "sum", desc := "(II)I" } : Jvm.MethodName)) ∈ lw_all := lw_g (lw_at lw_m0 147 rfl) rfl
theorem q165 : (Jvm.Cond.code ({ cls := "FieldTowerModel", name := "sum", desc := "(II)I" } : Jvm.MethodName) prog_3_method_6_code (6 : Nat) (Option.some Jvm.ClassFile.FieldType.int)) ∈ lw_all := lw_g (lw_at lw_m0 148 rfl) rfl
theorem q166 : (Jvm.Cond.methodLink "FieldTowerModel" (27 : Nat) ({ cls := "FieldTowerModel", name := "coefficient", desc := "(II)I" } : Jvm.MethodName)) ∈ lw_all := lw_g (lw_at lw_m0 149 rfl) rfl
theorem q167 : (Jvm.Cond.privateMethod ({ cls := "FieldTowerModel", name := "coefficient", desc := "(II)I" } : Jvm.MethodName)) ∈ lw_tbl := lw_at lw_m0 150 rfl
theorem q168 : (Jvm.Cond.instanceMethod ({ cls := "FieldTowerModel", name := "coefficient", desc := "(II)I" } : Jvm.MethodName)) ∈ lw_all := lw_g (lw_at lw_m0 151 rfl) rfl
theorem q169 : (Jvm.Cond.code ({ cls := "FieldTowerModel", name := "coefficient", desc := "(II)I" } : Jvm.MethodName) prog_3_method_5_code (4 : Nat) (Option.some Jvm.ClassFile.FieldType.int)) ∈ lw_all := lw_g (lw_at lw_m0 152 rfl) rfl
theorem q170 : (Jvm.Cond.methodLink "FieldTowerModel" (23 : Nat) ({ cls := "FieldTowerModel", name := "unit", desc := "(I)I" } : Jvm.MethodName)) ∈ lw_all := lw_g (lw_at lw_m0 153 rfl) rfl
theorem q171 : (Jvm.Cond.privateMethod ({ cls := "FieldTowerModel", name := "unit", desc := "(I)I" } : Jvm.MethodName)) ∈ lw_tbl := lw_at lw_m0 154 rfl
theorem q172 : (Jvm.Cond.instanceMethod ({ cls := "FieldTowerModel", name := "unit", desc := "(I)I" } : Jvm.MethodName)) ∈ lw_all := lw_g (lw_at lw_m0 155 rfl) rfl
theorem q173 : (Jvm.Cond.code ({ cls := "FieldTowerModel", name := "unit", desc := "(I)I" } : Jvm.MethodName) prog_3_method_4_code (4 : Nat) (Option.some Jvm.ClassFile.FieldType.int)) ∈ lw_all := lw_g (lw_at lw_m0 156 rfl) rfl
theorem q175 : (Jvm.Cond.instanceMethod ({ cls := "FieldTowerModel", name := "multiply", desc := "(II)I" } : Jvm.MethodName)) ∈ lw_all := lw_g (lw_at lw_m0 158 rfl) rfl
theorem q176 : (Jvm.Cond.selects "FieldTowerModel" ({ cls := "FieldTowerModel", name := "multiply", desc := "(II)I" } : Jvm.MethodName) ({ cls := "FieldTowerModel", name := "multiply", desc := "(II)I" } : Jvm.MethodName)) ∈ lw_all := lw_g (lw_at lw_m0 159 rfl) rfl
theorem q177 : (Jvm.Cond.code ({ cls := "FieldTowerModel", name := "multiply", desc := "(II)I" } : Jvm.MethodName) prog_3_method_11_code (3 : Nat) (Option.some Jvm.ClassFile.FieldType.int)) ∈ lw_all := lw_g (lw_at lw_m0 160 rfl) rfl
theorem q178 : (Jvm.Cond.methodLink "FieldTowerModel" (46 : Nat) ({ cls := "FieldTowerModel", name := "product", desc := "(II)I" } : Jvm.MethodName)) ∈ lw_all := lw_g (lw_at lw_m0 161 rfl) rfl
theorem q179 : (Jvm.Cond.privateMethod ({ cls := "FieldTowerModel", name := "product", desc := "(II)I" } : Jvm.MethodName)) ∈ lw_tbl := lw_at lw_m0 162 rfl
theorem q180 : (Jvm.Cond.instanceMethod ({ cls := "FieldTowerModel", name := "product", desc := "(II)I" } : Jvm.MethodName)) ∈ lw_all := lw_g (lw_at lw_m0 163 rfl) rfl
theorem q181 : (Jvm.Cond.code ({ cls := "FieldTowerModel", name := "product", desc := "(II)I" } : Jvm.MethodName) prog_3_method_8_code (6 : Nat) (Option.some Jvm.ClassFile.FieldType.int)) ∈ lw_all := lw_g (lw_at lw_m0 164 rfl) rfl
theorem q182 : (Jvm.Cond.methodLink "FieldTowerModel" (31 : Nat) ({ cls := "FieldTowerModel", name := "timesAt", desc := "(IIII)I" } : Jvm.MethodName)) ∈ lw_all := lw_g (lw_at lw_m0 165 rfl) rfl
theorem q183 : (Jvm.Cond.privateMethod ({ cls := "FieldTowerModel", name := "timesAt", desc := "(IIII)I" } : Jvm.MethodName)) ∈ lw_tbl := lw_at lw_m0 166 rfl
theorem q184 : (Jvm.Cond.instanceMethod ({ cls := "FieldTowerModel", name := "timesAt", desc := "(IIII)I" } : Jvm.MethodName)) ∈ lw_all := lw_g (lw_at lw_m0 167 rfl) rfl
theorem q185 : (Jvm.Cond.code ({ cls := "FieldTowerModel", name := "timesAt", desc := "(IIII)I" } : Jvm.MethodName) prog_3_method_9_code (5 : Nat) (Option.some Jvm.ClassFile.FieldType.int)) ∈ lw_all := lw_g (lw_at lw_m0 168 rfl) rfl
theorem q186 : (Jvm.Cond.methodLink "FieldTowerModel" (35 : Nat) ({ cls := "FieldTowerModel", name := "put", desc := "(II)V" } : Jvm.MethodName)) ∈ lw_all := lw_g (lw_at lw_m0 169 rfl) rfl
theorem q187 : (Jvm.Cond.privateMethod ({ cls := "FieldTowerModel", name := "put", desc := "(II)V" } : Jvm.MethodName)) ∈ lw_tbl := lw_at lw_m0 170 rfl
theorem q188 : (Jvm.Cond.instanceMethod ({ cls := "FieldTowerModel", name := "put", desc := "(II)V" } : Jvm.MethodName)) ∈ lw_all := lw_g (lw_at lw_m0 171 rfl) rfl
theorem q189 : (Jvm.Cond.code ({ cls := "FieldTowerModel", name := "put", desc := "(II)V" } : Jvm.MethodName) prog_3_method_7_code (3 : Nat) (Option.none : Option Jvm.ClassFile.FieldType)) ∈ lw_all := lw_g (lw_at lw_m0 172 rfl) rfl
theorem q191 : (Jvm.Cond.instanceMethod ({ cls := "FieldTowerModel", name := "invert", desc := "(I)I" } : Jvm.MethodName)) ∈ lw_all := lw_g (lw_at lw_m0 174 rfl) rfl
theorem q192 : (Jvm.Cond.selects "FieldTowerModel" ({ cls := "FieldTowerModel", name := "invert", desc := "(I)I" } : Jvm.MethodName) ({ cls := "FieldTowerModel", name := "invert", desc := "(I)I" } : Jvm.MethodName)) ∈ lw_all := lw_g (lw_at lw_m0 175 rfl) rfl
theorem q193 : (Jvm.Cond.code ({ cls := "FieldTowerModel", name := "invert", desc := "(I)I" } : Jvm.MethodName) prog_3_method_12_code (3 : Nat) (Option.some Jvm.ClassFile.FieldType.int)) ∈ lw_all := lw_g (lw_at lw_m0 176 rfl) rfl
theorem q195 : (Jvm.Cond.instanceMethod ({ cls := "FieldTowerModel", name := "power", desc := "(II)I" } : Jvm.MethodName)) ∈ lw_all := lw_g (lw_at lw_m0 178 rfl) rfl
theorem q196 : (Jvm.Cond.selects "FieldTowerModel" ({ cls := "FieldTowerModel", name := "power", desc := "(II)I" } : Jvm.MethodName) ({ cls := "FieldTowerModel", name := "power", desc := "(II)I" } : Jvm.MethodName)) ∈ lw_all := lw_g (lw_at lw_m0 179 rfl) rfl
theorem q197 : (Jvm.Cond.code ({ cls := "FieldTowerModel", name := "power", desc := "(II)I" } : Jvm.MethodName) prog_3_method_14_code (3 : Nat) (Option.some Jvm.ClassFile.FieldType.int)) ∈ lw_all := lw_g (lw_at lw_m0 180 rfl) rfl
theorem q198 : (Jvm.Cond.constant "FieldTowerModel" (49 : Nat) (1000000 : Int32)) ∈ lw_all := lw_g (lw_at lw_m0 181 rfl) rfl
theorem q199 : (Jvm.Cond.methodLink "FieldTowerModel" (50 : Nat) ({ cls := "FieldTowerModel", name := "raised", desc := "(II)I" } : Jvm.MethodName)) ∈ lw_all := lw_g (lw_at lw_m0 182 rfl) rfl
theorem q200 : (Jvm.Cond.privateMethod ({ cls := "FieldTowerModel", name := "raised", desc := "(II)I" } : Jvm.MethodName)) ∈ lw_tbl := lw_at lw_m0 183 rfl
theorem q201 : (Jvm.Cond.instanceMethod ({ cls := "FieldTowerModel", name := "raised", desc := "(II)I" } : Jvm.MethodName)) ∈ lw_all := lw_g (lw_at lw_m0 184 rfl) rfl
theorem q202 : (Jvm.Cond.code ({ cls := "FieldTowerModel", name := "raised", desc := "(II)I" } : Jvm.MethodName) prog_3_method_13_code (6 : Nat) (Option.some Jvm.ClassFile.FieldType.int)) ∈ lw_all := lw_g (lw_at lw_m0 185 rfl) rfl
theorem q204 : (Jvm.Cond.instanceMethod ({ cls := "FieldTowerModel", name := "order", desc := "(I)I" } : Jvm.MethodName)) ∈ lw_all := lw_g (lw_at lw_m0 187 rfl) rfl
theorem q205 : (Jvm.Cond.selects "FieldTowerModel" ({ cls := "FieldTowerModel", name := "order", desc := "(I)I" } : Jvm.MethodName) ({ cls := "FieldTowerModel", name := "order", desc := "(I)I" } : Jvm.MethodName)) ∈ lw_all := lw_g (lw_at lw_m0 188 rfl) rfl
theorem q206 : (Jvm.Cond.code ({ cls := "FieldTowerModel", name := "order", desc := "(I)I" } : Jvm.MethodName) prog_3_method_15_code (4 : Nat) (Option.some Jvm.ClassFile.FieldType.int)) ∈ lw_all := lw_g (lw_at lw_m0 189 rfl) rfl
theorem q208 : (Jvm.Cond.instanceMethod ({ cls := "FieldTowerModel", name := "root", desc := "(I)I" } : Jvm.MethodName)) ∈ lw_all := lw_g (lw_at lw_m0 191 rfl) rfl
theorem q209 : (Jvm.Cond.selects "FieldTowerModel" ({ cls := "FieldTowerModel", name := "root", desc := "(I)I" } : Jvm.MethodName) ({ cls := "FieldTowerModel", name := "root", desc := "(I)I" } : Jvm.MethodName)) ∈ lw_all := lw_g (lw_at lw_m0 192 rfl) rfl
theorem q210 : (Jvm.Cond.code ({ cls := "FieldTowerModel", name := "root", desc := "(I)I" } : Jvm.MethodName) prog_3_method_16_code (3 : Nat) (Option.some Jvm.ClassFile.FieldType.int)) ∈ lw_all := lw_g (lw_at lw_m0 193 rfl) rfl
theorem q212 : (Jvm.Cond.instanceMethod ({ cls := "FieldTowerModel", name := "roots", desc := "(II)I" } : Jvm.MethodName)) ∈ lw_all := lw_g (lw_at lw_m0 195 rfl) rfl
theorem q213 : (Jvm.Cond.selects "FieldTowerModel" ({ cls := "FieldTowerModel", name := "roots", desc := "(II)I" } : Jvm.MethodName) ({ cls := "FieldTowerModel", name := "roots", desc := "(II)I" } : Jvm.MethodName)) ∈ lw_all := lw_g (lw_at lw_m0 196 rfl) rfl
theorem q214 : (Jvm.Cond.code ({ cls := "FieldTowerModel", name := "roots", desc := "(II)I" } : Jvm.MethodName) prog_3_method_17_code (5 : Nat) (Option.some Jvm.ClassFile.FieldType.int)) ∈ lw_all := lw_g (lw_at lw_m0 197 rfl) rfl
theorem q216 : (Jvm.Cond.instanceMethod ({ cls := "FieldTowerModel", name := "trace", desc := "(II)I" } : Jvm.MethodName)) ∈ lw_all := lw_g (lw_at lw_m0 199 rfl) rfl
theorem q217 : (Jvm.Cond.selects "FieldTowerModel" ({ cls := "FieldTowerModel", name := "trace", desc := "(II)I" } : Jvm.MethodName) ({ cls := "FieldTowerModel", name := "trace", desc := "(II)I" } : Jvm.MethodName)) ∈ lw_all := lw_g (lw_at lw_m0 200 rfl) rfl
theorem q218 : (Jvm.Cond.code ({ cls := "FieldTowerModel", name := "trace", desc := "(II)I" } : Jvm.MethodName) prog_3_method_19_code (6 : Nat) (Option.some Jvm.ClassFile.FieldType.int)) ∈ lw_all := lw_g (lw_at lw_m0 201 rfl) rfl
theorem q219 : (Jvm.Cond.methodLink "FieldTowerModel" (53 : Nat) ({ cls := "FieldTowerModel", name := "steps", desc := "(I)I" } : Jvm.MethodName)) ∈ lw_all := lw_g (lw_at lw_m0 202 rfl) rfl
theorem q220 : (Jvm.Cond.privateMethod ({ cls := "FieldTowerModel", name := "steps", desc := "(I)I" } : Jvm.MethodName)) ∈ lw_tbl := lw_at lw_m0 203 rfl
theorem q221 : (Jvm.Cond.instanceMethod ({ cls := "FieldTowerModel", name := "steps", desc := "(I)I" } : Jvm.MethodName)) ∈ lw_all := lw_g (lw_at lw_m0 204 rfl) rfl
theorem q222 : (Jvm.Cond.code ({ cls := "FieldTowerModel", name := "steps", desc := "(I)I" } : Jvm.MethodName) prog_3_method_18_code (2 : Nat) (Option.some Jvm.ClassFile.FieldType.int)) ∈ lw_all := lw_g (lw_at lw_m0 205 rfl) rfl
theorem q224 : (Jvm.Cond.instanceMethod ({ cls := "FieldTowerModel", name := "home", desc := "(I)I" } : Jvm.MethodName)) ∈ lw_all := lw_g (lw_at lw_m0 207 rfl) rfl
theorem q225 : (Jvm.Cond.selects "FieldTowerModel" ({ cls := "FieldTowerModel", name := "home", desc := "(I)I" } : Jvm.MethodName) ({ cls := "FieldTowerModel", name := "home", desc := "(I)I" } : Jvm.MethodName)) ∈ lw_all := lw_g (lw_at lw_m0 208 rfl) rfl
theorem q226 : (Jvm.Cond.code ({ cls := "FieldTowerModel", name := "home", desc := "(I)I" } : Jvm.MethodName) prog_3_method_20_code (3 : Nat) (Option.some Jvm.ClassFile.FieldType.int)) ∈ lw_all := lw_g (lw_at lw_m0 209 rfl) rfl
theorem q228 : (Jvm.Cond.instanceMethod ({ cls := "FieldTowerModel", name := "logarithm", desc := "(II)I" } : Jvm.MethodName)) ∈ lw_all := lw_g (lw_at lw_m0 211 rfl) rfl
theorem q229 : (Jvm.Cond.selects "FieldTowerModel" ({ cls := "FieldTowerModel", name := "logarithm", desc := "(II)I" } : Jvm.MethodName) ({ cls := "FieldTowerModel", name := "logarithm", desc := "(II)I" } : Jvm.MethodName)) ∈ lw_all := lw_g (lw_at lw_m0 212 rfl) rfl
theorem q230 : (Jvm.Cond.code ({ cls := "FieldTowerModel", name := "logarithm", desc := "(II)I" } : Jvm.MethodName) prog_3_method_21_code (5 : Nat) (Option.some Jvm.ClassFile.FieldType.int)) ∈ lw_all := lw_g (lw_at lw_m0 213 rfl) rfl
theorem in_X1 : ∀ w ∈ wsX10, w ∈ lw_all := lw_in wsX10 [141, 143, 145, 147] (by decide +kernel) (by decide +kernel)
theorem q17 : (Jvm.Cond.initialized "FieldTowerLaw") ∈ lw_all := lw_g (lw_at lw_m0 0 rfl) rfl
theorem q20 : (Jvm.Cond.classLink "FieldTowerLaw" (7 : Nat) "FieldTower") ∈ lw_all := lw_g (lw_at lw_m0 3 rfl) rfl
theorem q22 : (Jvm.Cond.methodLink "FieldTowerLaw" (9 : Nat) ({ cls := "FieldTower", name := "<init>", desc := "()V" } : Jvm.MethodName)) ∈ lw_all := lw_g (lw_at lw_m0 5 rfl) rfl
theorem q60 : (Jvm.Cond.methodLink "FieldTowerLaw" (13 : Nat) ({ cls := "FieldTower", name := "use", desc := "(I)I" } : Jvm.MethodName)) ∈ lw_all := lw_g (lw_at lw_m0 43 rfl) rfl
theorem q64 : (Jvm.Cond.methodLink "FieldTowerLaw" (18 : Nat) ({ cls := "FieldTower", name := "add", desc := "(II)I" } : Jvm.MethodName)) ∈ lw_all := lw_g (lw_at lw_m0 47 rfl) rfl
theorem q76 : (Jvm.Cond.methodLink "FieldTowerLaw" (23 : Nat) ({ cls := "FieldTower", name := "multiply", desc := "(II)I" } : Jvm.MethodName)) ∈ lw_all := lw_g (lw_at lw_m0 59 rfl) rfl
theorem q84 : (Jvm.Cond.methodLink "FieldTowerLaw" (27 : Nat) ({ cls := "FieldTower", name := "invert", desc := "(I)I" } : Jvm.MethodName)) ∈ lw_all := lw_g (lw_at lw_m0 67 rfl) rfl
theorem q88 : (Jvm.Cond.methodLink "FieldTowerLaw" (31 : Nat) ({ cls := "FieldTower", name := "power", desc := "(II)I" } : Jvm.MethodName)) ∈ lw_all := lw_g (lw_at lw_m0 71 rfl) rfl
theorem q97 : (Jvm.Cond.methodLink "FieldTowerLaw" (35 : Nat) ({ cls := "FieldTower", name := "order", desc := "(I)I" } : Jvm.MethodName)) ∈ lw_all := lw_g (lw_at lw_m0 80 rfl) rfl
theorem q104 : (Jvm.Cond.methodLink "FieldTowerLaw" (39 : Nat) ({ cls := "FieldTower", name := "root", desc := "(I)I" } : Jvm.MethodName)) ∈ lw_all := lw_g (lw_at lw_m0 87 rfl) rfl
theorem q108 : (Jvm.Cond.methodLink "FieldTowerLaw" (43 : Nat) ({ cls := "FieldTower", name := "roots", desc := "(II)I" } : Jvm.MethodName)) ∈ lw_all := lw_g (lw_at lw_m0 91 rfl) rfl
theorem q112 : (Jvm.Cond.methodLink "FieldTowerLaw" (47 : Nat) ({ cls := "FieldTower", name := "trace", desc := "(II)I" } : Jvm.MethodName)) ∈ lw_all := lw_g (lw_at lw_m0 95 rfl) rfl
theorem q120 : (Jvm.Cond.methodLink "FieldTowerLaw" (51 : Nat) ({ cls := "FieldTower", name := "home", desc := "(I)I" } : Jvm.MethodName)) ∈ lw_all := lw_g (lw_at lw_m0 103 rfl) rfl
theorem q124 : (Jvm.Cond.methodLink "FieldTowerLaw" (55 : Nat) ({ cls := "FieldTower", name := "logarithm", desc := "(II)I" } : Jvm.MethodName)) ∈ lw_all := lw_g (lw_at lw_m0 107 rfl) rfl
theorem q131 : (Jvm.Cond.classLink "FieldTowerLaw" (10 : Nat) "FieldTowerModel") ∈ lw_all := lw_g (lw_at lw_m0 114 rfl) rfl
theorem q133 : (Jvm.Cond.methodLink "FieldTowerLaw" (12 : Nat) ({ cls := "FieldTowerModel", name := "<init>", desc := "()V" } : Jvm.MethodName)) ∈ lw_all := lw_g (lw_at lw_m0 116 rfl) rfl
theorem q150 : (Jvm.Cond.methodLink "FieldTowerLaw" (17 : Nat) ({ cls := "FieldTowerModel", name := "use", desc := "(I)I" } : Jvm.MethodName)) ∈ lw_all := lw_g (lw_at lw_m0 133 rfl) rfl
theorem q154 : (Jvm.Cond.methodLink "FieldTowerLaw" (22 : Nat) ({ cls := "FieldTowerModel", name := "add", desc := "(II)I" } : Jvm.MethodName)) ∈ lw_all := lw_g (lw_at lw_m0 137 rfl) rfl
theorem q174 : (Jvm.Cond.methodLink "FieldTowerLaw" (26 : Nat) ({ cls := "FieldTowerModel", name := "multiply", desc := "(II)I" } : Jvm.MethodName)) ∈ lw_all := lw_g (lw_at lw_m0 157 rfl) rfl
theorem q190 : (Jvm.Cond.methodLink "FieldTowerLaw" (30 : Nat) ({ cls := "FieldTowerModel", name := "invert", desc := "(I)I" } : Jvm.MethodName)) ∈ lw_all := lw_g (lw_at lw_m0 173 rfl) rfl
theorem q194 : (Jvm.Cond.methodLink "FieldTowerLaw" (34 : Nat) ({ cls := "FieldTowerModel", name := "power", desc := "(II)I" } : Jvm.MethodName)) ∈ lw_all := lw_g (lw_at lw_m0 177 rfl) rfl
theorem q203 : (Jvm.Cond.methodLink "FieldTowerLaw" (38 : Nat) ({ cls := "FieldTowerModel", name := "order", desc := "(I)I" } : Jvm.MethodName)) ∈ lw_all := lw_g (lw_at lw_m0 186 rfl) rfl
theorem q207 : (Jvm.Cond.methodLink "FieldTowerLaw" (42 : Nat) ({ cls := "FieldTowerModel", name := "root", desc := "(I)I" } : Jvm.MethodName)) ∈ lw_all := lw_g (lw_at lw_m0 190 rfl) rfl
theorem q211 : (Jvm.Cond.methodLink "FieldTowerLaw" (46 : Nat) ({ cls := "FieldTowerModel", name := "roots", desc := "(II)I" } : Jvm.MethodName)) ∈ lw_all := lw_g (lw_at lw_m0 194 rfl) rfl
theorem q215 : (Jvm.Cond.methodLink "FieldTowerLaw" (50 : Nat) ({ cls := "FieldTowerModel", name := "trace", desc := "(II)I" } : Jvm.MethodName)) ∈ lw_all := lw_g (lw_at lw_m0 198 rfl) rfl
theorem q223 : (Jvm.Cond.methodLink "FieldTowerLaw" (54 : Nat) ({ cls := "FieldTowerModel", name := "home", desc := "(I)I" } : Jvm.MethodName)) ∈ lw_all := lw_g (lw_at lw_m0 206 rfl) rfl
theorem q227 : (Jvm.Cond.methodLink "FieldTowerLaw" (58 : Nat) ({ cls := "FieldTowerModel", name := "logarithm", desc := "(II)I" } : Jvm.MethodName)) ∈ lw_all := lw_g (lw_at lw_m0 210 rfl) rfl
/-! the law's own entry -/
abbrev cL_law : ByteArray := code
end
section
set_option maxRecDepth 100000
theorem dX0_init_0 : decode cX0_init 0 = .ok (.aload_n 0, 1) := by decide +kernel
theorem dX0_init_1 : decode cX0_init 1 = .ok (.invokespecial 1, 3) := by decide +kernel
theorem dX0_init_4 : decode cX0_init 4 = .ok (.aload_n 0, 1) := by decide +kernel
theorem dX0_init_5 : decode cX0_init 5 = .ok (.sipush 160, 3) := by decide +kernel
theorem dX0_init_8 : decode cX0_init 8 = .ok (.newarray .int, 2) := by decide +kernel
theorem dX0_init_10 : decode cX0_init 10 = .ok (.putfield 7, 3) := by decide +kernel
theorem dX0_init_13 : decode cX0_init 13 = .ok (.aload_n 0, 1) := by decide +kernel
theorem dX0_init_14 : decode cX0_init 14 = .ok (.bipush 81, 2) := by decide +kernel
theorem dX0_init_16 : decode cX0_init 16 = .ok (.newarray .int, 2) := by decide +kernel
theorem dX0_init_18 : decode cX0_init 18 = .ok (.putfield 13, 3) := by decide +kernel
theorem dX0_init_21 : decode cX0_init 21 = .ok (.aload_n 0, 1) := by decide +kernel
theorem dX0_init_22 : decode cX0_init 22 = .ok (.bipush 12, 2) := by decide +kernel
theorem dX0_init_24 : decode cX0_init 24 = .ok (.newarray .int, 2) := by decide +kernel
theorem dX0_init_26 : decode cX0_init 26 = .ok (.putfield 16, 3) := by decide +kernel
theorem dX0_init_29 : decode cX0_init 29 = .ok (.aload_n 0, 1) := by decide +kernel
theorem dX0_init_30 : decode cX0_init 30 = .ok (.bipush 64, 2) := by decide +kernel
theorem dX0_init_32 : decode cX0_init 32 = .ok (.iconst 2, 1) := by decide +kernel
theorem dX0_init_33 : decode cX0_init 33 = .ok (.bipush 6, 2) := by decide +kernel
theorem dX0_init_35 : decode cX0_init 35 = .ok (.invokevirtual 19, 3) := by decide +kernel
theorem dX0_init_38 : decode cX0_init 38 = .ok (.return_, 1) := by decide +kernel
theorem dX0_build_0 : decode cX0_build 0 = .ok (.aload_n 0, 1) := by decide +kernel
theorem dX0_build_1 : decode cX0_build 1 = .ok (.iload_n 1, 1) := by decide +kernel
theorem dX0_build_2 : decode cX0_build 2 = .ok (.putfield 34, 3) := by decide +kernel
theorem dX0_build_5 : decode cX0_build 5 = .ok (.aload_n 0, 1) := by decide +kernel
theorem dX0_build_6 : decode cX0_build 6 = .ok (.iload_n 2, 1) := by decide +kernel
theorem dX0_build_7 : decode cX0_build 7 = .ok (.putfield 45, 3) := by decide +kernel
theorem dX0_build_10 : decode cX0_build 10 = .ok (.aload_n 0, 1) := by decide +kernel
theorem dX0_build_11 : decode cX0_build 11 = .ok (.iload_n 3, 1) := by decide +kernel
theorem dX0_build_12 : decode cX0_build 12 = .ok (.putfield 54, 3) := by decide +kernel
theorem dX0_build_15 : decode cX0_build 15 = .ok (.iconst 1, 1) := by decide +kernel
theorem dX0_build_16 : decode cX0_build 16 = .ok (.istore 4, 2) := by decide +kernel
theorem dX0_build_18 : decode cX0_build 18 = .ok (.iconst 0, 1) := by decide +kernel
theorem dX0_build_19 : decode cX0_build 19 = .ok (.istore 5, 2) := by decide +kernel
theorem dX0_build_21 : decode cX0_build 21 = .ok (.iload 5, 2) := by decide +kernel
theorem dX0_build_23 : decode cX0_build 23 = .ok (.bipush 81, 2) := by decide +kernel
theorem dX0_build_25 : decode cX0_build 25 = .ok (.if_icmp .ge 21, 3) := by decide +kernel
theorem dX0_build_28 : decode cX0_build 28 = .ok (.aload_n 0, 1) := by decide +kernel
theorem dX0_build_29 : decode cX0_build 29 = .ok (.iload 4, 2) := by decide +kernel
theorem dX0_build_31 : decode cX0_build 31 = .ok (.invokevirtual 57, 3) := by decide +kernel
theorem dX0_build_34 : decode cX0_build 34 = .ok (.ifCond .ne 12, 3) := by decide +kernel
theorem dX0_build_37 : decode cX0_build 37 = .ok (.iinc 4 1, 3) := by decide +kernel
theorem dX0_build_40 : decode cX0_build 40 = .ok (.iinc 5 1, 3) := by decide +kernel
theorem dX0_build_43 : decode cX0_build 43 = .ok (.goto (-22), 3) := by decide +kernel
theorem dX0_build_46 : decode cX0_build 46 = .ok (.aload_n 0, 1) := by decide +kernel
theorem dX0_build_47 : decode cX0_build 47 = .ok (.getfield 34, 3) := by decide +kernel
theorem dX0_build_50 : decode cX0_build 50 = .ok (.iconst 1, 1) := by decide +kernel
theorem dX0_build_51 : decode cX0_build 51 = .ok (.isub, 1) := by decide +kernel
theorem dX0_build_52 : decode cX0_build 52 = .ok (.istore 5, 2) := by decide +kernel
theorem dX0_build_54 : decode cX0_build 54 = .ok (.iload 5, 2) := by decide +kernel
theorem dX0_build_56 : decode cX0_build 56 = .ok (.iconst 2, 1) := by decide +kernel
theorem dX0_build_57 : decode cX0_build 57 = .ok (.aload_n 0, 1) := by decide +kernel
theorem dX0_build_58 : decode cX0_build 58 = .ok (.getfield 34, 3) := by decide +kernel
theorem dX0_build_61 : decode cX0_build 61 = .ok (.imul, 1) := by decide +kernel
theorem dX0_build_62 : decode cX0_build 62 = .ok (.iconst 2, 1) := by decide +kernel
theorem dX0_build_63 : decode cX0_build 63 = .ok (.isub, 1) := by decide +kernel
theorem dX0_build_64 : decode cX0_build 64 = .ok (.if_icmp .ge 30, 3) := by decide +kernel
theorem dX0_build_67 : decode cX0_build 67 = .ok (.aload_n 0, 1) := by decide +kernel
theorem dX0_build_68 : decode cX0_build 68 = .ok (.getfield 7, 3) := by decide +kernel
theorem dX0_build_71 : decode cX0_build 71 = .ok (.iload 5, 2) := by decide +kernel
theorem dX0_build_73 : decode cX0_build 73 = .ok (.aload_n 0, 1) := by decide +kernel
theorem dX0_build_74 : decode cX0_build 74 = .ok (.getfield 7, 3) := by decide +kernel
theorem dX0_build_77 : decode cX0_build 77 = .ok (.iload 5, 2) := by decide +kernel
theorem dX0_build_79 : decode cX0_build 79 = .ok (.aload_n 0, 1) := by decide +kernel
theorem dX0_build_80 : decode cX0_build 80 = .ok (.getfield 34, 3) := by decide +kernel
theorem dX0_build_83 : decode cX0_build 83 = .ok (.isub, 1) := by decide +kernel
theorem dX0_build_84 : decode cX0_build 84 = .ok (.iconst 1, 1) := by decide +kernel
theorem dX0_build_85 : decode cX0_build 85 = .ok (.iadd, 1) := by decide +kernel
theorem dX0_build_86 : decode cX0_build 86 = .ok (.iaload, 1) := by decide +kernel
theorem dX0_build_87 : decode cX0_build 87 = .ok (.iastore, 1) := by decide +kernel
theorem dX0_build_88 : decode cX0_build 88 = .ok (.iinc 5 1, 3) := by decide +kernel
theorem dX0_build_91 : decode cX0_build 91 = .ok (.goto (-37), 3) := by decide +kernel
theorem dX0_build_94 : decode cX0_build 94 = .ok (.return_, 1) := by decide +kernel
theorem dX0_makesAll_0 : decode cX0_makesAll 0 = .ok (.iconst 1, 1) := by decide +kernel
theorem dX0_makesAll_1 : decode cX0_makesAll 1 = .ok (.istore_n 2, 1) := by decide +kernel
theorem dX0_makesAll_2 : decode cX0_makesAll 2 = .ok (.iconst 0, 1) := by decide +kernel
theorem dX0_makesAll_3 : decode cX0_makesAll 3 = .ok (.istore_n 3, 1) := by decide +kernel
theorem dX0_makesAll_4 : decode cX0_makesAll 4 = .ok (.iload_n 3, 1) := by decide +kernel
theorem dX0_makesAll_5 : decode cX0_makesAll 5 = .ok (.aload_n 0, 1) := by decide +kernel
theorem dX0_makesAll_6 : decode cX0_makesAll 6 = .ok (.getfield 34, 3) := by decide +kernel
theorem dX0_makesAll_9 : decode cX0_makesAll 9 = .ok (.iconst 1, 1) := by decide +kernel
theorem dX0_makesAll_10 : decode cX0_makesAll 10 = .ok (.isub, 1) := by decide +kernel
theorem dX0_makesAll_11 : decode cX0_makesAll 11 = .ok (.if_icmp .ge 41, 3) := by decide +kernel
theorem dX0_makesAll_14 : decode cX0_makesAll 14 = .ok (.iload_n 3, 1) := by decide +kernel
theorem dX0_makesAll_15 : decode cX0_makesAll 15 = .ok (.ifCond .le 10, 3) := by decide +kernel
theorem dX0_makesAll_18 : decode cX0_makesAll 18 = .ok (.iload_n 2, 1) := by decide +kernel
theorem dX0_makesAll_19 : decode cX0_makesAll 19 = .ok (.iconst 1, 1) := by decide +kernel
theorem dX0_makesAll_20 : decode cX0_makesAll 20 = .ok (.if_icmp .ne 5, 3) := by decide +kernel
theorem dX0_makesAll_23 : decode cX0_makesAll 23 = .ok (.iconst 0, 1) := by decide +kernel
theorem dX0_makesAll_24 : decode cX0_makesAll 24 = .ok (.ireturn, 1) := by decide +kernel
theorem dX0_makesAll_25 : decode cX0_makesAll 25 = .ok (.aload_n 0, 1) := by decide +kernel
theorem dX0_makesAll_26 : decode cX0_makesAll 26 = .ok (.getfield 7, 3) := by decide +kernel
theorem dX0_makesAll_29 : decode cX0_makesAll 29 = .ok (.iload_n 3, 1) := by decide +kernel
theorem dX0_makesAll_30 : decode cX0_makesAll 30 = .ok (.iload_n 2, 1) := by decide +kernel
theorem dX0_makesAll_31 : decode cX0_makesAll 31 = .ok (.iastore, 1) := by decide +kernel
theorem dX0_makesAll_32 : decode cX0_makesAll 32 = .ok (.aload_n 0, 1) := by decide +kernel
theorem dX0_makesAll_33 : decode cX0_makesAll 33 = .ok (.getfield 13, 3) := by decide +kernel
theorem dX0_makesAll_36 : decode cX0_makesAll 36 = .ok (.iload_n 2, 1) := by decide +kernel
theorem dX0_makesAll_37 : decode cX0_makesAll 37 = .ok (.iload_n 3, 1) := by decide +kernel
theorem dX0_makesAll_38 : decode cX0_makesAll 38 = .ok (.iastore, 1) := by decide +kernel
theorem dX0_makesAll_39 : decode cX0_makesAll 39 = .ok (.aload_n 0, 1) := by decide +kernel
theorem dX0_makesAll_40 : decode cX0_makesAll 40 = .ok (.iload_n 2, 1) := by decide +kernel
theorem dX0_makesAll_41 : decode cX0_makesAll 41 = .ok (.iload_n 1, 1) := by decide +kernel
theorem dX0_makesAll_42 : decode cX0_makesAll 42 = .ok (.invokevirtual 60, 3) := by decide +kernel
theorem dX0_makesAll_45 : decode cX0_makesAll 45 = .ok (.istore_n 2, 1) := by decide +kernel
theorem dX0_makesAll_46 : decode cX0_makesAll 46 = .ok (.iinc 3 1, 3) := by decide +kernel
theorem dX0_makesAll_49 : decode cX0_makesAll 49 = .ok (.goto (-45), 3) := by decide +kernel
theorem dX0_makesAll_52 : decode cX0_makesAll 52 = .ok (.iconst 1, 1) := by decide +kernel
theorem dX0_makesAll_53 : decode cX0_makesAll 53 = .ok (.ireturn, 1) := by decide +kernel
theorem dX0_productByCoefficients_0 : decode cX0_productByCoefficients 0 = .ok (.iconst 0, 1) := by decide +kernel
theorem dX0_productByCoefficients_1 : decode cX0_productByCoefficients 1 = .ok (.istore_n 3, 1) := by decide +kernel
theorem dX0_productByCoefficients_2 : decode cX0_productByCoefficients 2 = .ok (.iload_n 3, 1) := by decide +kernel
theorem dX0_productByCoefficients_3 : decode cX0_productByCoefficients 3 = .ok (.bipush 12, 2) := by decide +kernel
theorem dX0_productByCoefficients_5 : decode cX0_productByCoefficients 5 = .ok (.if_icmp .ge 16, 3) := by decide +kernel
theorem dX0_productByCoefficients_8 : decode cX0_productByCoefficients 8 = .ok (.aload_n 0, 1) := by decide +kernel
theorem dX0_productByCoefficients_9 : decode cX0_productByCoefficients 9 = .ok (.getfield 16, 3) := by decide +kernel
theorem dX0_productByCoefficients_12 : decode cX0_productByCoefficients 12 = .ok (.iload_n 3, 1) := by decide +kernel
theorem dX0_productByCoefficients_13 : decode cX0_productByCoefficients 13 = .ok (.iconst 0, 1) := by decide +kernel
theorem dX0_productByCoefficients_14 : decode cX0_productByCoefficients 14 = .ok (.iastore, 1) := by decide +kernel
theorem dX0_productByCoefficients_15 : decode cX0_productByCoefficients 15 = .ok (.iinc 3 1, 3) := by decide +kernel
theorem dX0_productByCoefficients_18 : decode cX0_productByCoefficients 18 = .ok (.goto (-16), 3) := by decide +kernel
theorem dX0_productByCoefficients_21 : decode cX0_productByCoefficients 21 = .ok (.iload_n 1, 1) := by decide +kernel
theorem dX0_productByCoefficients_22 : decode cX0_productByCoefficients 22 = .ok (.istore_n 3, 1) := by decide +kernel
theorem dX0_productByCoefficients_23 : decode cX0_productByCoefficients 23 = .ok (.iconst 0, 1) := by decide +kernel
theorem dX0_productByCoefficients_24 : decode cX0_productByCoefficients 24 = .ok (.istore 4, 2) := by decide +kernel
theorem dX0_productByCoefficients_26 : decode cX0_productByCoefficients 26 = .ok (.iload 4, 2) := by decide +kernel
theorem dX0_productByCoefficients_28 : decode cX0_productByCoefficients 28 = .ok (.aload_n 0, 1) := by decide +kernel
theorem dX0_productByCoefficients_29 : decode cX0_productByCoefficients 29 = .ok (.getfield 54, 3) := by decide +kernel
theorem dX0_productByCoefficients_32 : decode cX0_productByCoefficients 32 = .ok (.if_icmp .ge 73, 3) := by decide +kernel
theorem dX0_productByCoefficients_35 : decode cX0_productByCoefficients 35 = .ok (.iload_n 2, 1) := by decide +kernel
theorem dX0_productByCoefficients_36 : decode cX0_productByCoefficients 36 = .ok (.istore 5, 2) := by decide +kernel
theorem dX0_productByCoefficients_38 : decode cX0_productByCoefficients 38 = .ok (.iconst 0, 1) := by decide +kernel
theorem dX0_productByCoefficients_39 : decode cX0_productByCoefficients 39 = .ok (.istore 6, 2) := by decide +kernel
theorem dX0_productByCoefficients_41 : decode cX0_productByCoefficients 41 = .ok (.iload 6, 2) := by decide +kernel
theorem dX0_productByCoefficients_43 : decode cX0_productByCoefficients 43 = .ok (.aload_n 0, 1) := by decide +kernel
theorem dX0_productByCoefficients_44 : decode cX0_productByCoefficients 44 = .ok (.getfield 54, 3) := by decide +kernel
theorem dX0_productByCoefficients_47 : decode cX0_productByCoefficients 47 = .ok (.if_icmp .ge 45, 3) := by decide +kernel
theorem dX0_productByCoefficients_50 : decode cX0_productByCoefficients 50 = .ok (.aload_n 0, 1) := by decide +kernel
theorem dX0_productByCoefficients_51 : decode cX0_productByCoefficients 51 = .ok (.getfield 16, 3) := by decide +kernel
theorem dX0_productByCoefficients_54 : decode cX0_productByCoefficients 54 = .ok (.iload 4, 2) := by decide +kernel
theorem dX0_productByCoefficients_56 : decode cX0_productByCoefficients 56 = .ok (.iload 6, 2) := by decide +kernel
theorem dX0_productByCoefficients_58 : decode cX0_productByCoefficients 58 = .ok (.iadd, 1) := by decide +kernel
theorem dX0_productByCoefficients_59 : decode cX0_productByCoefficients 59 = .ok (.dup2, 1) := by decide +kernel
theorem dX0_productByCoefficients_60 : decode cX0_productByCoefficients 60 = .ok (.iaload, 1) := by decide +kernel
theorem dX0_productByCoefficients_61 : decode cX0_productByCoefficients 61 = .ok (.iload_n 3, 1) := by decide +kernel
theorem dX0_productByCoefficients_62 : decode cX0_productByCoefficients 62 = .ok (.aload_n 0, 1) := by decide +kernel
theorem dX0_productByCoefficients_63 : decode cX0_productByCoefficients 63 = .ok (.getfield 45, 3) := by decide +kernel
theorem dX0_productByCoefficients_66 : decode cX0_productByCoefficients 66 = .ok (.irem, 1) := by decide +kernel
theorem dX0_productByCoefficients_67 : decode cX0_productByCoefficients 67 = .ok (.iload 5, 2) := by decide +kernel
theorem dX0_productByCoefficients_69 : decode cX0_productByCoefficients 69 = .ok (.aload_n 0, 1) := by decide +kernel
theorem dX0_productByCoefficients_70 : decode cX0_productByCoefficients 70 = .ok (.getfield 45, 3) := by decide +kernel
theorem dX0_productByCoefficients_73 : decode cX0_productByCoefficients 73 = .ok (.irem, 1) := by decide +kernel
theorem dX0_productByCoefficients_74 : decode cX0_productByCoefficients 74 = .ok (.imul, 1) := by decide +kernel
theorem dX0_productByCoefficients_75 : decode cX0_productByCoefficients 75 = .ok (.iadd, 1) := by decide +kernel
theorem dX0_productByCoefficients_76 : decode cX0_productByCoefficients 76 = .ok (.iastore, 1) := by decide +kernel
theorem dX0_productByCoefficients_77 : decode cX0_productByCoefficients 77 = .ok (.iload 5, 2) := by decide +kernel
theorem dX0_productByCoefficients_79 : decode cX0_productByCoefficients 79 = .ok (.aload_n 0, 1) := by decide +kernel
theorem dX0_productByCoefficients_80 : decode cX0_productByCoefficients 80 = .ok (.getfield 45, 3) := by decide +kernel
theorem dX0_productByCoefficients_83 : decode cX0_productByCoefficients 83 = .ok (.idiv, 1) := by decide +kernel
theorem dX0_productByCoefficients_84 : decode cX0_productByCoefficients 84 = .ok (.istore 5, 2) := by decide +kernel
theorem dX0_productByCoefficients_86 : decode cX0_productByCoefficients 86 = .ok (.iinc 6 1, 3) := by decide +kernel
theorem dX0_productByCoefficients_89 : decode cX0_productByCoefficients 89 = .ok (.goto (-48), 3) := by decide +kernel
theorem dX0_productByCoefficients_92 : decode cX0_productByCoefficients 92 = .ok (.iload_n 3, 1) := by decide +kernel
theorem dX0_productByCoefficients_93 : decode cX0_productByCoefficients 93 = .ok (.aload_n 0, 1) := by decide +kernel
theorem dX0_productByCoefficients_94 : decode cX0_productByCoefficients 94 = .ok (.getfield 45, 3) := by decide +kernel
theorem dX0_productByCoefficients_97 : decode cX0_productByCoefficients 97 = .ok (.idiv, 1) := by decide +kernel
theorem dX0_productByCoefficients_98 : decode cX0_productByCoefficients 98 = .ok (.istore_n 3, 1) := by decide +kernel
theorem dX0_productByCoefficients_99 : decode cX0_productByCoefficients 99 = .ok (.iinc 4 1, 3) := by decide +kernel
theorem dX0_productByCoefficients_102 : decode cX0_productByCoefficients 102 = .ok (.goto (-76), 3) := by decide +kernel
theorem dX0_productByCoefficients_105 : decode cX0_productByCoefficients 105 = .ok (.iconst 2, 1) := by decide +kernel
theorem dX0_productByCoefficients_106 : decode cX0_productByCoefficients 106 = .ok (.aload_n 0, 1) := by decide +kernel
theorem dX0_productByCoefficients_107 : decode cX0_productByCoefficients 107 = .ok (.getfield 54, 3) := by decide +kernel
theorem dX0_productByCoefficients_110 : decode cX0_productByCoefficients 110 = .ok (.imul, 1) := by decide +kernel
theorem dX0_productByCoefficients_111 : decode cX0_productByCoefficients 111 = .ok (.iconst 1, 1) := by decide +kernel
theorem dX0_productByCoefficients_112 : decode cX0_productByCoefficients 112 = .ok (.isub, 1) := by decide +kernel
theorem dX0_productByCoefficients_113 : decode cX0_productByCoefficients 113 = .ok (.istore 4, 2) := by decide +kernel
theorem dX0_productByCoefficients_115 : decode cX0_productByCoefficients 115 = .ok (.iload 4, 2) := by decide +kernel
theorem dX0_productByCoefficients_117 : decode cX0_productByCoefficients 117 = .ok (.aload_n 0, 1) := by decide +kernel
theorem dX0_productByCoefficients_118 : decode cX0_productByCoefficients 118 = .ok (.getfield 54, 3) := by decide +kernel
theorem dX0_productByCoefficients_121 : decode cX0_productByCoefficients 121 = .ok (.if_icmp .lt 55, 3) := by decide +kernel
theorem dX0_productByCoefficients_124 : decode cX0_productByCoefficients 124 = .ok (.aload_n 0, 1) := by decide +kernel
theorem dX0_productByCoefficients_125 : decode cX0_productByCoefficients 125 = .ok (.getfield 16, 3) := by decide +kernel
theorem dX0_productByCoefficients_128 : decode cX0_productByCoefficients 128 = .ok (.iload 4, 2) := by decide +kernel
theorem dX0_productByCoefficients_130 : decode cX0_productByCoefficients 130 = .ok (.aload_n 0, 1) := by decide +kernel
theorem dX0_productByCoefficients_131 : decode cX0_productByCoefficients 131 = .ok (.getfield 54, 3) := by decide +kernel
theorem dX0_productByCoefficients_134 : decode cX0_productByCoefficients 134 = .ok (.isub, 1) := by decide +kernel
theorem dX0_productByCoefficients_135 : decode cX0_productByCoefficients 135 = .ok (.dup2, 1) := by decide +kernel
theorem dX0_productByCoefficients_136 : decode cX0_productByCoefficients 136 = .ok (.iaload, 1) := by decide +kernel
theorem dX0_productByCoefficients_137 : decode cX0_productByCoefficients 137 = .ok (.aload_n 0, 1) := by decide +kernel
theorem dX0_productByCoefficients_138 : decode cX0_productByCoefficients 138 = .ok (.getfield 16, 3) := by decide +kernel
theorem dX0_productByCoefficients_141 : decode cX0_productByCoefficients 141 = .ok (.iload 4, 2) := by decide +kernel
theorem dX0_productByCoefficients_143 : decode cX0_productByCoefficients 143 = .ok (.iaload, 1) := by decide +kernel
theorem dX0_productByCoefficients_144 : decode cX0_productByCoefficients 144 = .ok (.iadd, 1) := by decide +kernel
theorem dX0_productByCoefficients_145 : decode cX0_productByCoefficients 145 = .ok (.iastore, 1) := by decide +kernel
theorem dX0_productByCoefficients_146 : decode cX0_productByCoefficients 146 = .ok (.aload_n 0, 1) := by decide +kernel
theorem dX0_productByCoefficients_147 : decode cX0_productByCoefficients 147 = .ok (.getfield 16, 3) := by decide +kernel
theorem dX0_productByCoefficients_150 : decode cX0_productByCoefficients 150 = .ok (.iload 4, 2) := by decide +kernel
theorem dX0_productByCoefficients_152 : decode cX0_productByCoefficients 152 = .ok (.aload_n 0, 1) := by decide +kernel
theorem dX0_productByCoefficients_153 : decode cX0_productByCoefficients 153 = .ok (.getfield 54, 3) := by decide +kernel
theorem dX0_productByCoefficients_156 : decode cX0_productByCoefficients 156 = .ok (.isub, 1) := by decide +kernel
theorem dX0_productByCoefficients_157 : decode cX0_productByCoefficients 157 = .ok (.iconst 1, 1) := by decide +kernel
theorem dX0_productByCoefficients_158 : decode cX0_productByCoefficients 158 = .ok (.iadd, 1) := by decide +kernel
theorem dX0_productByCoefficients_159 : decode cX0_productByCoefficients 159 = .ok (.dup2, 1) := by decide +kernel
theorem dX0_productByCoefficients_160 : decode cX0_productByCoefficients 160 = .ok (.iaload, 1) := by decide +kernel
theorem dX0_productByCoefficients_161 : decode cX0_productByCoefficients 161 = .ok (.aload_n 0, 1) := by decide +kernel
theorem dX0_productByCoefficients_162 : decode cX0_productByCoefficients 162 = .ok (.getfield 16, 3) := by decide +kernel
theorem dX0_productByCoefficients_165 : decode cX0_productByCoefficients 165 = .ok (.iload 4, 2) := by decide +kernel
theorem dX0_productByCoefficients_167 : decode cX0_productByCoefficients 167 = .ok (.iaload, 1) := by decide +kernel
theorem dX0_productByCoefficients_168 : decode cX0_productByCoefficients 168 = .ok (.iadd, 1) := by decide +kernel
theorem dX0_productByCoefficients_169 : decode cX0_productByCoefficients 169 = .ok (.iastore, 1) := by decide +kernel
theorem dX0_productByCoefficients_170 : decode cX0_productByCoefficients 170 = .ok (.iinc 4 (-1), 3) := by decide +kernel
theorem dX0_productByCoefficients_173 : decode cX0_productByCoefficients 173 = .ok (.goto (-58), 3) := by decide +kernel
theorem dX0_productByCoefficients_176 : decode cX0_productByCoefficients 176 = .ok (.iconst 0, 1) := by decide +kernel
theorem dX0_productByCoefficients_177 : decode cX0_productByCoefficients 177 = .ok (.istore 4, 2) := by decide +kernel
theorem dX0_productByCoefficients_179 : decode cX0_productByCoefficients 179 = .ok (.aload_n 0, 1) := by decide +kernel
theorem dX0_productByCoefficients_180 : decode cX0_productByCoefficients 180 = .ok (.getfield 54, 3) := by decide +kernel
theorem dX0_productByCoefficients_183 : decode cX0_productByCoefficients 183 = .ok (.iconst 1, 1) := by decide +kernel
theorem dX0_productByCoefficients_184 : decode cX0_productByCoefficients 184 = .ok (.isub, 1) := by decide +kernel
theorem dX0_productByCoefficients_185 : decode cX0_productByCoefficients 185 = .ok (.istore 5, 2) := by decide +kernel
theorem dX0_productByCoefficients_187 : decode cX0_productByCoefficients 187 = .ok (.iload 5, 2) := by decide +kernel
theorem dX0_productByCoefficients_189 : decode cX0_productByCoefficients 189 = .ok (.ifCond .lt 31, 3) := by decide +kernel
theorem dX0_productByCoefficients_192 : decode cX0_productByCoefficients 192 = .ok (.iload 4, 2) := by decide +kernel
theorem dX0_productByCoefficients_194 : decode cX0_productByCoefficients 194 = .ok (.aload_n 0, 1) := by decide +kernel
theorem dX0_productByCoefficients_195 : decode cX0_productByCoefficients 195 = .ok (.getfield 45, 3) := by decide +kernel
theorem dX0_productByCoefficients_198 : decode cX0_productByCoefficients 198 = .ok (.imul, 1) := by decide +kernel
theorem dX0_productByCoefficients_199 : decode cX0_productByCoefficients 199 = .ok (.aload_n 0, 1) := by decide +kernel
theorem dX0_productByCoefficients_200 : decode cX0_productByCoefficients 200 = .ok (.getfield 16, 3) := by decide +kernel
theorem dX0_productByCoefficients_203 : decode cX0_productByCoefficients 203 = .ok (.iload 5, 2) := by decide +kernel
theorem dX0_productByCoefficients_205 : decode cX0_productByCoefficients 205 = .ok (.iaload, 1) := by decide +kernel
theorem dX0_productByCoefficients_206 : decode cX0_productByCoefficients 206 = .ok (.aload_n 0, 1) := by decide +kernel
theorem dX0_productByCoefficients_207 : decode cX0_productByCoefficients 207 = .ok (.getfield 45, 3) := by decide +kernel
theorem dX0_productByCoefficients_210 : decode cX0_productByCoefficients 210 = .ok (.irem, 1) := by decide +kernel
theorem dX0_productByCoefficients_211 : decode cX0_productByCoefficients 211 = .ok (.iadd, 1) := by decide +kernel
theorem dX0_productByCoefficients_212 : decode cX0_productByCoefficients 212 = .ok (.istore 4, 2) := by decide +kernel
theorem dX0_productByCoefficients_214 : decode cX0_productByCoefficients 214 = .ok (.iinc 5 (-1), 3) := by decide +kernel
theorem dX0_productByCoefficients_217 : decode cX0_productByCoefficients 217 = .ok (.goto (-30), 3) := by decide +kernel
theorem dX0_productByCoefficients_220 : decode cX0_productByCoefficients 220 = .ok (.iload 4, 2) := by decide +kernel
theorem dX0_productByCoefficients_222 : decode cX0_productByCoefficients 222 = .ok (.ireturn, 1) := by decide +kernel
theorem dX0_use_0 : decode cX0_use 0 = .ok (.iload_n 1, 1) := by decide +kernel
theorem dX0_use_1 : decode cX0_use 1 = .ok (.bipush 64, 2) := by decide +kernel
theorem dX0_use_3 : decode cX0_use 3 = .ok (.if_icmp .eq 11, 3) := by decide +kernel
theorem dX0_use_6 : decode cX0_use 6 = .ok (.iload_n 1, 1) := by decide +kernel
theorem dX0_use_7 : decode cX0_use 7 = .ok (.bipush 81, 2) := by decide +kernel
theorem dX0_use_9 : decode cX0_use 9 = .ok (.if_icmp .eq 5, 3) := by decide +kernel
theorem dX0_use_12 : decode cX0_use 12 = .ok (.iconst (-1), 1) := by decide +kernel
theorem dX0_use_13 : decode cX0_use 13 = .ok (.ireturn, 1) := by decide +kernel
theorem dX0_use_14 : decode cX0_use 14 = .ok (.aload_n 0, 1) := by decide +kernel
theorem dX0_use_15 : decode cX0_use 15 = .ok (.iload_n 1, 1) := by decide +kernel
theorem dX0_use_16 : decode cX0_use 16 = .ok (.iload_n 1, 1) := by decide +kernel
theorem dX0_use_17 : decode cX0_use 17 = .ok (.bipush 64, 2) := by decide +kernel
theorem dX0_use_19 : decode cX0_use 19 = .ok (.if_icmp .ne 7, 3) := by decide +kernel
theorem dX0_use_22 : decode cX0_use 22 = .ok (.iconst 2, 1) := by decide +kernel
theorem dX0_use_23 : decode cX0_use 23 = .ok (.goto 4, 3) := by decide +kernel
theorem dX0_use_26 : decode cX0_use 26 = .ok (.iconst 3, 1) := by decide +kernel
theorem dX0_use_27 : decode cX0_use 27 = .ok (.iload_n 1, 1) := by decide +kernel
theorem dX0_use_28 : decode cX0_use 28 = .ok (.bipush 64, 2) := by decide +kernel
theorem dX0_use_30 : decode cX0_use 30 = .ok (.if_icmp .ne 8, 3) := by decide +kernel
theorem dX0_use_33 : decode cX0_use 33 = .ok (.bipush 6, 2) := by decide +kernel
theorem dX0_use_35 : decode cX0_use 35 = .ok (.goto 4, 3) := by decide +kernel
theorem dX0_use_38 : decode cX0_use 38 = .ok (.iconst 4, 1) := by decide +kernel
theorem dX0_use_39 : decode cX0_use 39 = .ok (.invokevirtual 19, 3) := by decide +kernel
theorem dX0_use_42 : decode cX0_use 42 = .ok (.iconst 0, 1) := by decide +kernel
theorem dX0_use_43 : decode cX0_use 43 = .ok (.ireturn, 1) := by decide +kernel
theorem dX0_add_0 : decode cX0_add 0 = .ok (.aload_n 0, 1) := by decide +kernel
theorem dX0_add_1 : decode cX0_add 1 = .ok (.iload_n 1, 1) := by decide +kernel
theorem dX0_add_2 : decode cX0_add 2 = .ok (.invokevirtual 23, 3) := by decide +kernel
theorem dX0_add_5 : decode cX0_add 5 = .ok (.ifCond .eq 20, 3) := by decide +kernel
theorem dX0_add_8 : decode cX0_add 8 = .ok (.aload_n 0, 1) := by decide +kernel
theorem dX0_add_9 : decode cX0_add 9 = .ok (.iload_n 2, 1) := by decide +kernel
theorem dX0_add_10 : decode cX0_add 10 = .ok (.invokevirtual 23, 3) := by decide +kernel
theorem dX0_add_13 : decode cX0_add 13 = .ok (.ifCond .eq 12, 3) := by decide +kernel
theorem dX0_add_16 : decode cX0_add 16 = .ok (.aload_n 0, 1) := by decide +kernel
theorem dX0_add_17 : decode cX0_add 17 = .ok (.iload_n 1, 1) := by decide +kernel
theorem dX0_add_18 : decode cX0_add 18 = .ok (.iload_n 2, 1) := by decide +kernel
theorem dX0_add_19 : decode cX0_add 19 = .ok (.invokevirtual 27, 3) := by decide +kernel
theorem dX0_add_22 : decode cX0_add 22 = .ok (.goto 4, 3) := by decide +kernel
theorem dX0_add_25 : decode cX0_add 25 = .ok (.iconst (-1), 1) := by decide +kernel
theorem dX0_add_26 : decode cX0_add 26 = .ok (.ireturn, 1) := by decide +kernel
theorem dX0_isElement_0 : decode cX0_isElement 0 = .ok (.iload_n 1, 1) := by decide +kernel
theorem dX0_isElement_1 : decode cX0_isElement 1 = .ok (.ifCond .lt 15, 3) := by decide +kernel
theorem dX0_isElement_4 : decode cX0_isElement 4 = .ok (.iload_n 1, 1) := by decide +kernel
end
section
set_option maxRecDepth 100000
theorem dX0_isElement_5 : decode cX0_isElement 5 = .ok (.aload_n 0, 1) := by decide +kernel
theorem dX0_isElement_6 : decode cX0_isElement 6 = .ok (.getfield 34, 3) := by decide +kernel
theorem dX0_isElement_9 : decode cX0_isElement 9 = .ok (.if_icmp .ge 7, 3) := by decide +kernel
theorem dX0_isElement_12 : decode cX0_isElement 12 = .ok (.iconst 1, 1) := by decide +kernel
theorem dX0_isElement_13 : decode cX0_isElement 13 = .ok (.goto 4, 3) := by decide +kernel
theorem dX0_isElement_16 : decode cX0_isElement 16 = .ok (.iconst 0, 1) := by decide +kernel
theorem dX0_isElement_17 : decode cX0_isElement 17 = .ok (.ireturn, 1) := by decide +kernel
theorem dX0_sumOf_0 : decode cX0_sumOf 0 = .ok (.iconst 0, 1) := by decide +kernel
theorem dX0_sumOf_1 : decode cX0_sumOf 1 = .ok (.istore_n 3, 1) := by decide +kernel
theorem dX0_sumOf_2 : decode cX0_sumOf 2 = .ok (.iconst 1, 1) := by decide +kernel
theorem dX0_sumOf_3 : decode cX0_sumOf 3 = .ok (.istore 4, 2) := by decide +kernel
theorem dX0_sumOf_5 : decode cX0_sumOf 5 = .ok (.iload_n 1, 1) := by decide +kernel
theorem dX0_sumOf_6 : decode cX0_sumOf 6 = .ok (.istore 5, 2) := by decide +kernel
theorem dX0_sumOf_8 : decode cX0_sumOf 8 = .ok (.iload_n 2, 1) := by decide +kernel
theorem dX0_sumOf_9 : decode cX0_sumOf 9 = .ok (.istore 6, 2) := by decide +kernel
theorem dX0_sumOf_11 : decode cX0_sumOf 11 = .ok (.iconst 0, 1) := by decide +kernel
theorem dX0_sumOf_12 : decode cX0_sumOf 12 = .ok (.istore 7, 2) := by decide +kernel
theorem dX0_sumOf_14 : decode cX0_sumOf 14 = .ok (.iload 7, 2) := by decide +kernel
theorem dX0_sumOf_16 : decode cX0_sumOf 16 = .ok (.aload_n 0, 1) := by decide +kernel
theorem dX0_sumOf_17 : decode cX0_sumOf 17 = .ok (.getfield 54, 3) := by decide +kernel
theorem dX0_sumOf_20 : decode cX0_sumOf 20 = .ok (.if_icmp .ge 62, 3) := by decide +kernel
theorem dX0_sumOf_23 : decode cX0_sumOf 23 = .ok (.iload_n 3, 1) := by decide +kernel
theorem dX0_sumOf_24 : decode cX0_sumOf 24 = .ok (.iload 5, 2) := by decide +kernel
theorem dX0_sumOf_26 : decode cX0_sumOf 26 = .ok (.aload_n 0, 1) := by decide +kernel
theorem dX0_sumOf_27 : decode cX0_sumOf 27 = .ok (.getfield 45, 3) := by decide +kernel
theorem dX0_sumOf_30 : decode cX0_sumOf 30 = .ok (.irem, 1) := by decide +kernel
theorem dX0_sumOf_31 : decode cX0_sumOf 31 = .ok (.iload 6, 2) := by decide +kernel
theorem dX0_sumOf_33 : decode cX0_sumOf 33 = .ok (.aload_n 0, 1) := by decide +kernel
theorem dX0_sumOf_34 : decode cX0_sumOf 34 = .ok (.getfield 45, 3) := by decide +kernel
theorem dX0_sumOf_37 : decode cX0_sumOf 37 = .ok (.irem, 1) := by decide +kernel
theorem dX0_sumOf_38 : decode cX0_sumOf 38 = .ok (.iadd, 1) := by decide +kernel
theorem dX0_sumOf_39 : decode cX0_sumOf 39 = .ok (.aload_n 0, 1) := by decide +kernel
theorem dX0_sumOf_40 : decode cX0_sumOf 40 = .ok (.getfield 45, 3) := by decide +kernel
theorem dX0_sumOf_43 : decode cX0_sumOf 43 = .ok (.irem, 1) := by decide +kernel
theorem dX0_sumOf_44 : decode cX0_sumOf 44 = .ok (.iload 4, 2) := by decide +kernel
theorem dX0_sumOf_46 : decode cX0_sumOf 46 = .ok (.imul, 1) := by decide +kernel
theorem dX0_sumOf_47 : decode cX0_sumOf 47 = .ok (.iadd, 1) := by decide +kernel
theorem dX0_sumOf_48 : decode cX0_sumOf 48 = .ok (.istore_n 3, 1) := by decide +kernel
theorem dX0_sumOf_49 : decode cX0_sumOf 49 = .ok (.iload 4, 2) := by decide +kernel
theorem dX0_sumOf_51 : decode cX0_sumOf 51 = .ok (.aload_n 0, 1) := by decide +kernel
theorem dX0_sumOf_52 : decode cX0_sumOf 52 = .ok (.getfield 45, 3) := by decide +kernel
theorem dX0_sumOf_55 : decode cX0_sumOf 55 = .ok (.imul, 1) := by decide +kernel
theorem dX0_sumOf_56 : decode cX0_sumOf 56 = .ok (.istore 4, 2) := by decide +kernel
theorem dX0_sumOf_58 : decode cX0_sumOf 58 = .ok (.iload 5, 2) := by decide +kernel
theorem dX0_sumOf_60 : decode cX0_sumOf 60 = .ok (.aload_n 0, 1) := by decide +kernel
theorem dX0_sumOf_61 : decode cX0_sumOf 61 = .ok (.getfield 45, 3) := by decide +kernel
theorem dX0_sumOf_64 : decode cX0_sumOf 64 = .ok (.idiv, 1) := by decide +kernel
theorem dX0_sumOf_65 : decode cX0_sumOf 65 = .ok (.istore 5, 2) := by decide +kernel
theorem dX0_sumOf_67 : decode cX0_sumOf 67 = .ok (.iload 6, 2) := by decide +kernel
theorem dX0_sumOf_69 : decode cX0_sumOf 69 = .ok (.aload_n 0, 1) := by decide +kernel
theorem dX0_sumOf_70 : decode cX0_sumOf 70 = .ok (.getfield 45, 3) := by decide +kernel
theorem dX0_sumOf_73 : decode cX0_sumOf 73 = .ok (.idiv, 1) := by decide +kernel
theorem dX0_sumOf_74 : decode cX0_sumOf 74 = .ok (.istore 6, 2) := by decide +kernel
theorem dX0_sumOf_76 : decode cX0_sumOf 76 = .ok (.iinc 7 1, 3) := by decide +kernel
theorem dX0_sumOf_79 : decode cX0_sumOf 79 = .ok (.goto (-65), 3) := by decide +kernel
theorem dX0_sumOf_82 : decode cX0_sumOf 82 = .ok (.iload_n 3, 1) := by decide +kernel
theorem dX0_sumOf_83 : decode cX0_sumOf 83 = .ok (.ireturn, 1) := by decide +kernel
theorem dX0_multiply_0 : decode cX0_multiply 0 = .ok (.aload_n 0, 1) := by decide +kernel
theorem dX0_multiply_1 : decode cX0_multiply 1 = .ok (.iload_n 1, 1) := by decide +kernel
theorem dX0_multiply_2 : decode cX0_multiply 2 = .ok (.invokevirtual 23, 3) := by decide +kernel
theorem dX0_multiply_5 : decode cX0_multiply 5 = .ok (.ifCond .eq 20, 3) := by decide +kernel
theorem dX0_multiply_8 : decode cX0_multiply 8 = .ok (.aload_n 0, 1) := by decide +kernel
theorem dX0_multiply_9 : decode cX0_multiply 9 = .ok (.iload_n 2, 1) := by decide +kernel
theorem dX0_multiply_10 : decode cX0_multiply 10 = .ok (.invokevirtual 23, 3) := by decide +kernel
theorem dX0_multiply_13 : decode cX0_multiply 13 = .ok (.ifCond .eq 12, 3) := by decide +kernel
theorem dX0_multiply_16 : decode cX0_multiply 16 = .ok (.aload_n 0, 1) := by decide +kernel
theorem dX0_multiply_17 : decode cX0_multiply 17 = .ok (.iload_n 1, 1) := by decide +kernel
theorem dX0_multiply_18 : decode cX0_multiply 18 = .ok (.iload_n 2, 1) := by decide +kernel
theorem dX0_multiply_19 : decode cX0_multiply 19 = .ok (.invokevirtual 31, 3) := by decide +kernel
theorem dX0_multiply_22 : decode cX0_multiply 22 = .ok (.goto 4, 3) := by decide +kernel
theorem dX0_multiply_25 : decode cX0_multiply 25 = .ok (.iconst (-1), 1) := by decide +kernel
theorem dX0_multiply_26 : decode cX0_multiply 26 = .ok (.ireturn, 1) := by decide +kernel
theorem dX0_productOf_0 : decode cX0_productOf 0 = .ok (.iload_n 1, 1) := by decide +kernel
theorem dX0_productOf_1 : decode cX0_productOf 1 = .ok (.ifCond .eq 7, 3) := by decide +kernel
theorem dX0_productOf_4 : decode cX0_productOf 4 = .ok (.iload_n 2, 1) := by decide +kernel
theorem dX0_productOf_5 : decode cX0_productOf 5 = .ok (.ifCond .ne 7, 3) := by decide +kernel
theorem dX0_productOf_8 : decode cX0_productOf 8 = .ok (.iconst 0, 1) := by decide +kernel
theorem dX0_productOf_9 : decode cX0_productOf 9 = .ok (.goto 21, 3) := by decide +kernel
theorem dX0_productOf_12 : decode cX0_productOf 12 = .ok (.aload_n 0, 1) := by decide +kernel
theorem dX0_productOf_13 : decode cX0_productOf 13 = .ok (.getfield 7, 3) := by decide +kernel
theorem dX0_productOf_16 : decode cX0_productOf 16 = .ok (.aload_n 0, 1) := by decide +kernel
theorem dX0_productOf_17 : decode cX0_productOf 17 = .ok (.getfield 13, 3) := by decide +kernel
theorem dX0_productOf_20 : decode cX0_productOf 20 = .ok (.iload_n 1, 1) := by decide +kernel
theorem dX0_productOf_21 : decode cX0_productOf 21 = .ok (.iaload, 1) := by decide +kernel
theorem dX0_productOf_22 : decode cX0_productOf 22 = .ok (.aload_n 0, 1) := by decide +kernel
theorem dX0_productOf_23 : decode cX0_productOf 23 = .ok (.getfield 13, 3) := by decide +kernel
theorem dX0_productOf_26 : decode cX0_productOf 26 = .ok (.iload_n 2, 1) := by decide +kernel
theorem dX0_productOf_27 : decode cX0_productOf 27 = .ok (.iaload, 1) := by decide +kernel
theorem dX0_productOf_28 : decode cX0_productOf 28 = .ok (.iadd, 1) := by decide +kernel
theorem dX0_productOf_29 : decode cX0_productOf 29 = .ok (.iaload, 1) := by decide +kernel
theorem dX0_productOf_30 : decode cX0_productOf 30 = .ok (.ireturn, 1) := by decide +kernel
theorem dX0_invert_0 : decode cX0_invert 0 = .ok (.aload_n 0, 1) := by decide +kernel
theorem dX0_invert_1 : decode cX0_invert 1 = .ok (.iload_n 1, 1) := by decide +kernel
theorem dX0_invert_2 : decode cX0_invert 2 = .ok (.invokevirtual 23, 3) := by decide +kernel
theorem dX0_invert_5 : decode cX0_invert 5 = .ok (.ifCond .eq 28, 3) := by decide +kernel
theorem dX0_invert_8 : decode cX0_invert 8 = .ok (.iload_n 1, 1) := by decide +kernel
theorem dX0_invert_9 : decode cX0_invert 9 = .ok (.ifCond .eq 24, 3) := by decide +kernel
theorem dX0_invert_12 : decode cX0_invert 12 = .ok (.aload_n 0, 1) := by decide +kernel
theorem dX0_invert_13 : decode cX0_invert 13 = .ok (.getfield 7, 3) := by decide +kernel
theorem dX0_invert_16 : decode cX0_invert 16 = .ok (.aload_n 0, 1) := by decide +kernel
theorem dX0_invert_17 : decode cX0_invert 17 = .ok (.getfield 34, 3) := by decide +kernel
theorem dX0_invert_20 : decode cX0_invert 20 = .ok (.iconst 1, 1) := by decide +kernel
theorem dX0_invert_21 : decode cX0_invert 21 = .ok (.isub, 1) := by decide +kernel
theorem dX0_invert_22 : decode cX0_invert 22 = .ok (.aload_n 0, 1) := by decide +kernel
theorem dX0_invert_23 : decode cX0_invert 23 = .ok (.getfield 13, 3) := by decide +kernel
theorem dX0_invert_26 : decode cX0_invert 26 = .ok (.iload_n 1, 1) := by decide +kernel
theorem dX0_invert_27 : decode cX0_invert 27 = .ok (.iaload, 1) := by decide +kernel
theorem dX0_invert_28 : decode cX0_invert 28 = .ok (.isub, 1) := by decide +kernel
theorem dX0_invert_29 : decode cX0_invert 29 = .ok (.iaload, 1) := by decide +kernel
theorem dX0_invert_30 : decode cX0_invert 30 = .ok (.goto 4, 3) := by decide +kernel
theorem dX0_invert_33 : decode cX0_invert 33 = .ok (.iconst (-1), 1) := by decide +kernel
theorem dX0_invert_34 : decode cX0_invert 34 = .ok (.ireturn, 1) := by decide +kernel
theorem dX0_power_0 : decode cX0_power 0 = .ok (.aload_n 0, 1) := by decide +kernel
theorem dX0_power_1 : decode cX0_power 1 = .ok (.iload_n 1, 1) := by decide +kernel
theorem dX0_power_2 : decode cX0_power 2 = .ok (.invokevirtual 23, 3) := by decide +kernel
theorem dX0_power_5 : decode cX0_power 5 = .ok (.ifCond .eq 22, 3) := by decide +kernel
theorem dX0_power_8 : decode cX0_power 8 = .ok (.iload_n 2, 1) := by decide +kernel
theorem dX0_power_9 : decode cX0_power 9 = .ok (.ifCond .lt 18, 3) := by decide +kernel
theorem dX0_power_12 : decode cX0_power 12 = .ok (.iload_n 2, 1) := by decide +kernel
theorem dX0_power_13 : decode cX0_power 13 = .ok (.ldc 38, 2) := by decide +kernel
theorem dX0_power_15 : decode cX0_power 15 = .ok (.if_icmp .gt 12, 3) := by decide +kernel
theorem dX0_power_18 : decode cX0_power 18 = .ok (.aload_n 0, 1) := by decide +kernel
theorem dX0_power_19 : decode cX0_power 19 = .ok (.iload_n 1, 1) := by decide +kernel
theorem dX0_power_20 : decode cX0_power 20 = .ok (.iload_n 2, 1) := by decide +kernel
theorem dX0_power_21 : decode cX0_power 21 = .ok (.invokevirtual 39, 3) := by decide +kernel
theorem dX0_power_24 : decode cX0_power 24 = .ok (.goto 4, 3) := by decide +kernel
theorem dX0_power_27 : decode cX0_power 27 = .ok (.iconst (-1), 1) := by decide +kernel
theorem dX0_power_28 : decode cX0_power 28 = .ok (.ireturn, 1) := by decide +kernel
theorem dX0_powerOf_0 : decode cX0_powerOf 0 = .ok (.iload_n 2, 1) := by decide +kernel
theorem dX0_powerOf_1 : decode cX0_powerOf 1 = .ok (.ifCond .ne 5, 3) := by decide +kernel
theorem dX0_powerOf_4 : decode cX0_powerOf 4 = .ok (.iconst 1, 1) := by decide +kernel
theorem dX0_powerOf_5 : decode cX0_powerOf 5 = .ok (.ireturn, 1) := by decide +kernel
theorem dX0_powerOf_6 : decode cX0_powerOf 6 = .ok (.iload_n 1, 1) := by decide +kernel
theorem dX0_powerOf_7 : decode cX0_powerOf 7 = .ok (.ifCond .ne 7, 3) := by decide +kernel
theorem dX0_powerOf_10 : decode cX0_powerOf 10 = .ok (.iconst 0, 1) := by decide +kernel
theorem dX0_powerOf_11 : decode cX0_powerOf 11 = .ok (.goto 27, 3) := by decide +kernel
theorem dX0_powerOf_14 : decode cX0_powerOf 14 = .ok (.aload_n 0, 1) := by decide +kernel
theorem dX0_powerOf_15 : decode cX0_powerOf 15 = .ok (.getfield 7, 3) := by decide +kernel
theorem dX0_powerOf_18 : decode cX0_powerOf 18 = .ok (.aload_n 0, 1) := by decide +kernel
theorem dX0_powerOf_19 : decode cX0_powerOf 19 = .ok (.getfield 13, 3) := by decide +kernel
theorem dX0_powerOf_22 : decode cX0_powerOf 22 = .ok (.iload_n 1, 1) := by decide +kernel
theorem dX0_powerOf_23 : decode cX0_powerOf 23 = .ok (.iaload, 1) := by decide +kernel
theorem dX0_powerOf_24 : decode cX0_powerOf 24 = .ok (.i2l, 1) := by decide +kernel
theorem dX0_powerOf_25 : decode cX0_powerOf 25 = .ok (.iload_n 2, 1) := by decide +kernel
theorem dX0_powerOf_26 : decode cX0_powerOf 26 = .ok (.i2l, 1) := by decide +kernel
theorem dX0_powerOf_27 : decode cX0_powerOf 27 = .ok (.lmul, 1) := by decide +kernel
theorem dX0_powerOf_28 : decode cX0_powerOf 28 = .ok (.aload_n 0, 1) := by decide +kernel
theorem dX0_powerOf_29 : decode cX0_powerOf 29 = .ok (.getfield 34, 3) := by decide +kernel
theorem dX0_powerOf_32 : decode cX0_powerOf 32 = .ok (.iconst 1, 1) := by decide +kernel
theorem dX0_powerOf_33 : decode cX0_powerOf 33 = .ok (.isub, 1) := by decide +kernel
theorem dX0_powerOf_34 : decode cX0_powerOf 34 = .ok (.i2l, 1) := by decide +kernel
theorem dX0_powerOf_35 : decode cX0_powerOf 35 = .ok (.lrem, 1) := by decide +kernel
theorem dX0_powerOf_36 : decode cX0_powerOf 36 = .ok (.l2i, 1) := by decide +kernel
theorem dX0_powerOf_37 : decode cX0_powerOf 37 = .ok (.iaload, 1) := by decide +kernel
theorem dX0_powerOf_38 : decode cX0_powerOf 38 = .ok (.ireturn, 1) := by decide +kernel
theorem dX0_order_0 : decode cX0_order 0 = .ok (.aload_n 0, 1) := by decide +kernel
theorem dX0_order_1 : decode cX0_order 1 = .ok (.iload_n 1, 1) := by decide +kernel
theorem dX0_order_2 : decode cX0_order 2 = .ok (.invokevirtual 23, 3) := by decide +kernel
theorem dX0_order_5 : decode cX0_order 5 = .ok (.ifCond .eq 7, 3) := by decide +kernel
theorem dX0_order_8 : decode cX0_order 8 = .ok (.iload_n 1, 1) := by decide +kernel
theorem dX0_order_9 : decode cX0_order 9 = .ok (.ifCond .ne 5, 3) := by decide +kernel
theorem dX0_order_12 : decode cX0_order 12 = .ok (.iconst (-1), 1) := by decide +kernel
theorem dX0_order_13 : decode cX0_order 13 = .ok (.ireturn, 1) := by decide +kernel
theorem dX0_order_14 : decode cX0_order 14 = .ok (.aload_n 0, 1) := by decide +kernel
theorem dX0_order_15 : decode cX0_order 15 = .ok (.getfield 34, 3) := by decide +kernel
theorem dX0_order_18 : decode cX0_order 18 = .ok (.iconst 1, 1) := by decide +kernel
theorem dX0_order_19 : decode cX0_order 19 = .ok (.isub, 1) := by decide +kernel
theorem dX0_order_20 : decode cX0_order 20 = .ok (.aload_n 0, 1) := by decide +kernel
theorem dX0_order_21 : decode cX0_order 21 = .ok (.getfield 13, 3) := by decide +kernel
theorem dX0_order_24 : decode cX0_order 24 = .ok (.iload_n 1, 1) := by decide +kernel
theorem dX0_order_25 : decode cX0_order 25 = .ok (.iaload, 1) := by decide +kernel
theorem dX0_order_26 : decode cX0_order 26 = .ok (.aload_n 0, 1) := by decide +kernel
theorem dX0_order_27 : decode cX0_order 27 = .ok (.getfield 34, 3) := by decide +kernel
theorem dX0_order_30 : decode cX0_order 30 = .ok (.iconst 1, 1) := by decide +kernel
theorem dX0_order_31 : decode cX0_order 31 = .ok (.isub, 1) := by decide +kernel
theorem dX0_order_32 : decode cX0_order 32 = .ok (.invokestatic 42, 3) := by decide +kernel
theorem dX0_order_35 : decode cX0_order 35 = .ok (.idiv, 1) := by decide +kernel
theorem dX0_order_36 : decode cX0_order 36 = .ok (.ireturn, 1) := by decide +kernel
theorem dX0_divisor_0 : decode cX0_divisor 0 = .ok (.iload_n 0, 1) := by decide +kernel
theorem dX0_divisor_1 : decode cX0_divisor 1 = .ok (.istore_n 2, 1) := by decide +kernel
theorem dX0_divisor_2 : decode cX0_divisor 2 = .ok (.iload_n 1, 1) := by decide +kernel
theorem dX0_divisor_3 : decode cX0_divisor 3 = .ok (.istore_n 3, 1) := by decide +kernel
theorem dX0_divisor_4 : decode cX0_divisor 4 = .ok (.iconst 0, 1) := by decide +kernel
theorem dX0_divisor_5 : decode cX0_divisor 5 = .ok (.istore 4, 2) := by decide +kernel
theorem dX0_divisor_7 : decode cX0_divisor 7 = .ok (.iload 4, 2) := by decide +kernel
theorem dX0_divisor_9 : decode cX0_divisor 9 = .ok (.bipush 40, 2) := by decide +kernel
theorem dX0_divisor_11 : decode cX0_divisor 11 = .ok (.if_icmp .ge 23, 3) := by decide +kernel
theorem dX0_divisor_14 : decode cX0_divisor 14 = .ok (.iload_n 2, 1) := by decide +kernel
theorem dX0_divisor_15 : decode cX0_divisor 15 = .ok (.ifCond .le 19, 3) := by decide +kernel
theorem dX0_divisor_18 : decode cX0_divisor 18 = .ok (.iload_n 3, 1) := by decide +kernel
theorem dX0_divisor_19 : decode cX0_divisor 19 = .ok (.iload_n 2, 1) := by decide +kernel
theorem dX0_divisor_20 : decode cX0_divisor 20 = .ok (.irem, 1) := by decide +kernel
theorem dX0_divisor_21 : decode cX0_divisor 21 = .ok (.istore 5, 2) := by decide +kernel
theorem dX0_divisor_23 : decode cX0_divisor 23 = .ok (.iload_n 2, 1) := by decide +kernel
theorem dX0_divisor_24 : decode cX0_divisor 24 = .ok (.istore_n 3, 1) := by decide +kernel
theorem dX0_divisor_25 : decode cX0_divisor 25 = .ok (.iload 5, 2) := by decide +kernel
theorem dX0_divisor_27 : decode cX0_divisor 27 = .ok (.istore_n 2, 1) := by decide +kernel
theorem dX0_divisor_28 : decode cX0_divisor 28 = .ok (.iinc 4 1, 3) := by decide +kernel
theorem dX0_divisor_31 : decode cX0_divisor 31 = .ok (.goto (-24), 3) := by decide +kernel
theorem dX0_divisor_34 : decode cX0_divisor 34 = .ok (.iload_n 3, 1) := by decide +kernel
theorem dX0_divisor_35 : decode cX0_divisor 35 = .ok (.ireturn, 1) := by decide +kernel
theorem dX0_root_0 : decode cX0_root 0 = .ok (.aload_n 0, 1) := by decide +kernel
theorem dX0_root_1 : decode cX0_root 1 = .ok (.iload_n 1, 1) := by decide +kernel
theorem dX0_root_2 : decode cX0_root 2 = .ok (.invokevirtual 23, 3) := by decide +kernel
theorem dX0_root_5 : decode cX0_root 5 = .ok (.ifCond .ne 5, 3) := by decide +kernel
theorem dX0_root_8 : decode cX0_root 8 = .ok (.iconst (-1), 1) := by decide +kernel
theorem dX0_root_9 : decode cX0_root 9 = .ok (.ireturn, 1) := by decide +kernel
theorem dX0_root_10 : decode cX0_root 10 = .ok (.iload_n 1, 1) := by decide +kernel
theorem dX0_root_11 : decode cX0_root 11 = .ok (.ifCond .ne 5, 3) := by decide +kernel
theorem dX0_root_14 : decode cX0_root 14 = .ok (.iconst 0, 1) := by decide +kernel
theorem dX0_root_15 : decode cX0_root 15 = .ok (.ireturn, 1) := by decide +kernel
theorem dX0_root_16 : decode cX0_root 16 = .ok (.aload_n 0, 1) := by decide +kernel
theorem dX0_root_17 : decode cX0_root 17 = .ok (.getfield 13, 3) := by decide +kernel
theorem dX0_root_20 : decode cX0_root 20 = .ok (.iload_n 1, 1) := by decide +kernel
theorem dX0_root_21 : decode cX0_root 21 = .ok (.iaload, 1) := by decide +kernel
theorem dX0_root_22 : decode cX0_root 22 = .ok (.istore_n 2, 1) := by decide +kernel
theorem dX0_root_23 : decode cX0_root 23 = .ok (.aload_n 0, 1) := by decide +kernel
theorem dX0_root_24 : decode cX0_root 24 = .ok (.getfield 45, 3) := by decide +kernel
theorem dX0_root_27 : decode cX0_root 27 = .ok (.iconst 2, 1) := by decide +kernel
theorem dX0_root_28 : decode cX0_root 28 = .ok (.if_icmp .ne 16, 3) := by decide +kernel
theorem dX0_root_31 : decode cX0_root 31 = .ok (.aload_n 0, 1) := by decide +kernel
theorem dX0_root_32 : decode cX0_root 32 = .ok (.getfield 7, 3) := by decide +kernel
theorem dX0_root_35 : decode cX0_root 35 = .ok (.iload_n 2, 1) := by decide +kernel
theorem dX0_root_36 : decode cX0_root 36 = .ok (.bipush 32, 2) := by decide +kernel
theorem dX0_root_38 : decode cX0_root 38 = .ok (.imul, 1) := by decide +kernel
theorem dX0_root_39 : decode cX0_root 39 = .ok (.bipush 63, 2) := by decide +kernel
theorem dX0_root_41 : decode cX0_root 41 = .ok (.irem, 1) := by decide +kernel
theorem dX0_root_42 : decode cX0_root 42 = .ok (.iaload, 1) := by decide +kernel
theorem dX0_root_43 : decode cX0_root 43 = .ok (.ireturn, 1) := by decide +kernel
theorem dX0_root_44 : decode cX0_root 44 = .ok (.iload_n 2, 1) := by decide +kernel
theorem dX0_root_45 : decode cX0_root 45 = .ok (.iconst 1, 1) := by decide +kernel
theorem dX0_root_46 : decode cX0_root 46 = .ok (.iand, 1) := by decide +kernel
theorem dX0_root_47 : decode cX0_root 47 = .ok (.ifCond .eq 5, 3) := by decide +kernel
theorem dX0_root_50 : decode cX0_root 50 = .ok (.iconst (-1), 1) := by decide +kernel
theorem dX0_root_51 : decode cX0_root 51 = .ok (.ireturn, 1) := by decide +kernel
theorem dX0_root_52 : decode cX0_root 52 = .ok (.aload_n 0, 1) := by decide +kernel
theorem dX0_root_53 : decode cX0_root 53 = .ok (.getfield 7, 3) := by decide +kernel
theorem dX0_root_56 : decode cX0_root 56 = .ok (.iload_n 2, 1) := by decide +kernel
theorem dX0_root_57 : decode cX0_root 57 = .ok (.iconst 2, 1) := by decide +kernel
theorem dX0_root_58 : decode cX0_root 58 = .ok (.idiv, 1) := by decide +kernel
theorem dX0_root_59 : decode cX0_root 59 = .ok (.iaload, 1) := by decide +kernel
theorem dX0_root_60 : decode cX0_root 60 = .ok (.istore_n 3, 1) := by decide +kernel
theorem dX0_root_61 : decode cX0_root 61 = .ok (.aload_n 0, 1) := by decide +kernel
theorem dX0_root_62 : decode cX0_root 62 = .ok (.getfield 7, 3) := by decide +kernel
theorem dX0_root_65 : decode cX0_root 65 = .ok (.iload_n 2, 1) := by decide +kernel
theorem dX0_root_66 : decode cX0_root 66 = .ok (.iconst 2, 1) := by decide +kernel
theorem dX0_root_67 : decode cX0_root 67 = .ok (.idiv, 1) := by decide +kernel
theorem dX0_root_68 : decode cX0_root 68 = .ok (.bipush 40, 2) := by decide +kernel
theorem dX0_root_70 : decode cX0_root 70 = .ok (.iadd, 1) := by decide +kernel
theorem dX0_root_71 : decode cX0_root 71 = .ok (.iaload, 1) := by decide +kernel
theorem dX0_root_72 : decode cX0_root 72 = .ok (.istore 4, 2) := by decide +kernel
theorem dX0_root_74 : decode cX0_root 74 = .ok (.iload_n 3, 1) := by decide +kernel
theorem dX0_root_75 : decode cX0_root 75 = .ok (.iload 4, 2) := by decide +kernel
theorem dX0_root_77 : decode cX0_root 77 = .ok (.if_icmp .ge 7, 3) := by decide +kernel
theorem dX0_root_80 : decode cX0_root 80 = .ok (.iload_n 3, 1) := by decide +kernel
theorem dX0_root_81 : decode cX0_root 81 = .ok (.goto 5, 3) := by decide +kernel
theorem dX0_root_84 : decode cX0_root 84 = .ok (.iload 4, 2) := by decide +kernel
theorem dX0_root_86 : decode cX0_root 86 = .ok (.ireturn, 1) := by decide +kernel
theorem dX0_roots_0 : decode cX0_roots 0 = .ok (.aload_n 0, 1) := by decide +kernel
theorem dX0_roots_1 : decode cX0_roots 1 = .ok (.iload_n 1, 1) := by decide +kernel
theorem dX0_roots_2 : decode cX0_roots 2 = .ok (.invokevirtual 23, 3) := by decide +kernel
theorem dX0_roots_5 : decode cX0_roots 5 = .ok (.ifCond .eq 14, 3) := by decide +kernel
theorem dX0_roots_8 : decode cX0_roots 8 = .ok (.iload_n 2, 1) := by decide +kernel
theorem dX0_roots_9 : decode cX0_roots 9 = .ok (.iconst 1, 1) := by decide +kernel
theorem dX0_roots_10 : decode cX0_roots 10 = .ok (.if_icmp .lt 9, 3) := by decide +kernel
theorem dX0_roots_13 : decode cX0_roots 13 = .ok (.iload_n 2, 1) := by decide +kernel
theorem dX0_roots_14 : decode cX0_roots 14 = .ok (.ldc 38, 2) := by decide +kernel
theorem dX0_roots_16 : decode cX0_roots 16 = .ok (.if_icmp .le 5, 3) := by decide +kernel
theorem dX0_roots_19 : decode cX0_roots 19 = .ok (.iconst (-1), 1) := by decide +kernel
theorem dX0_roots_20 : decode cX0_roots 20 = .ok (.ireturn, 1) := by decide +kernel
theorem dX0_roots_21 : decode cX0_roots 21 = .ok (.iload_n 1, 1) := by decide +kernel
theorem dX0_roots_22 : decode cX0_roots 22 = .ok (.ifCond .ne 5, 3) := by decide +kernel
theorem dX0_roots_25 : decode cX0_roots 25 = .ok (.iconst 1, 1) := by decide +kernel
theorem dX0_roots_26 : decode cX0_roots 26 = .ok (.ireturn, 1) := by decide +kernel
theorem dX0_roots_27 : decode cX0_roots 27 = .ok (.iload_n 2, 1) := by decide +kernel
theorem dX0_roots_28 : decode cX0_roots 28 = .ok (.aload_n 0, 1) := by decide +kernel
theorem dX0_roots_29 : decode cX0_roots 29 = .ok (.getfield 34, 3) := by decide +kernel
theorem dX0_roots_32 : decode cX0_roots 32 = .ok (.iconst 1, 1) := by decide +kernel
theorem dX0_roots_33 : decode cX0_roots 33 = .ok (.isub, 1) := by decide +kernel
theorem dX0_roots_34 : decode cX0_roots 34 = .ok (.invokestatic 42, 3) := by decide +kernel
end
section
set_option maxRecDepth 100000
theorem dX0_roots_37 : decode cX0_roots 37 = .ok (.istore_n 3, 1) := by decide +kernel
theorem dX0_roots_38 : decode cX0_roots 38 = .ok (.aload_n 0, 1) := by decide +kernel
theorem dX0_roots_39 : decode cX0_roots 39 = .ok (.getfield 13, 3) := by decide +kernel
theorem dX0_roots_42 : decode cX0_roots 42 = .ok (.iload_n 1, 1) := by decide +kernel
theorem dX0_roots_43 : decode cX0_roots 43 = .ok (.iaload, 1) := by decide +kernel
theorem dX0_roots_44 : decode cX0_roots 44 = .ok (.iload_n 3, 1) := by decide +kernel
theorem dX0_roots_45 : decode cX0_roots 45 = .ok (.irem, 1) := by decide +kernel
theorem dX0_roots_46 : decode cX0_roots 46 = .ok (.ifCond .ne 7, 3) := by decide +kernel
theorem dX0_roots_49 : decode cX0_roots 49 = .ok (.iload_n 3, 1) := by decide +kernel
theorem dX0_roots_50 : decode cX0_roots 50 = .ok (.goto 4, 3) := by decide +kernel
theorem dX0_roots_53 : decode cX0_roots 53 = .ok (.iconst 0, 1) := by decide +kernel
theorem dX0_roots_54 : decode cX0_roots 54 = .ok (.ireturn, 1) := by decide +kernel
theorem dX0_trace_0 : decode cX0_trace 0 = .ok (.aload_n 0, 1) := by decide +kernel
theorem dX0_trace_1 : decode cX0_trace 1 = .ok (.iload_n 1, 1) := by decide +kernel
theorem dX0_trace_2 : decode cX0_trace 2 = .ok (.invokevirtual 23, 3) := by decide +kernel
theorem dX0_trace_5 : decode cX0_trace 5 = .ok (.ifCond .eq 11, 3) := by decide +kernel
theorem dX0_trace_8 : decode cX0_trace 8 = .ok (.aload_n 0, 1) := by decide +kernel
theorem dX0_trace_9 : decode cX0_trace 9 = .ok (.iload_n 2, 1) := by decide +kernel
theorem dX0_trace_10 : decode cX0_trace 10 = .ok (.invokevirtual 48, 3) := by decide +kernel
theorem dX0_trace_13 : decode cX0_trace 13 = .ok (.ifCond .ne 5, 3) := by decide +kernel
theorem dX0_trace_16 : decode cX0_trace 16 = .ok (.iconst (-1), 1) := by decide +kernel
theorem dX0_trace_17 : decode cX0_trace 17 = .ok (.ireturn, 1) := by decide +kernel
theorem dX0_trace_18 : decode cX0_trace 18 = .ok (.iconst 0, 1) := by decide +kernel
theorem dX0_trace_19 : decode cX0_trace 19 = .ok (.istore_n 3, 1) := by decide +kernel
theorem dX0_trace_20 : decode cX0_trace 20 = .ok (.iload_n 1, 1) := by decide +kernel
theorem dX0_trace_21 : decode cX0_trace 21 = .ok (.istore 4, 2) := by decide +kernel
theorem dX0_trace_23 : decode cX0_trace 23 = .ok (.iload_n 2, 1) := by decide +kernel
theorem dX0_trace_24 : decode cX0_trace 24 = .ok (.istore 5, 2) := by decide +kernel
theorem dX0_trace_26 : decode cX0_trace 26 = .ok (.iload 5, 2) := by decide +kernel
theorem dX0_trace_28 : decode cX0_trace 28 = .ok (.aload_n 0, 1) := by decide +kernel
theorem dX0_trace_29 : decode cX0_trace 29 = .ok (.getfield 34, 3) := by decide +kernel
theorem dX0_trace_32 : decode cX0_trace 32 = .ok (.if_icmp .gt 29, 3) := by decide +kernel
theorem dX0_trace_35 : decode cX0_trace 35 = .ok (.aload_n 0, 1) := by decide +kernel
theorem dX0_trace_36 : decode cX0_trace 36 = .ok (.iload_n 3, 1) := by decide +kernel
theorem dX0_trace_37 : decode cX0_trace 37 = .ok (.iload 4, 2) := by decide +kernel
theorem dX0_trace_39 : decode cX0_trace 39 = .ok (.invokevirtual 27, 3) := by decide +kernel
theorem dX0_trace_42 : decode cX0_trace 42 = .ok (.istore_n 3, 1) := by decide +kernel
theorem dX0_trace_43 : decode cX0_trace 43 = .ok (.aload_n 0, 1) := by decide +kernel
theorem dX0_trace_44 : decode cX0_trace 44 = .ok (.iload 4, 2) := by decide +kernel
theorem dX0_trace_46 : decode cX0_trace 46 = .ok (.iload_n 2, 1) := by decide +kernel
theorem dX0_trace_47 : decode cX0_trace 47 = .ok (.invokevirtual 39, 3) := by decide +kernel
theorem dX0_trace_50 : decode cX0_trace 50 = .ok (.istore 4, 2) := by decide +kernel
theorem dX0_trace_52 : decode cX0_trace 52 = .ok (.iload 5, 2) := by decide +kernel
theorem dX0_trace_54 : decode cX0_trace 54 = .ok (.iload_n 2, 1) := by decide +kernel
theorem dX0_trace_55 : decode cX0_trace 55 = .ok (.imul, 1) := by decide +kernel
theorem dX0_trace_56 : decode cX0_trace 56 = .ok (.istore 5, 2) := by decide +kernel
theorem dX0_trace_58 : decode cX0_trace 58 = .ok (.goto (-32), 3) := by decide +kernel
theorem dX0_trace_61 : decode cX0_trace 61 = .ok (.iload_n 3, 1) := by decide +kernel
theorem dX0_trace_62 : decode cX0_trace 62 = .ok (.ireturn, 1) := by decide +kernel
theorem dX0_isField_0 : decode cX0_isField 0 = .ok (.aload_n 0, 1) := by decide +kernel
theorem dX0_isField_1 : decode cX0_isField 1 = .ok (.getfield 45, 3) := by decide +kernel
theorem dX0_isField_4 : decode cX0_isField 4 = .ok (.iconst 2, 1) := by decide +kernel
theorem dX0_isField_5 : decode cX0_isField 5 = .ok (.if_icmp .ne 33, 3) := by decide +kernel
theorem dX0_isField_8 : decode cX0_isField 8 = .ok (.iload_n 1, 1) := by decide +kernel
theorem dX0_isField_9 : decode cX0_isField 9 = .ok (.iconst 2, 1) := by decide +kernel
theorem dX0_isField_10 : decode cX0_isField 10 = .ok (.if_icmp .eq 20, 3) := by decide +kernel
theorem dX0_isField_13 : decode cX0_isField 13 = .ok (.iload_n 1, 1) := by decide +kernel
theorem dX0_isField_14 : decode cX0_isField 14 = .ok (.iconst 4, 1) := by decide +kernel
theorem dX0_isField_15 : decode cX0_isField 15 = .ok (.if_icmp .eq 15, 3) := by decide +kernel
theorem dX0_isField_18 : decode cX0_isField 18 = .ok (.iload_n 1, 1) := by decide +kernel
theorem dX0_isField_19 : decode cX0_isField 19 = .ok (.bipush 8, 2) := by decide +kernel
theorem dX0_isField_21 : decode cX0_isField 21 = .ok (.if_icmp .eq 9, 3) := by decide +kernel
theorem dX0_isField_24 : decode cX0_isField 24 = .ok (.iload_n 1, 1) := by decide +kernel
theorem dX0_isField_25 : decode cX0_isField 25 = .ok (.bipush 64, 2) := by decide +kernel
theorem dX0_isField_27 : decode cX0_isField 27 = .ok (.if_icmp .ne 7, 3) := by decide +kernel
theorem dX0_isField_30 : decode cX0_isField 30 = .ok (.iconst 1, 1) := by decide +kernel
theorem dX0_isField_31 : decode cX0_isField 31 = .ok (.goto 29, 3) := by decide +kernel
theorem dX0_isField_34 : decode cX0_isField 34 = .ok (.iconst 0, 1) := by decide +kernel
theorem dX0_isField_35 : decode cX0_isField 35 = .ok (.goto 25, 3) := by decide +kernel
theorem dX0_isField_38 : decode cX0_isField 38 = .ok (.iload_n 1, 1) := by decide +kernel
theorem dX0_isField_39 : decode cX0_isField 39 = .ok (.iconst 3, 1) := by decide +kernel
theorem dX0_isField_40 : decode cX0_isField 40 = .ok (.if_icmp .eq 15, 3) := by decide +kernel
theorem dX0_isField_43 : decode cX0_isField 43 = .ok (.iload_n 1, 1) := by decide +kernel
theorem dX0_isField_44 : decode cX0_isField 44 = .ok (.bipush 9, 2) := by decide +kernel
theorem dX0_isField_46 : decode cX0_isField 46 = .ok (.if_icmp .eq 9, 3) := by decide +kernel
theorem dX0_isField_49 : decode cX0_isField 49 = .ok (.iload_n 1, 1) := by decide +kernel
theorem dX0_isField_50 : decode cX0_isField 50 = .ok (.bipush 81, 2) := by decide +kernel
theorem dX0_isField_52 : decode cX0_isField 52 = .ok (.if_icmp .ne 7, 3) := by decide +kernel
theorem dX0_isField_55 : decode cX0_isField 55 = .ok (.iconst 1, 1) := by decide +kernel
theorem dX0_isField_56 : decode cX0_isField 56 = .ok (.goto 4, 3) := by decide +kernel
theorem dX0_isField_59 : decode cX0_isField 59 = .ok (.iconst 0, 1) := by decide +kernel
theorem dX0_isField_60 : decode cX0_isField 60 = .ok (.ireturn, 1) := by decide +kernel
theorem dX0_home_0 : decode cX0_home 0 = .ok (.aload_n 0, 1) := by decide +kernel
theorem dX0_home_1 : decode cX0_home 1 = .ok (.iload_n 1, 1) := by decide +kernel
theorem dX0_home_2 : decode cX0_home 2 = .ok (.invokevirtual 23, 3) := by decide +kernel
theorem dX0_home_5 : decode cX0_home 5 = .ok (.ifCond .ne 5, 3) := by decide +kernel
theorem dX0_home_8 : decode cX0_home 8 = .ok (.iconst (-1), 1) := by decide +kernel
theorem dX0_home_9 : decode cX0_home 9 = .ok (.ireturn, 1) := by decide +kernel
theorem dX0_home_10 : decode cX0_home 10 = .ok (.aload_n 0, 1) := by decide +kernel
theorem dX0_home_11 : decode cX0_home 11 = .ok (.getfield 45, 3) := by decide +kernel
theorem dX0_home_14 : decode cX0_home 14 = .ok (.istore_n 2, 1) := by decide +kernel
theorem dX0_home_15 : decode cX0_home 15 = .ok (.iload_n 2, 1) := by decide +kernel
theorem dX0_home_16 : decode cX0_home 16 = .ok (.aload_n 0, 1) := by decide +kernel
theorem dX0_home_17 : decode cX0_home 17 = .ok (.getfield 34, 3) := by decide +kernel
theorem dX0_home_20 : decode cX0_home 20 = .ok (.if_icmp .ge 33, 3) := by decide +kernel
theorem dX0_home_23 : decode cX0_home 23 = .ok (.aload_n 0, 1) := by decide +kernel
theorem dX0_home_24 : decode cX0_home 24 = .ok (.iload_n 2, 1) := by decide +kernel
theorem dX0_home_25 : decode cX0_home 25 = .ok (.invokevirtual 48, 3) := by decide +kernel
theorem dX0_home_28 : decode cX0_home 28 = .ok (.ifCond .eq 15, 3) := by decide +kernel
theorem dX0_home_31 : decode cX0_home 31 = .ok (.aload_n 0, 1) := by decide +kernel
theorem dX0_home_32 : decode cX0_home 32 = .ok (.iload_n 1, 1) := by decide +kernel
theorem dX0_home_33 : decode cX0_home 33 = .ok (.iload_n 2, 1) := by decide +kernel
theorem dX0_home_34 : decode cX0_home 34 = .ok (.invokevirtual 39, 3) := by decide +kernel
theorem dX0_home_37 : decode cX0_home 37 = .ok (.iload_n 1, 1) := by decide +kernel
theorem dX0_home_38 : decode cX0_home 38 = .ok (.if_icmp .ne 5, 3) := by decide +kernel
theorem dX0_home_41 : decode cX0_home 41 = .ok (.iload_n 2, 1) := by decide +kernel
theorem dX0_home_42 : decode cX0_home 42 = .ok (.ireturn, 1) := by decide +kernel
theorem dX0_home_43 : decode cX0_home 43 = .ok (.iload_n 2, 1) := by decide +kernel
theorem dX0_home_44 : decode cX0_home 44 = .ok (.aload_n 0, 1) := by decide +kernel
theorem dX0_home_45 : decode cX0_home 45 = .ok (.getfield 45, 3) := by decide +kernel
theorem dX0_home_48 : decode cX0_home 48 = .ok (.imul, 1) := by decide +kernel
theorem dX0_home_49 : decode cX0_home 49 = .ok (.istore_n 2, 1) := by decide +kernel
theorem dX0_home_50 : decode cX0_home 50 = .ok (.goto (-35), 3) := by decide +kernel
theorem dX0_home_53 : decode cX0_home 53 = .ok (.aload_n 0, 1) := by decide +kernel
theorem dX0_home_54 : decode cX0_home 54 = .ok (.getfield 34, 3) := by decide +kernel
theorem dX0_home_57 : decode cX0_home 57 = .ok (.ireturn, 1) := by decide +kernel
theorem dX0_logarithm_0 : decode cX0_logarithm 0 = .ok (.aload_n 0, 1) := by decide +kernel
theorem dX0_logarithm_1 : decode cX0_logarithm 1 = .ok (.iload_n 1, 1) := by decide +kernel
theorem dX0_logarithm_2 : decode cX0_logarithm 2 = .ok (.invokevirtual 23, 3) := by decide +kernel
theorem dX0_logarithm_5 : decode cX0_logarithm 5 = .ok (.ifCond .eq 19, 3) := by decide +kernel
theorem dX0_logarithm_8 : decode cX0_logarithm 8 = .ok (.aload_n 0, 1) := by decide +kernel
theorem dX0_logarithm_9 : decode cX0_logarithm 9 = .ok (.iload_n 2, 1) := by decide +kernel
theorem dX0_logarithm_10 : decode cX0_logarithm 10 = .ok (.invokevirtual 23, 3) := by decide +kernel
theorem dX0_logarithm_13 : decode cX0_logarithm 13 = .ok (.ifCond .eq 11, 3) := by decide +kernel
theorem dX0_logarithm_16 : decode cX0_logarithm 16 = .ok (.iload_n 1, 1) := by decide +kernel
theorem dX0_logarithm_17 : decode cX0_logarithm 17 = .ok (.ifCond .eq 7, 3) := by decide +kernel
theorem dX0_logarithm_20 : decode cX0_logarithm 20 = .ok (.iload_n 2, 1) := by decide +kernel
theorem dX0_logarithm_21 : decode cX0_logarithm 21 = .ok (.ifCond .ne 5, 3) := by decide +kernel
theorem dX0_logarithm_24 : decode cX0_logarithm 24 = .ok (.iconst (-1), 1) := by decide +kernel
theorem dX0_logarithm_25 : decode cX0_logarithm 25 = .ok (.ireturn, 1) := by decide +kernel
theorem dX0_logarithm_26 : decode cX0_logarithm 26 = .ok (.aload_n 0, 1) := by decide +kernel
theorem dX0_logarithm_27 : decode cX0_logarithm 27 = .ok (.getfield 13, 3) := by decide +kernel
theorem dX0_logarithm_30 : decode cX0_logarithm 30 = .ok (.iload_n 1, 1) := by decide +kernel
theorem dX0_logarithm_31 : decode cX0_logarithm 31 = .ok (.iaload, 1) := by decide +kernel
theorem dX0_logarithm_32 : decode cX0_logarithm 32 = .ok (.aload_n 0, 1) := by decide +kernel
theorem dX0_logarithm_33 : decode cX0_logarithm 33 = .ok (.getfield 34, 3) := by decide +kernel
theorem dX0_logarithm_36 : decode cX0_logarithm 36 = .ok (.iconst 1, 1) := by decide +kernel
theorem dX0_logarithm_37 : decode cX0_logarithm 37 = .ok (.isub, 1) := by decide +kernel
theorem dX0_logarithm_38 : decode cX0_logarithm 38 = .ok (.invokestatic 42, 3) := by decide +kernel
theorem dX0_logarithm_41 : decode cX0_logarithm 41 = .ok (.istore_n 3, 1) := by decide +kernel
theorem dX0_logarithm_42 : decode cX0_logarithm 42 = .ok (.aload_n 0, 1) := by decide +kernel
theorem dX0_logarithm_43 : decode cX0_logarithm 43 = .ok (.getfield 13, 3) := by decide +kernel
theorem dX0_logarithm_46 : decode cX0_logarithm 46 = .ok (.iload_n 2, 1) := by decide +kernel
theorem dX0_logarithm_47 : decode cX0_logarithm 47 = .ok (.iaload, 1) := by decide +kernel
theorem dX0_logarithm_48 : decode cX0_logarithm 48 = .ok (.iload_n 3, 1) := by decide +kernel
theorem dX0_logarithm_49 : decode cX0_logarithm 49 = .ok (.irem, 1) := by decide +kernel
theorem dX0_logarithm_50 : decode cX0_logarithm 50 = .ok (.ifCond .eq 5, 3) := by decide +kernel
theorem dX0_logarithm_53 : decode cX0_logarithm 53 = .ok (.iconst (-1), 1) := by decide +kernel
theorem dX0_logarithm_54 : decode cX0_logarithm 54 = .ok (.ireturn, 1) := by decide +kernel
theorem dX0_logarithm_55 : decode cX0_logarithm 55 = .ok (.aload_n 0, 1) := by decide +kernel
theorem dX0_logarithm_56 : decode cX0_logarithm 56 = .ok (.getfield 34, 3) := by decide +kernel
theorem dX0_logarithm_59 : decode cX0_logarithm 59 = .ok (.iconst 1, 1) := by decide +kernel
theorem dX0_logarithm_60 : decode cX0_logarithm 60 = .ok (.isub, 1) := by decide +kernel
theorem dX0_logarithm_61 : decode cX0_logarithm 61 = .ok (.iload_n 3, 1) := by decide +kernel
theorem dX0_logarithm_62 : decode cX0_logarithm 62 = .ok (.idiv, 1) := by decide +kernel
theorem dX0_logarithm_63 : decode cX0_logarithm 63 = .ok (.istore 4, 2) := by decide +kernel
theorem dX0_logarithm_65 : decode cX0_logarithm 65 = .ok (.aload_n 0, 1) := by decide +kernel
theorem dX0_logarithm_66 : decode cX0_logarithm 66 = .ok (.getfield 13, 3) := by decide +kernel
theorem dX0_logarithm_69 : decode cX0_logarithm 69 = .ok (.iload_n 1, 1) := by decide +kernel
theorem dX0_logarithm_70 : decode cX0_logarithm 70 = .ok (.iaload, 1) := by decide +kernel
theorem dX0_logarithm_71 : decode cX0_logarithm 71 = .ok (.iload_n 3, 1) := by decide +kernel
theorem dX0_logarithm_72 : decode cX0_logarithm 72 = .ok (.idiv, 1) := by decide +kernel
theorem dX0_logarithm_73 : decode cX0_logarithm 73 = .ok (.iload 4, 2) := by decide +kernel
theorem dX0_logarithm_75 : decode cX0_logarithm 75 = .ok (.invokestatic 51, 3) := by decide +kernel
theorem dX0_logarithm_78 : decode cX0_logarithm 78 = .ok (.istore 5, 2) := by decide +kernel
theorem dX0_logarithm_80 : decode cX0_logarithm 80 = .ok (.aload_n 0, 1) := by decide +kernel
theorem dX0_logarithm_81 : decode cX0_logarithm 81 = .ok (.getfield 13, 3) := by decide +kernel
theorem dX0_logarithm_84 : decode cX0_logarithm 84 = .ok (.iload_n 2, 1) := by decide +kernel
theorem dX0_logarithm_85 : decode cX0_logarithm 85 = .ok (.iaload, 1) := by decide +kernel
theorem dX0_logarithm_86 : decode cX0_logarithm 86 = .ok (.iload_n 3, 1) := by decide +kernel
theorem dX0_logarithm_87 : decode cX0_logarithm 87 = .ok (.idiv, 1) := by decide +kernel
theorem dX0_logarithm_88 : decode cX0_logarithm 88 = .ok (.iload 5, 2) := by decide +kernel
theorem dX0_logarithm_90 : decode cX0_logarithm 90 = .ok (.imul, 1) := by decide +kernel
theorem dX0_logarithm_91 : decode cX0_logarithm 91 = .ok (.iload 4, 2) := by decide +kernel
theorem dX0_logarithm_93 : decode cX0_logarithm 93 = .ok (.irem, 1) := by decide +kernel
theorem dX0_logarithm_94 : decode cX0_logarithm 94 = .ok (.ireturn, 1) := by decide +kernel
theorem dX0_inverseModulo_0 : decode cX0_inverseModulo 0 = .ok (.iload_n 1, 1) := by decide +kernel
theorem dX0_inverseModulo_1 : decode cX0_inverseModulo 1 = .ok (.istore_n 2, 1) := by decide +kernel
theorem dX0_inverseModulo_2 : decode cX0_inverseModulo 2 = .ok (.iload_n 0, 1) := by decide +kernel
theorem dX0_inverseModulo_3 : decode cX0_inverseModulo 3 = .ok (.iload_n 1, 1) := by decide +kernel
theorem dX0_inverseModulo_4 : decode cX0_inverseModulo 4 = .ok (.irem, 1) := by decide +kernel
theorem dX0_inverseModulo_5 : decode cX0_inverseModulo 5 = .ok (.istore_n 3, 1) := by decide +kernel
theorem dX0_inverseModulo_6 : decode cX0_inverseModulo 6 = .ok (.iconst 0, 1) := by decide +kernel
theorem dX0_inverseModulo_7 : decode cX0_inverseModulo 7 = .ok (.istore 4, 2) := by decide +kernel
theorem dX0_inverseModulo_9 : decode cX0_inverseModulo 9 = .ok (.iconst 1, 1) := by decide +kernel
theorem dX0_inverseModulo_10 : decode cX0_inverseModulo 10 = .ok (.istore 5, 2) := by decide +kernel
theorem dX0_inverseModulo_12 : decode cX0_inverseModulo 12 = .ok (.iconst 0, 1) := by decide +kernel
theorem dX0_inverseModulo_13 : decode cX0_inverseModulo 13 = .ok (.istore 6, 2) := by decide +kernel
theorem dX0_inverseModulo_15 : decode cX0_inverseModulo 15 = .ok (.iload 6, 2) := by decide +kernel
theorem dX0_inverseModulo_17 : decode cX0_inverseModulo 17 = .ok (.bipush 20, 2) := by decide +kernel
theorem dX0_inverseModulo_19 : decode cX0_inverseModulo 19 = .ok (.if_icmp .ge 49, 3) := by decide +kernel
theorem dX0_inverseModulo_22 : decode cX0_inverseModulo 22 = .ok (.iload_n 3, 1) := by decide +kernel
theorem dX0_inverseModulo_23 : decode cX0_inverseModulo 23 = .ok (.ifCond .le 45, 3) := by decide +kernel
theorem dX0_inverseModulo_26 : decode cX0_inverseModulo 26 = .ok (.iload_n 2, 1) := by decide +kernel
theorem dX0_inverseModulo_27 : decode cX0_inverseModulo 27 = .ok (.iload_n 3, 1) := by decide +kernel
theorem dX0_inverseModulo_28 : decode cX0_inverseModulo 28 = .ok (.idiv, 1) := by decide +kernel
theorem dX0_inverseModulo_29 : decode cX0_inverseModulo 29 = .ok (.istore 7, 2) := by decide +kernel
theorem dX0_inverseModulo_31 : decode cX0_inverseModulo 31 = .ok (.iload_n 2, 1) := by decide +kernel
theorem dX0_inverseModulo_32 : decode cX0_inverseModulo 32 = .ok (.iload 7, 2) := by decide +kernel
theorem dX0_inverseModulo_34 : decode cX0_inverseModulo 34 = .ok (.iload_n 3, 1) := by decide +kernel
theorem dX0_inverseModulo_35 : decode cX0_inverseModulo 35 = .ok (.imul, 1) := by decide +kernel
theorem dX0_inverseModulo_36 : decode cX0_inverseModulo 36 = .ok (.isub, 1) := by decide +kernel
theorem dX0_inverseModulo_37 : decode cX0_inverseModulo 37 = .ok (.istore 8, 2) := by decide +kernel
theorem dX0_inverseModulo_39 : decode cX0_inverseModulo 39 = .ok (.iload 4, 2) := by decide +kernel
theorem dX0_inverseModulo_41 : decode cX0_inverseModulo 41 = .ok (.iload 7, 2) := by decide +kernel
theorem dX0_inverseModulo_43 : decode cX0_inverseModulo 43 = .ok (.iload 5, 2) := by decide +kernel
theorem dX0_inverseModulo_45 : decode cX0_inverseModulo 45 = .ok (.imul, 1) := by decide +kernel
theorem dX0_inverseModulo_46 : decode cX0_inverseModulo 46 = .ok (.isub, 1) := by decide +kernel
theorem dX0_inverseModulo_47 : decode cX0_inverseModulo 47 = .ok (.istore 9, 2) := by decide +kernel
theorem dX0_inverseModulo_49 : decode cX0_inverseModulo 49 = .ok (.iload_n 3, 1) := by decide +kernel
theorem dX0_inverseModulo_50 : decode cX0_inverseModulo 50 = .ok (.istore_n 2, 1) := by decide +kernel
theorem dX0_inverseModulo_51 : decode cX0_inverseModulo 51 = .ok (.iload 8, 2) := by decide +kernel
theorem dX0_inverseModulo_53 : decode cX0_inverseModulo 53 = .ok (.istore_n 3, 1) := by decide +kernel
theorem dX0_inverseModulo_54 : decode cX0_inverseModulo 54 = .ok (.iload 5, 2) := by decide +kernel
theorem dX0_inverseModulo_56 : decode cX0_inverseModulo 56 = .ok (.istore 4, 2) := by decide +kernel
theorem dX0_inverseModulo_58 : decode cX0_inverseModulo 58 = .ok (.iload 9, 2) := by decide +kernel
theorem dX0_inverseModulo_60 : decode cX0_inverseModulo 60 = .ok (.istore 5, 2) := by decide +kernel
theorem dX0_inverseModulo_62 : decode cX0_inverseModulo 62 = .ok (.iinc 6 1, 3) := by decide +kernel
theorem dX0_inverseModulo_65 : decode cX0_inverseModulo 65 = .ok (.goto (-50), 3) := by decide +kernel
theorem dX0_inverseModulo_68 : decode cX0_inverseModulo 68 = .ok (.iload 4, 2) := by decide +kernel
theorem dX0_inverseModulo_70 : decode cX0_inverseModulo 70 = .ok (.ifCond .ge 10, 3) := by decide +kernel
theorem dX0_inverseModulo_73 : decode cX0_inverseModulo 73 = .ok (.iload 4, 2) := by decide +kernel
theorem dX0_inverseModulo_75 : decode cX0_inverseModulo 75 = .ok (.iload_n 1, 1) := by decide +kernel
theorem dX0_inverseModulo_76 : decode cX0_inverseModulo 76 = .ok (.iadd, 1) := by decide +kernel
theorem dX0_inverseModulo_77 : decode cX0_inverseModulo 77 = .ok (.goto 5, 3) := by decide +kernel
theorem dX0_inverseModulo_80 : decode cX0_inverseModulo 80 = .ok (.iload 4, 2) := by decide +kernel
theorem dX0_inverseModulo_82 : decode cX0_inverseModulo 82 = .ok (.ireturn, 1) := by decide +kernel
theorem dX1_init_0 : decode cX1_init 0 = .ok (.aload_n 0, 1) := by decide +kernel
theorem dX1_init_1 : decode cX1_init 1 = .ok (.invokespecial 1, 3) := by decide +kernel
theorem dX1_init_4 : decode cX1_init 4 = .ok (.aload_n 0, 1) := by decide +kernel
theorem dX1_init_5 : decode cX1_init 5 = .ok (.bipush 64, 2) := by decide +kernel
theorem dX1_init_7 : decode cX1_init 7 = .ok (.putfield 7, 3) := by decide +kernel
theorem dX1_init_10 : decode cX1_init 10 = .ok (.aload_n 0, 1) := by decide +kernel
theorem dX1_init_11 : decode cX1_init 11 = .ok (.iconst 2, 1) := by decide +kernel
theorem dX1_init_12 : decode cX1_init 12 = .ok (.putfield 13, 3) := by decide +kernel
theorem dX1_init_15 : decode cX1_init 15 = .ok (.aload_n 0, 1) := by decide +kernel
theorem dX1_init_16 : decode cX1_init 16 = .ok (.bipush 6, 2) := by decide +kernel
theorem dX1_init_18 : decode cX1_init 18 = .ok (.putfield 16, 3) := by decide +kernel
theorem dX1_init_21 : decode cX1_init 21 = .ok (.aload_n 0, 1) := by decide +kernel
theorem dX1_init_22 : decode cX1_init 22 = .ok (.bipush 12, 2) := by decide +kernel
theorem dX1_init_24 : decode cX1_init 24 = .ok (.newarray .int, 2) := by decide +kernel
theorem dX1_init_26 : decode cX1_init 26 = .ok (.putfield 19, 3) := by decide +kernel
theorem dX1_init_29 : decode cX1_init 29 = .ok (.return_, 1) := by decide +kernel
theorem dX1_use_0 : decode cX1_use 0 = .ok (.iload_n 1, 1) := by decide +kernel
theorem dX1_use_1 : decode cX1_use 1 = .ok (.bipush 64, 2) := by decide +kernel
theorem dX1_use_3 : decode cX1_use 3 = .ok (.if_icmp .eq 11, 3) := by decide +kernel
theorem dX1_use_6 : decode cX1_use 6 = .ok (.iload_n 1, 1) := by decide +kernel
theorem dX1_use_7 : decode cX1_use 7 = .ok (.bipush 81, 2) := by decide +kernel
theorem dX1_use_9 : decode cX1_use 9 = .ok (.if_icmp .eq 5, 3) := by decide +kernel
theorem dX1_use_12 : decode cX1_use 12 = .ok (.iconst (-1), 1) := by decide +kernel
theorem dX1_use_13 : decode cX1_use 13 = .ok (.ireturn, 1) := by decide +kernel
theorem dX1_use_14 : decode cX1_use 14 = .ok (.aload_n 0, 1) := by decide +kernel
theorem dX1_use_15 : decode cX1_use 15 = .ok (.iload_n 1, 1) := by decide +kernel
theorem dX1_use_16 : decode cX1_use 16 = .ok (.putfield 7, 3) := by decide +kernel
theorem dX1_use_19 : decode cX1_use 19 = .ok (.aload_n 0, 1) := by decide +kernel
theorem dX1_use_20 : decode cX1_use 20 = .ok (.iload_n 1, 1) := by decide +kernel
theorem dX1_use_21 : decode cX1_use 21 = .ok (.bipush 64, 2) := by decide +kernel
theorem dX1_use_23 : decode cX1_use 23 = .ok (.if_icmp .ne 7, 3) := by decide +kernel
theorem dX1_use_26 : decode cX1_use 26 = .ok (.iconst 2, 1) := by decide +kernel
theorem dX1_use_27 : decode cX1_use 27 = .ok (.goto 4, 3) := by decide +kernel
theorem dX1_use_30 : decode cX1_use 30 = .ok (.iconst 3, 1) := by decide +kernel
theorem dX1_use_31 : decode cX1_use 31 = .ok (.putfield 13, 3) := by decide +kernel
theorem dX1_use_34 : decode cX1_use 34 = .ok (.aload_n 0, 1) := by decide +kernel
theorem dX1_use_35 : decode cX1_use 35 = .ok (.iload_n 1, 1) := by decide +kernel
theorem dX1_use_36 : decode cX1_use 36 = .ok (.bipush 64, 2) := by decide +kernel
theorem dX1_use_38 : decode cX1_use 38 = .ok (.if_icmp .ne 8, 3) := by decide +kernel
theorem dX1_use_41 : decode cX1_use 41 = .ok (.bipush 6, 2) := by decide +kernel
theorem dX1_use_43 : decode cX1_use 43 = .ok (.goto 4, 3) := by decide +kernel
theorem dX1_use_46 : decode cX1_use 46 = .ok (.iconst 4, 1) := by decide +kernel
theorem dX1_use_47 : decode cX1_use 47 = .ok (.putfield 16, 3) := by decide +kernel
theorem dX1_use_50 : decode cX1_use 50 = .ok (.iconst 0, 1) := by decide +kernel
theorem dX1_use_51 : decode cX1_use 51 = .ok (.ireturn, 1) := by decide +kernel
theorem dX1_add_0 : decode cX1_add 0 = .ok (.aload_n 0, 1) := by decide +kernel
theorem dX1_add_1 : decode cX1_add 1 = .ok (.iload_n 1, 1) := by decide +kernel
theorem dX1_add_2 : decode cX1_add 2 = .ok (.invokevirtual 39, 3) := by decide +kernel
theorem dX1_add_5 : decode cX1_add 5 = .ok (.ifCond .ne 11, 3) := by decide +kernel
theorem dX1_add_8 : decode cX1_add 8 = .ok (.aload_n 0, 1) := by decide +kernel
theorem dX1_add_9 : decode cX1_add 9 = .ok (.iload_n 2, 1) := by decide +kernel
theorem dX1_add_10 : decode cX1_add 10 = .ok (.invokevirtual 39, 3) := by decide +kernel
theorem dX1_add_13 : decode cX1_add 13 = .ok (.ifCond .eq 7, 3) := by decide +kernel
end
section
set_option maxRecDepth 100000
theorem dX1_add_16 : decode cX1_add 16 = .ok (.iconst (-1), 1) := by decide +kernel
theorem dX1_add_17 : decode cX1_add 17 = .ok (.goto 9, 3) := by decide +kernel
theorem dX1_add_20 : decode cX1_add 20 = .ok (.aload_n 0, 1) := by decide +kernel
theorem dX1_add_21 : decode cX1_add 21 = .ok (.iload_n 1, 1) := by decide +kernel
theorem dX1_add_22 : decode cX1_add 22 = .ok (.iload_n 2, 1) := by decide +kernel
theorem dX1_add_23 : decode cX1_add 23 = .ok (.invokevirtual 43, 3) := by decide +kernel
theorem dX1_add_26 : decode cX1_add 26 = .ok (.ireturn, 1) := by decide +kernel
theorem dX1_bad_0 : decode cX1_bad 0 = .ok (.iload_n 1, 1) := by decide +kernel
theorem dX1_bad_1 : decode cX1_bad 1 = .ok (.ifCond .lt 11, 3) := by decide +kernel
theorem dX1_bad_4 : decode cX1_bad 4 = .ok (.iload_n 1, 1) := by decide +kernel
theorem dX1_bad_5 : decode cX1_bad 5 = .ok (.aload_n 0, 1) := by decide +kernel
theorem dX1_bad_6 : decode cX1_bad 6 = .ok (.getfield 7, 3) := by decide +kernel
theorem dX1_bad_9 : decode cX1_bad 9 = .ok (.if_icmp .lt 7, 3) := by decide +kernel
theorem dX1_bad_12 : decode cX1_bad 12 = .ok (.iconst 1, 1) := by decide +kernel
theorem dX1_bad_13 : decode cX1_bad 13 = .ok (.goto 4, 3) := by decide +kernel
theorem dX1_bad_16 : decode cX1_bad 16 = .ok (.iconst 0, 1) := by decide +kernel
theorem dX1_bad_17 : decode cX1_bad 17 = .ok (.ireturn, 1) := by decide +kernel
theorem dX1_sum_0 : decode cX1_sum 0 = .ok (.iconst 0, 1) := by decide +kernel
theorem dX1_sum_1 : decode cX1_sum 1 = .ok (.istore_n 3, 1) := by decide +kernel
theorem dX1_sum_2 : decode cX1_sum 2 = .ok (.iconst 0, 1) := by decide +kernel
theorem dX1_sum_3 : decode cX1_sum 3 = .ok (.istore 4, 2) := by decide +kernel
theorem dX1_sum_5 : decode cX1_sum 5 = .ok (.iload 4, 2) := by decide +kernel
theorem dX1_sum_7 : decode cX1_sum 7 = .ok (.aload_n 0, 1) := by decide +kernel
theorem dX1_sum_8 : decode cX1_sum 8 = .ok (.getfield 16, 3) := by decide +kernel
theorem dX1_sum_11 : decode cX1_sum 11 = .ok (.if_icmp .ge 57, 3) := by decide +kernel
theorem dX1_sum_14 : decode cX1_sum 14 = .ok (.aload_n 0, 1) := by decide +kernel
theorem dX1_sum_15 : decode cX1_sum 15 = .ok (.iload_n 1, 1) := by decide +kernel
theorem dX1_sum_16 : decode cX1_sum 16 = .ok (.iload 4, 2) := by decide +kernel
theorem dX1_sum_18 : decode cX1_sum 18 = .ok (.invokevirtual 27, 3) := by decide +kernel
theorem dX1_sum_21 : decode cX1_sum 21 = .ok (.aload_n 0, 1) := by decide +kernel
theorem dX1_sum_22 : decode cX1_sum 22 = .ok (.iload_n 2, 1) := by decide +kernel
theorem dX1_sum_23 : decode cX1_sum 23 = .ok (.iload 4, 2) := by decide +kernel
theorem dX1_sum_25 : decode cX1_sum 25 = .ok (.invokevirtual 27, 3) := by decide +kernel
theorem dX1_sum_28 : decode cX1_sum 28 = .ok (.iadd, 1) := by decide +kernel
theorem dX1_sum_29 : decode cX1_sum 29 = .ok (.istore 5, 2) := by decide +kernel
theorem dX1_sum_31 : decode cX1_sum 31 = .ok (.iload_n 3, 1) := by decide +kernel
theorem dX1_sum_32 : decode cX1_sum 32 = .ok (.iload 5, 2) := by decide +kernel
theorem dX1_sum_34 : decode cX1_sum 34 = .ok (.aload_n 0, 1) := by decide +kernel
theorem dX1_sum_35 : decode cX1_sum 35 = .ok (.getfield 13, 3) := by decide +kernel
theorem dX1_sum_38 : decode cX1_sum 38 = .ok (.if_icmp .lt 13, 3) := by decide +kernel
theorem dX1_sum_41 : decode cX1_sum 41 = .ok (.iload 5, 2) := by decide +kernel
theorem dX1_sum_43 : decode cX1_sum 43 = .ok (.aload_n 0, 1) := by decide +kernel
theorem dX1_sum_44 : decode cX1_sum 44 = .ok (.getfield 13, 3) := by decide +kernel
theorem dX1_sum_47 : decode cX1_sum 47 = .ok (.isub, 1) := by decide +kernel
theorem dX1_sum_48 : decode cX1_sum 48 = .ok (.goto 5, 3) := by decide +kernel
theorem dX1_sum_51 : decode cX1_sum 51 = .ok (.iload 5, 2) := by decide +kernel
theorem dX1_sum_53 : decode cX1_sum 53 = .ok (.aload_n 0, 1) := by decide +kernel
theorem dX1_sum_54 : decode cX1_sum 54 = .ok (.iload 4, 2) := by decide +kernel
theorem dX1_sum_56 : decode cX1_sum 56 = .ok (.invokevirtual 23, 3) := by decide +kernel
theorem dX1_sum_59 : decode cX1_sum 59 = .ok (.imul, 1) := by decide +kernel
theorem dX1_sum_60 : decode cX1_sum 60 = .ok (.iadd, 1) := by decide +kernel
theorem dX1_sum_61 : decode cX1_sum 61 = .ok (.istore_n 3, 1) := by decide +kernel
theorem dX1_sum_62 : decode cX1_sum 62 = .ok (.iinc 4 1, 3) := by decide +kernel
theorem dX1_sum_65 : decode cX1_sum 65 = .ok (.goto (-60), 3) := by decide +kernel
theorem dX1_sum_68 : decode cX1_sum 68 = .ok (.iload_n 3, 1) := by decide +kernel
theorem dX1_sum_69 : decode cX1_sum 69 = .ok (.ireturn, 1) := by decide +kernel
theorem dX1_coefficient_0 : decode cX1_coefficient 0 = .ok (.aload_n 0, 1) := by decide +kernel
theorem dX1_coefficient_1 : decode cX1_coefficient 1 = .ok (.iload_n 2, 1) := by decide +kernel
theorem dX1_coefficient_2 : decode cX1_coefficient 2 = .ok (.invokevirtual 23, 3) := by decide +kernel
theorem dX1_coefficient_5 : decode cX1_coefficient 5 = .ok (.istore_n 3, 1) := by decide +kernel
theorem dX1_coefficient_6 : decode cX1_coefficient 6 = .ok (.aload_n 0, 1) := by decide +kernel
theorem dX1_coefficient_7 : decode cX1_coefficient 7 = .ok (.getfield 13, 3) := by decide +kernel
theorem dX1_coefficient_10 : decode cX1_coefficient 10 = .ok (.ifCond .le 18, 3) := by decide +kernel
theorem dX1_coefficient_13 : decode cX1_coefficient 13 = .ok (.iload_n 3, 1) := by decide +kernel
theorem dX1_coefficient_14 : decode cX1_coefficient 14 = .ok (.ifCond .le 14, 3) := by decide +kernel
theorem dX1_coefficient_17 : decode cX1_coefficient 17 = .ok (.iload_n 1, 1) := by decide +kernel
theorem dX1_coefficient_18 : decode cX1_coefficient 18 = .ok (.iload_n 3, 1) := by decide +kernel
theorem dX1_coefficient_19 : decode cX1_coefficient 19 = .ok (.idiv, 1) := by decide +kernel
theorem dX1_coefficient_20 : decode cX1_coefficient 20 = .ok (.aload_n 0, 1) := by decide +kernel
theorem dX1_coefficient_21 : decode cX1_coefficient 21 = .ok (.getfield 13, 3) := by decide +kernel
theorem dX1_coefficient_24 : decode cX1_coefficient 24 = .ok (.irem, 1) := by decide +kernel
theorem dX1_coefficient_25 : decode cX1_coefficient 25 = .ok (.goto 4, 3) := by decide +kernel
theorem dX1_coefficient_28 : decode cX1_coefficient 28 = .ok (.iconst 0, 1) := by decide +kernel
theorem dX1_coefficient_29 : decode cX1_coefficient 29 = .ok (.ireturn, 1) := by decide +kernel
theorem dX1_unit_0 : decode cX1_unit 0 = .ok (.iconst 1, 1) := by decide +kernel
theorem dX1_unit_1 : decode cX1_unit 1 = .ok (.istore_n 2, 1) := by decide +kernel
theorem dX1_unit_2 : decode cX1_unit 2 = .ok (.iconst 0, 1) := by decide +kernel
theorem dX1_unit_3 : decode cX1_unit 3 = .ok (.istore_n 3, 1) := by decide +kernel
theorem dX1_unit_4 : decode cX1_unit 4 = .ok (.iload_n 3, 1) := by decide +kernel
theorem dX1_unit_5 : decode cX1_unit 5 = .ok (.iload_n 1, 1) := by decide +kernel
theorem dX1_unit_6 : decode cX1_unit 6 = .ok (.if_icmp .ge 16, 3) := by decide +kernel
theorem dX1_unit_9 : decode cX1_unit 9 = .ok (.iload_n 2, 1) := by decide +kernel
theorem dX1_unit_10 : decode cX1_unit 10 = .ok (.aload_n 0, 1) := by decide +kernel
theorem dX1_unit_11 : decode cX1_unit 11 = .ok (.getfield 13, 3) := by decide +kernel
theorem dX1_unit_14 : decode cX1_unit 14 = .ok (.imul, 1) := by decide +kernel
theorem dX1_unit_15 : decode cX1_unit 15 = .ok (.istore_n 2, 1) := by decide +kernel
theorem dX1_unit_16 : decode cX1_unit 16 = .ok (.iinc 3 1, 3) := by decide +kernel
theorem dX1_unit_19 : decode cX1_unit 19 = .ok (.goto (-15), 3) := by decide +kernel
theorem dX1_unit_22 : decode cX1_unit 22 = .ok (.iload_n 2, 1) := by decide +kernel
theorem dX1_unit_23 : decode cX1_unit 23 = .ok (.ireturn, 1) := by decide +kernel
theorem dX1_multiply_0 : decode cX1_multiply 0 = .ok (.aload_n 0, 1) := by decide +kernel
theorem dX1_multiply_1 : decode cX1_multiply 1 = .ok (.iload_n 1, 1) := by decide +kernel
theorem dX1_multiply_2 : decode cX1_multiply 2 = .ok (.invokevirtual 39, 3) := by decide +kernel
theorem dX1_multiply_5 : decode cX1_multiply 5 = .ok (.ifCond .ne 11, 3) := by decide +kernel
theorem dX1_multiply_8 : decode cX1_multiply 8 = .ok (.aload_n 0, 1) := by decide +kernel
theorem dX1_multiply_9 : decode cX1_multiply 9 = .ok (.iload_n 2, 1) := by decide +kernel
theorem dX1_multiply_10 : decode cX1_multiply 10 = .ok (.invokevirtual 39, 3) := by decide +kernel
theorem dX1_multiply_13 : decode cX1_multiply 13 = .ok (.ifCond .eq 7, 3) := by decide +kernel
theorem dX1_multiply_16 : decode cX1_multiply 16 = .ok (.iconst (-1), 1) := by decide +kernel
theorem dX1_multiply_17 : decode cX1_multiply 17 = .ok (.goto 9, 3) := by decide +kernel
theorem dX1_multiply_20 : decode cX1_multiply 20 = .ok (.aload_n 0, 1) := by decide +kernel
theorem dX1_multiply_21 : decode cX1_multiply 21 = .ok (.iload_n 1, 1) := by decide +kernel
theorem dX1_multiply_22 : decode cX1_multiply 22 = .ok (.iload_n 2, 1) := by decide +kernel
theorem dX1_multiply_23 : decode cX1_multiply 23 = .ok (.invokevirtual 46, 3) := by decide +kernel
theorem dX1_multiply_26 : decode cX1_multiply 26 = .ok (.ireturn, 1) := by decide +kernel
theorem dX1_product_0 : decode cX1_product 0 = .ok (.iconst 0, 1) := by decide +kernel
theorem dX1_product_1 : decode cX1_product 1 = .ok (.istore_n 3, 1) := by decide +kernel
theorem dX1_product_2 : decode cX1_product 2 = .ok (.iload_n 3, 1) := by decide +kernel
theorem dX1_product_3 : decode cX1_product 3 = .ok (.bipush 12, 2) := by decide +kernel
theorem dX1_product_5 : decode cX1_product 5 = .ok (.if_icmp .ge 16, 3) := by decide +kernel
theorem dX1_product_8 : decode cX1_product 8 = .ok (.aload_n 0, 1) := by decide +kernel
theorem dX1_product_9 : decode cX1_product 9 = .ok (.getfield 19, 3) := by decide +kernel
theorem dX1_product_12 : decode cX1_product 12 = .ok (.iload_n 3, 1) := by decide +kernel
theorem dX1_product_13 : decode cX1_product 13 = .ok (.iconst 0, 1) := by decide +kernel
theorem dX1_product_14 : decode cX1_product 14 = .ok (.iastore, 1) := by decide +kernel
theorem dX1_product_15 : decode cX1_product 15 = .ok (.iinc 3 1, 3) := by decide +kernel
theorem dX1_product_18 : decode cX1_product 18 = .ok (.goto (-16), 3) := by decide +kernel
theorem dX1_product_21 : decode cX1_product 21 = .ok (.iconst 0, 1) := by decide +kernel
theorem dX1_product_22 : decode cX1_product 22 = .ok (.istore_n 3, 1) := by decide +kernel
theorem dX1_product_23 : decode cX1_product 23 = .ok (.iload_n 3, 1) := by decide +kernel
theorem dX1_product_24 : decode cX1_product 24 = .ok (.aload_n 0, 1) := by decide +kernel
theorem dX1_product_25 : decode cX1_product 25 = .ok (.getfield 16, 3) := by decide +kernel
theorem dX1_product_28 : decode cX1_product 28 = .ok (.if_icmp .ge 58, 3) := by decide +kernel
theorem dX1_product_31 : decode cX1_product 31 = .ok (.iconst 0, 1) := by decide +kernel
theorem dX1_product_32 : decode cX1_product 32 = .ok (.istore 4, 2) := by decide +kernel
theorem dX1_product_34 : decode cX1_product 34 = .ok (.iload 4, 2) := by decide +kernel
theorem dX1_product_36 : decode cX1_product 36 = .ok (.aload_n 0, 1) := by decide +kernel
theorem dX1_product_37 : decode cX1_product 37 = .ok (.getfield 16, 3) := by decide +kernel
theorem dX1_product_40 : decode cX1_product 40 = .ok (.if_icmp .ge 40, 3) := by decide +kernel
theorem dX1_product_43 : decode cX1_product 43 = .ok (.aload_n 0, 1) := by decide +kernel
theorem dX1_product_44 : decode cX1_product 44 = .ok (.iload_n 1, 1) := by decide +kernel
theorem dX1_product_45 : decode cX1_product 45 = .ok (.iload_n 2, 1) := by decide +kernel
theorem dX1_product_46 : decode cX1_product 46 = .ok (.iload_n 3, 1) := by decide +kernel
theorem dX1_product_47 : decode cX1_product 47 = .ok (.iload 4, 2) := by decide +kernel
theorem dX1_product_49 : decode cX1_product 49 = .ok (.invokevirtual 31, 3) := by decide +kernel
theorem dX1_product_52 : decode cX1_product 52 = .ok (.istore 5, 2) := by decide +kernel
theorem dX1_product_54 : decode cX1_product 54 = .ok (.aload_n 0, 1) := by decide +kernel
theorem dX1_product_55 : decode cX1_product 55 = .ok (.iload_n 3, 1) := by decide +kernel
theorem dX1_product_56 : decode cX1_product 56 = .ok (.iload 4, 2) := by decide +kernel
theorem dX1_product_58 : decode cX1_product 58 = .ok (.iadd, 1) := by decide +kernel
theorem dX1_product_59 : decode cX1_product 59 = .ok (.aload_n 0, 1) := by decide +kernel
theorem dX1_product_60 : decode cX1_product 60 = .ok (.getfield 19, 3) := by decide +kernel
theorem dX1_product_63 : decode cX1_product 63 = .ok (.iload_n 3, 1) := by decide +kernel
theorem dX1_product_64 : decode cX1_product 64 = .ok (.iload 4, 2) := by decide +kernel
theorem dX1_product_66 : decode cX1_product 66 = .ok (.iadd, 1) := by decide +kernel
theorem dX1_product_67 : decode cX1_product 67 = .ok (.iaload, 1) := by decide +kernel
theorem dX1_product_68 : decode cX1_product 68 = .ok (.iload 5, 2) := by decide +kernel
theorem dX1_product_70 : decode cX1_product 70 = .ok (.iadd, 1) := by decide +kernel
theorem dX1_product_71 : decode cX1_product 71 = .ok (.invokevirtual 35, 3) := by decide +kernel
theorem dX1_product_74 : decode cX1_product 74 = .ok (.iinc 4 1, 3) := by decide +kernel
theorem dX1_product_77 : decode cX1_product 77 = .ok (.goto (-43), 3) := by decide +kernel
theorem dX1_product_80 : decode cX1_product 80 = .ok (.iinc 3 1, 3) := by decide +kernel
theorem dX1_product_83 : decode cX1_product 83 = .ok (.goto (-60), 3) := by decide +kernel
theorem dX1_product_86 : decode cX1_product 86 = .ok (.bipush 11, 2) := by decide +kernel
theorem dX1_product_88 : decode cX1_product 88 = .ok (.istore_n 3, 1) := by decide +kernel
theorem dX1_product_89 : decode cX1_product 89 = .ok (.iload_n 3, 1) := by decide +kernel
theorem dX1_product_90 : decode cX1_product 90 = .ok (.aload_n 0, 1) := by decide +kernel
theorem dX1_product_91 : decode cX1_product 91 = .ok (.getfield 16, 3) := by decide +kernel
theorem dX1_product_94 : decode cX1_product 94 = .ok (.if_icmp .lt 76, 3) := by decide +kernel
theorem dX1_product_97 : decode cX1_product 97 = .ok (.aload_n 0, 1) := by decide +kernel
theorem dX1_product_98 : decode cX1_product 98 = .ok (.iload_n 3, 1) := by decide +kernel
theorem dX1_product_99 : decode cX1_product 99 = .ok (.aload_n 0, 1) := by decide +kernel
theorem dX1_product_100 : decode cX1_product 100 = .ok (.getfield 16, 3) := by decide +kernel
theorem dX1_product_103 : decode cX1_product 103 = .ok (.isub, 1) := by decide +kernel
theorem dX1_product_104 : decode cX1_product 104 = .ok (.aload_n 0, 1) := by decide +kernel
theorem dX1_product_105 : decode cX1_product 105 = .ok (.getfield 19, 3) := by decide +kernel
theorem dX1_product_108 : decode cX1_product 108 = .ok (.iload_n 3, 1) := by decide +kernel
theorem dX1_product_109 : decode cX1_product 109 = .ok (.aload_n 0, 1) := by decide +kernel
theorem dX1_product_110 : decode cX1_product 110 = .ok (.getfield 16, 3) := by decide +kernel
theorem dX1_product_113 : decode cX1_product 113 = .ok (.isub, 1) := by decide +kernel
theorem dX1_product_114 : decode cX1_product 114 = .ok (.iaload, 1) := by decide +kernel
theorem dX1_product_115 : decode cX1_product 115 = .ok (.aload_n 0, 1) := by decide +kernel
theorem dX1_product_116 : decode cX1_product 116 = .ok (.getfield 19, 3) := by decide +kernel
theorem dX1_product_119 : decode cX1_product 119 = .ok (.iload_n 3, 1) := by decide +kernel
theorem dX1_product_120 : decode cX1_product 120 = .ok (.iaload, 1) := by decide +kernel
theorem dX1_product_121 : decode cX1_product 121 = .ok (.iadd, 1) := by decide +kernel
theorem dX1_product_122 : decode cX1_product 122 = .ok (.invokevirtual 35, 3) := by decide +kernel
theorem dX1_product_125 : decode cX1_product 125 = .ok (.aload_n 0, 1) := by decide +kernel
theorem dX1_product_126 : decode cX1_product 126 = .ok (.iload_n 3, 1) := by decide +kernel
theorem dX1_product_127 : decode cX1_product 127 = .ok (.aload_n 0, 1) := by decide +kernel
theorem dX1_product_128 : decode cX1_product 128 = .ok (.getfield 16, 3) := by decide +kernel
theorem dX1_product_131 : decode cX1_product 131 = .ok (.isub, 1) := by decide +kernel
theorem dX1_product_132 : decode cX1_product 132 = .ok (.iconst 1, 1) := by decide +kernel
theorem dX1_product_133 : decode cX1_product 133 = .ok (.iadd, 1) := by decide +kernel
theorem dX1_product_134 : decode cX1_product 134 = .ok (.aload_n 0, 1) := by decide +kernel
theorem dX1_product_135 : decode cX1_product 135 = .ok (.getfield 19, 3) := by decide +kernel
theorem dX1_product_138 : decode cX1_product 138 = .ok (.iload_n 3, 1) := by decide +kernel
theorem dX1_product_139 : decode cX1_product 139 = .ok (.aload_n 0, 1) := by decide +kernel
theorem dX1_product_140 : decode cX1_product 140 = .ok (.getfield 16, 3) := by decide +kernel
theorem dX1_product_143 : decode cX1_product 143 = .ok (.isub, 1) := by decide +kernel
theorem dX1_product_144 : decode cX1_product 144 = .ok (.iconst 1, 1) := by decide +kernel
theorem dX1_product_145 : decode cX1_product 145 = .ok (.iadd, 1) := by decide +kernel
theorem dX1_product_146 : decode cX1_product 146 = .ok (.iaload, 1) := by decide +kernel
theorem dX1_product_147 : decode cX1_product 147 = .ok (.aload_n 0, 1) := by decide +kernel
theorem dX1_product_148 : decode cX1_product 148 = .ok (.getfield 19, 3) := by decide +kernel
theorem dX1_product_151 : decode cX1_product 151 = .ok (.iload_n 3, 1) := by decide +kernel
theorem dX1_product_152 : decode cX1_product 152 = .ok (.iaload, 1) := by decide +kernel
theorem dX1_product_153 : decode cX1_product 153 = .ok (.iadd, 1) := by decide +kernel
theorem dX1_product_154 : decode cX1_product 154 = .ok (.invokevirtual 35, 3) := by decide +kernel
theorem dX1_product_157 : decode cX1_product 157 = .ok (.aload_n 0, 1) := by decide +kernel
theorem dX1_product_158 : decode cX1_product 158 = .ok (.getfield 19, 3) := by decide +kernel
theorem dX1_product_161 : decode cX1_product 161 = .ok (.iload_n 3, 1) := by decide +kernel
theorem dX1_product_162 : decode cX1_product 162 = .ok (.iconst 0, 1) := by decide +kernel
theorem dX1_product_163 : decode cX1_product 163 = .ok (.iastore, 1) := by decide +kernel
theorem dX1_product_164 : decode cX1_product 164 = .ok (.iinc 3 (-1), 3) := by decide +kernel
theorem dX1_product_167 : decode cX1_product 167 = .ok (.goto (-78), 3) := by decide +kernel
theorem dX1_product_170 : decode cX1_product 170 = .ok (.iconst 0, 1) := by decide +kernel
theorem dX1_product_171 : decode cX1_product 171 = .ok (.istore_n 3, 1) := by decide +kernel
theorem dX1_product_172 : decode cX1_product 172 = .ok (.iconst 0, 1) := by decide +kernel
theorem dX1_product_173 : decode cX1_product 173 = .ok (.istore 4, 2) := by decide +kernel
theorem dX1_product_175 : decode cX1_product 175 = .ok (.iload 4, 2) := by decide +kernel
theorem dX1_product_177 : decode cX1_product 177 = .ok (.aload_n 0, 1) := by decide +kernel
theorem dX1_product_178 : decode cX1_product 178 = .ok (.getfield 16, 3) := by decide +kernel
theorem dX1_product_181 : decode cX1_product 181 = .ok (.if_icmp .ge 26, 3) := by decide +kernel
theorem dX1_product_184 : decode cX1_product 184 = .ok (.iload_n 3, 1) := by decide +kernel
theorem dX1_product_185 : decode cX1_product 185 = .ok (.aload_n 0, 1) := by decide +kernel
theorem dX1_product_186 : decode cX1_product 186 = .ok (.getfield 19, 3) := by decide +kernel
theorem dX1_product_189 : decode cX1_product 189 = .ok (.iload 4, 2) := by decide +kernel
theorem dX1_product_191 : decode cX1_product 191 = .ok (.iaload, 1) := by decide +kernel
theorem dX1_product_192 : decode cX1_product 192 = .ok (.aload_n 0, 1) := by decide +kernel
theorem dX1_product_193 : decode cX1_product 193 = .ok (.iload 4, 2) := by decide +kernel
theorem dX1_product_195 : decode cX1_product 195 = .ok (.invokevirtual 23, 3) := by decide +kernel
theorem dX1_product_198 : decode cX1_product 198 = .ok (.imul, 1) := by decide +kernel
theorem dX1_product_199 : decode cX1_product 199 = .ok (.iadd, 1) := by decide +kernel
theorem dX1_product_200 : decode cX1_product 200 = .ok (.istore_n 3, 1) := by decide +kernel
theorem dX1_product_201 : decode cX1_product 201 = .ok (.iinc 4 1, 3) := by decide +kernel
theorem dX1_product_204 : decode cX1_product 204 = .ok (.goto (-29), 3) := by decide +kernel
theorem dX1_product_207 : decode cX1_product 207 = .ok (.iload_n 3, 1) := by decide +kernel
theorem dX1_product_208 : decode cX1_product 208 = .ok (.ireturn, 1) := by decide +kernel
theorem dX1_timesAt_0 : decode cX1_timesAt 0 = .ok (.aload_n 0, 1) := by decide +kernel
theorem dX1_timesAt_1 : decode cX1_timesAt 1 = .ok (.iload_n 1, 1) := by decide +kernel
theorem dX1_timesAt_2 : decode cX1_timesAt 2 = .ok (.iload_n 3, 1) := by decide +kernel
theorem dX1_timesAt_3 : decode cX1_timesAt 3 = .ok (.invokevirtual 27, 3) := by decide +kernel
theorem dX1_timesAt_6 : decode cX1_timesAt 6 = .ok (.aload_n 0, 1) := by decide +kernel
theorem dX1_timesAt_7 : decode cX1_timesAt 7 = .ok (.iload_n 2, 1) := by decide +kernel
theorem dX1_timesAt_8 : decode cX1_timesAt 8 = .ok (.iload 4, 2) := by decide +kernel
theorem dX1_timesAt_10 : decode cX1_timesAt 10 = .ok (.invokevirtual 27, 3) := by decide +kernel
theorem dX1_timesAt_13 : decode cX1_timesAt 13 = .ok (.imul, 1) := by decide +kernel
theorem dX1_timesAt_14 : decode cX1_timesAt 14 = .ok (.ireturn, 1) := by decide +kernel
theorem dX1_put_0 : decode cX1_put 0 = .ok (.aload_n 0, 1) := by decide +kernel
theorem dX1_put_1 : decode cX1_put 1 = .ok (.getfield 19, 3) := by decide +kernel
theorem dX1_put_4 : decode cX1_put 4 = .ok (.iload_n 1, 1) := by decide +kernel
theorem dX1_put_5 : decode cX1_put 5 = .ok (.aload_n 0, 1) := by decide +kernel
theorem dX1_put_6 : decode cX1_put 6 = .ok (.getfield 13, 3) := by decide +kernel
theorem dX1_put_9 : decode cX1_put 9 = .ok (.iconst 2, 1) := by decide +kernel
theorem dX1_put_10 : decode cX1_put 10 = .ok (.if_icmp .ne 9, 3) := by decide +kernel
theorem dX1_put_13 : decode cX1_put 13 = .ok (.iload_n 2, 1) := by decide +kernel
theorem dX1_put_14 : decode cX1_put 14 = .ok (.iconst 2, 1) := by decide +kernel
theorem dX1_put_15 : decode cX1_put 15 = .ok (.irem, 1) := by decide +kernel
theorem dX1_put_16 : decode cX1_put 16 = .ok (.goto 6, 3) := by decide +kernel
theorem dX1_put_19 : decode cX1_put 19 = .ok (.iload_n 2, 1) := by decide +kernel
theorem dX1_put_20 : decode cX1_put 20 = .ok (.iconst 3, 1) := by decide +kernel
theorem dX1_put_21 : decode cX1_put 21 = .ok (.irem, 1) := by decide +kernel
theorem dX1_put_22 : decode cX1_put 22 = .ok (.iastore, 1) := by decide +kernel
theorem dX1_put_23 : decode cX1_put 23 = .ok (.return_, 1) := by decide +kernel
theorem dX1_invert_0 : decode cX1_invert 0 = .ok (.aload_n 0, 1) := by decide +kernel
theorem dX1_invert_1 : decode cX1_invert 1 = .ok (.iload_n 1, 1) := by decide +kernel
theorem dX1_invert_2 : decode cX1_invert 2 = .ok (.invokevirtual 39, 3) := by decide +kernel
theorem dX1_invert_5 : decode cX1_invert 5 = .ok (.ifCond .eq 5, 3) := by decide +kernel
theorem dX1_invert_8 : decode cX1_invert 8 = .ok (.iconst (-1), 1) := by decide +kernel
theorem dX1_invert_9 : decode cX1_invert 9 = .ok (.ireturn, 1) := by decide +kernel
theorem dX1_invert_10 : decode cX1_invert 10 = .ok (.iconst 0, 1) := by decide +kernel
theorem dX1_invert_11 : decode cX1_invert 11 = .ok (.istore_n 2, 1) := by decide +kernel
theorem dX1_invert_12 : decode cX1_invert 12 = .ok (.iload_n 2, 1) := by decide +kernel
theorem dX1_invert_13 : decode cX1_invert 13 = .ok (.aload_n 0, 1) := by decide +kernel
theorem dX1_invert_14 : decode cX1_invert 14 = .ok (.getfield 7, 3) := by decide +kernel
theorem dX1_invert_17 : decode cX1_invert 17 = .ok (.if_icmp .ge 21, 3) := by decide +kernel
theorem dX1_invert_20 : decode cX1_invert 20 = .ok (.aload_n 0, 1) := by decide +kernel
theorem dX1_invert_21 : decode cX1_invert 21 = .ok (.iload_n 1, 1) := by decide +kernel
theorem dX1_invert_22 : decode cX1_invert 22 = .ok (.iload_n 2, 1) := by decide +kernel
theorem dX1_invert_23 : decode cX1_invert 23 = .ok (.invokevirtual 46, 3) := by decide +kernel
theorem dX1_invert_26 : decode cX1_invert 26 = .ok (.iconst 1, 1) := by decide +kernel
theorem dX1_invert_27 : decode cX1_invert 27 = .ok (.if_icmp .ne 5, 3) := by decide +kernel
theorem dX1_invert_30 : decode cX1_invert 30 = .ok (.iload_n 2, 1) := by decide +kernel
theorem dX1_invert_31 : decode cX1_invert 31 = .ok (.ireturn, 1) := by decide +kernel
theorem dX1_invert_32 : decode cX1_invert 32 = .ok (.iinc 2 1, 3) := by decide +kernel
theorem dX1_invert_35 : decode cX1_invert 35 = .ok (.goto (-23), 3) := by decide +kernel
theorem dX1_invert_38 : decode cX1_invert 38 = .ok (.iconst (-1), 1) := by decide +kernel
theorem dX1_invert_39 : decode cX1_invert 39 = .ok (.ireturn, 1) := by decide +kernel
theorem dX1_power_0 : decode cX1_power 0 = .ok (.aload_n 0, 1) := by decide +kernel
end
section
set_option maxRecDepth 100000
theorem dX1_power_1 : decode cX1_power 1 = .ok (.iload_n 1, 1) := by decide +kernel
theorem dX1_power_2 : decode cX1_power 2 = .ok (.invokevirtual 39, 3) := by decide +kernel
theorem dX1_power_5 : decode cX1_power 5 = .ok (.ifCond .ne 13, 3) := by decide +kernel
theorem dX1_power_8 : decode cX1_power 8 = .ok (.iload_n 2, 1) := by decide +kernel
theorem dX1_power_9 : decode cX1_power 9 = .ok (.ifCond .lt 9, 3) := by decide +kernel
theorem dX1_power_12 : decode cX1_power 12 = .ok (.iload_n 2, 1) := by decide +kernel
theorem dX1_power_13 : decode cX1_power 13 = .ok (.ldc 49, 2) := by decide +kernel
theorem dX1_power_15 : decode cX1_power 15 = .ok (.if_icmp .le 7, 3) := by decide +kernel
theorem dX1_power_18 : decode cX1_power 18 = .ok (.iconst (-1), 1) := by decide +kernel
theorem dX1_power_19 : decode cX1_power 19 = .ok (.goto 9, 3) := by decide +kernel
theorem dX1_power_22 : decode cX1_power 22 = .ok (.aload_n 0, 1) := by decide +kernel
theorem dX1_power_23 : decode cX1_power 23 = .ok (.iload_n 1, 1) := by decide +kernel
theorem dX1_power_24 : decode cX1_power 24 = .ok (.iload_n 2, 1) := by decide +kernel
theorem dX1_power_25 : decode cX1_power 25 = .ok (.invokevirtual 50, 3) := by decide +kernel
theorem dX1_power_28 : decode cX1_power 28 = .ok (.ireturn, 1) := by decide +kernel
theorem dX1_raised_0 : decode cX1_raised 0 = .ok (.iconst 1, 1) := by decide +kernel
theorem dX1_raised_1 : decode cX1_raised 1 = .ok (.istore_n 3, 1) := by decide +kernel
theorem dX1_raised_2 : decode cX1_raised 2 = .ok (.iload_n 1, 1) := by decide +kernel
theorem dX1_raised_3 : decode cX1_raised 3 = .ok (.istore 4, 2) := by decide +kernel
theorem dX1_raised_5 : decode cX1_raised 5 = .ok (.iconst 0, 1) := by decide +kernel
theorem dX1_raised_6 : decode cX1_raised 6 = .ok (.istore 5, 2) := by decide +kernel
theorem dX1_raised_8 : decode cX1_raised 8 = .ok (.iload 5, 2) := by decide +kernel
theorem dX1_raised_10 : decode cX1_raised 10 = .ok (.bipush 20, 2) := by decide +kernel
theorem dX1_raised_12 : decode cX1_raised 12 = .ok (.if_icmp .ge 37, 3) := by decide +kernel
theorem dX1_raised_15 : decode cX1_raised 15 = .ok (.iload_n 2, 1) := by decide +kernel
theorem dX1_raised_16 : decode cX1_raised 16 = .ok (.iload 5, 2) := by decide +kernel
theorem dX1_raised_18 : decode cX1_raised 18 = .ok (.ishr, 1) := by decide +kernel
theorem dX1_raised_19 : decode cX1_raised 19 = .ok (.iconst 1, 1) := by decide +kernel
theorem dX1_raised_20 : decode cX1_raised 20 = .ok (.iand, 1) := by decide +kernel
theorem dX1_raised_21 : decode cX1_raised 21 = .ok (.iconst 1, 1) := by decide +kernel
theorem dX1_raised_22 : decode cX1_raised 22 = .ok (.if_icmp .ne 11, 3) := by decide +kernel
theorem dX1_raised_25 : decode cX1_raised 25 = .ok (.aload_n 0, 1) := by decide +kernel
theorem dX1_raised_26 : decode cX1_raised 26 = .ok (.iload_n 3, 1) := by decide +kernel
theorem dX1_raised_27 : decode cX1_raised 27 = .ok (.iload 4, 2) := by decide +kernel
theorem dX1_raised_29 : decode cX1_raised 29 = .ok (.invokevirtual 46, 3) := by decide +kernel
theorem dX1_raised_32 : decode cX1_raised 32 = .ok (.istore_n 3, 1) := by decide +kernel
theorem dX1_raised_33 : decode cX1_raised 33 = .ok (.aload_n 0, 1) := by decide +kernel
theorem dX1_raised_34 : decode cX1_raised 34 = .ok (.iload 4, 2) := by decide +kernel
theorem dX1_raised_36 : decode cX1_raised 36 = .ok (.iload 4, 2) := by decide +kernel
theorem dX1_raised_38 : decode cX1_raised 38 = .ok (.invokevirtual 46, 3) := by decide +kernel
theorem dX1_raised_41 : decode cX1_raised 41 = .ok (.istore 4, 2) := by decide +kernel
theorem dX1_raised_43 : decode cX1_raised 43 = .ok (.iinc 5 1, 3) := by decide +kernel
theorem dX1_raised_46 : decode cX1_raised 46 = .ok (.goto (-38), 3) := by decide +kernel
theorem dX1_raised_49 : decode cX1_raised 49 = .ok (.iload_n 3, 1) := by decide +kernel
theorem dX1_raised_50 : decode cX1_raised 50 = .ok (.ireturn, 1) := by decide +kernel
theorem dX1_order_0 : decode cX1_order 0 = .ok (.aload_n 0, 1) := by decide +kernel
theorem dX1_order_1 : decode cX1_order 1 = .ok (.iload_n 1, 1) := by decide +kernel
theorem dX1_order_2 : decode cX1_order 2 = .ok (.invokevirtual 39, 3) := by decide +kernel
theorem dX1_order_5 : decode cX1_order 5 = .ok (.ifCond .ne 7, 3) := by decide +kernel
theorem dX1_order_8 : decode cX1_order 8 = .ok (.iload_n 1, 1) := by decide +kernel
theorem dX1_order_9 : decode cX1_order 9 = .ok (.ifCond .ne 5, 3) := by decide +kernel
theorem dX1_order_12 : decode cX1_order 12 = .ok (.iconst (-1), 1) := by decide +kernel
theorem dX1_order_13 : decode cX1_order 13 = .ok (.ireturn, 1) := by decide +kernel
theorem dX1_order_14 : decode cX1_order 14 = .ok (.iload_n 1, 1) := by decide +kernel
theorem dX1_order_15 : decode cX1_order 15 = .ok (.istore_n 2, 1) := by decide +kernel
theorem dX1_order_16 : decode cX1_order 16 = .ok (.iconst 1, 1) := by decide +kernel
theorem dX1_order_17 : decode cX1_order 17 = .ok (.istore_n 3, 1) := by decide +kernel
theorem dX1_order_18 : decode cX1_order 18 = .ok (.iload_n 2, 1) := by decide +kernel
theorem dX1_order_19 : decode cX1_order 19 = .ok (.iconst 1, 1) := by decide +kernel
theorem dX1_order_20 : decode cX1_order 20 = .ok (.if_icmp .eq 22, 3) := by decide +kernel
theorem dX1_order_23 : decode cX1_order 23 = .ok (.iload_n 3, 1) := by decide +kernel
theorem dX1_order_24 : decode cX1_order 24 = .ok (.bipush 100, 2) := by decide +kernel
theorem dX1_order_26 : decode cX1_order 26 = .ok (.if_icmp .ge 16, 3) := by decide +kernel
theorem dX1_order_29 : decode cX1_order 29 = .ok (.aload_n 0, 1) := by decide +kernel
theorem dX1_order_30 : decode cX1_order 30 = .ok (.iload_n 2, 1) := by decide +kernel
theorem dX1_order_31 : decode cX1_order 31 = .ok (.iload_n 1, 1) := by decide +kernel
theorem dX1_order_32 : decode cX1_order 32 = .ok (.invokevirtual 46, 3) := by decide +kernel
theorem dX1_order_35 : decode cX1_order 35 = .ok (.istore_n 2, 1) := by decide +kernel
theorem dX1_order_36 : decode cX1_order 36 = .ok (.iinc 3 1, 3) := by decide +kernel
theorem dX1_order_39 : decode cX1_order 39 = .ok (.goto (-21), 3) := by decide +kernel
theorem dX1_order_42 : decode cX1_order 42 = .ok (.iload_n 3, 1) := by decide +kernel
theorem dX1_order_43 : decode cX1_order 43 = .ok (.ireturn, 1) := by decide +kernel
theorem dX1_root_0 : decode cX1_root 0 = .ok (.aload_n 0, 1) := by decide +kernel
theorem dX1_root_1 : decode cX1_root 1 = .ok (.iload_n 1, 1) := by decide +kernel
theorem dX1_root_2 : decode cX1_root 2 = .ok (.invokevirtual 39, 3) := by decide +kernel
theorem dX1_root_5 : decode cX1_root 5 = .ok (.ifCond .eq 5, 3) := by decide +kernel
theorem dX1_root_8 : decode cX1_root 8 = .ok (.iconst (-1), 1) := by decide +kernel
theorem dX1_root_9 : decode cX1_root 9 = .ok (.ireturn, 1) := by decide +kernel
theorem dX1_root_10 : decode cX1_root 10 = .ok (.iconst 0, 1) := by decide +kernel
theorem dX1_root_11 : decode cX1_root 11 = .ok (.istore_n 2, 1) := by decide +kernel
theorem dX1_root_12 : decode cX1_root 12 = .ok (.iload_n 2, 1) := by decide +kernel
theorem dX1_root_13 : decode cX1_root 13 = .ok (.aload_n 0, 1) := by decide +kernel
theorem dX1_root_14 : decode cX1_root 14 = .ok (.getfield 7, 3) := by decide +kernel
theorem dX1_root_17 : decode cX1_root 17 = .ok (.if_icmp .ge 21, 3) := by decide +kernel
theorem dX1_root_20 : decode cX1_root 20 = .ok (.aload_n 0, 1) := by decide +kernel
theorem dX1_root_21 : decode cX1_root 21 = .ok (.iload_n 2, 1) := by decide +kernel
theorem dX1_root_22 : decode cX1_root 22 = .ok (.iload_n 2, 1) := by decide +kernel
theorem dX1_root_23 : decode cX1_root 23 = .ok (.invokevirtual 46, 3) := by decide +kernel
theorem dX1_root_26 : decode cX1_root 26 = .ok (.iload_n 1, 1) := by decide +kernel
theorem dX1_root_27 : decode cX1_root 27 = .ok (.if_icmp .ne 5, 3) := by decide +kernel
theorem dX1_root_30 : decode cX1_root 30 = .ok (.iload_n 2, 1) := by decide +kernel
theorem dX1_root_31 : decode cX1_root 31 = .ok (.ireturn, 1) := by decide +kernel
theorem dX1_root_32 : decode cX1_root 32 = .ok (.iinc 2 1, 3) := by decide +kernel
theorem dX1_root_35 : decode cX1_root 35 = .ok (.goto (-23), 3) := by decide +kernel
theorem dX1_root_38 : decode cX1_root 38 = .ok (.iconst (-1), 1) := by decide +kernel
theorem dX1_root_39 : decode cX1_root 39 = .ok (.ireturn, 1) := by decide +kernel
theorem dX1_roots_0 : decode cX1_roots 0 = .ok (.aload_n 0, 1) := by decide +kernel
theorem dX1_roots_1 : decode cX1_roots 1 = .ok (.iload_n 1, 1) := by decide +kernel
theorem dX1_roots_2 : decode cX1_roots 2 = .ok (.invokevirtual 39, 3) := by decide +kernel
theorem dX1_roots_5 : decode cX1_roots 5 = .ok (.ifCond .ne 14, 3) := by decide +kernel
theorem dX1_roots_8 : decode cX1_roots 8 = .ok (.iload_n 2, 1) := by decide +kernel
theorem dX1_roots_9 : decode cX1_roots 9 = .ok (.iconst 1, 1) := by decide +kernel
theorem dX1_roots_10 : decode cX1_roots 10 = .ok (.if_icmp .lt 9, 3) := by decide +kernel
theorem dX1_roots_13 : decode cX1_roots 13 = .ok (.iload_n 2, 1) := by decide +kernel
theorem dX1_roots_14 : decode cX1_roots 14 = .ok (.ldc 49, 2) := by decide +kernel
theorem dX1_roots_16 : decode cX1_roots 16 = .ok (.if_icmp .le 5, 3) := by decide +kernel
theorem dX1_roots_19 : decode cX1_roots 19 = .ok (.iconst (-1), 1) := by decide +kernel
theorem dX1_roots_20 : decode cX1_roots 20 = .ok (.ireturn, 1) := by decide +kernel
theorem dX1_roots_21 : decode cX1_roots 21 = .ok (.iconst 0, 1) := by decide +kernel
theorem dX1_roots_22 : decode cX1_roots 22 = .ok (.istore_n 3, 1) := by decide +kernel
theorem dX1_roots_23 : decode cX1_roots 23 = .ok (.iconst 0, 1) := by decide +kernel
theorem dX1_roots_24 : decode cX1_roots 24 = .ok (.istore 4, 2) := by decide +kernel
theorem dX1_roots_26 : decode cX1_roots 26 = .ok (.iload 4, 2) := by decide +kernel
theorem dX1_roots_28 : decode cX1_roots 28 = .ok (.aload_n 0, 1) := by decide +kernel
theorem dX1_roots_29 : decode cX1_roots 29 = .ok (.getfield 7, 3) := by decide +kernel
theorem dX1_roots_32 : decode cX1_roots 32 = .ok (.if_icmp .ge 23, 3) := by decide +kernel
theorem dX1_roots_35 : decode cX1_roots 35 = .ok (.aload_n 0, 1) := by decide +kernel
theorem dX1_roots_36 : decode cX1_roots 36 = .ok (.iload 4, 2) := by decide +kernel
theorem dX1_roots_38 : decode cX1_roots 38 = .ok (.iload_n 2, 1) := by decide +kernel
theorem dX1_roots_39 : decode cX1_roots 39 = .ok (.invokevirtual 50, 3) := by decide +kernel
theorem dX1_roots_42 : decode cX1_roots 42 = .ok (.iload_n 1, 1) := by decide +kernel
theorem dX1_roots_43 : decode cX1_roots 43 = .ok (.if_icmp .ne 6, 3) := by decide +kernel
theorem dX1_roots_46 : decode cX1_roots 46 = .ok (.iinc 3 1, 3) := by decide +kernel
theorem dX1_roots_49 : decode cX1_roots 49 = .ok (.iinc 4 1, 3) := by decide +kernel
theorem dX1_roots_52 : decode cX1_roots 52 = .ok (.goto (-26), 3) := by decide +kernel
theorem dX1_roots_55 : decode cX1_roots 55 = .ok (.iload_n 3, 1) := by decide +kernel
theorem dX1_roots_56 : decode cX1_roots 56 = .ok (.ireturn, 1) := by decide +kernel
theorem dX1_trace_0 : decode cX1_trace 0 = .ok (.aload_n 0, 1) := by decide +kernel
theorem dX1_trace_1 : decode cX1_trace 1 = .ok (.iload_n 1, 1) := by decide +kernel
theorem dX1_trace_2 : decode cX1_trace 2 = .ok (.invokevirtual 39, 3) := by decide +kernel
theorem dX1_trace_5 : decode cX1_trace 5 = .ok (.ifCond .ne 11, 3) := by decide +kernel
theorem dX1_trace_8 : decode cX1_trace 8 = .ok (.aload_n 0, 1) := by decide +kernel
theorem dX1_trace_9 : decode cX1_trace 9 = .ok (.iload_n 2, 1) := by decide +kernel
theorem dX1_trace_10 : decode cX1_trace 10 = .ok (.invokevirtual 53, 3) := by decide +kernel
theorem dX1_trace_13 : decode cX1_trace 13 = .ok (.ifCond .ne 5, 3) := by decide +kernel
theorem dX1_trace_16 : decode cX1_trace 16 = .ok (.iconst (-1), 1) := by decide +kernel
theorem dX1_trace_17 : decode cX1_trace 17 = .ok (.ireturn, 1) := by decide +kernel
theorem dX1_trace_18 : decode cX1_trace 18 = .ok (.iconst 0, 1) := by decide +kernel
theorem dX1_trace_19 : decode cX1_trace 19 = .ok (.istore_n 3, 1) := by decide +kernel
theorem dX1_trace_20 : decode cX1_trace 20 = .ok (.iload_n 1, 1) := by decide +kernel
theorem dX1_trace_21 : decode cX1_trace 21 = .ok (.istore 4, 2) := by decide +kernel
theorem dX1_trace_23 : decode cX1_trace 23 = .ok (.iconst 0, 1) := by decide +kernel
theorem dX1_trace_24 : decode cX1_trace 24 = .ok (.istore 5, 2) := by decide +kernel
theorem dX1_trace_26 : decode cX1_trace 26 = .ok (.iload 5, 2) := by decide +kernel
theorem dX1_trace_28 : decode cX1_trace 28 = .ok (.aload_n 0, 1) := by decide +kernel
theorem dX1_trace_29 : decode cX1_trace 29 = .ok (.iload_n 2, 1) := by decide +kernel
theorem dX1_trace_30 : decode cX1_trace 30 = .ok (.invokevirtual 53, 3) := by decide +kernel
theorem dX1_trace_33 : decode cX1_trace 33 = .ok (.if_icmp .ge 26, 3) := by decide +kernel
theorem dX1_trace_36 : decode cX1_trace 36 = .ok (.aload_n 0, 1) := by decide +kernel
theorem dX1_trace_37 : decode cX1_trace 37 = .ok (.iload_n 3, 1) := by decide +kernel
theorem dX1_trace_38 : decode cX1_trace 38 = .ok (.iload 4, 2) := by decide +kernel
theorem dX1_trace_40 : decode cX1_trace 40 = .ok (.invokevirtual 43, 3) := by decide +kernel
theorem dX1_trace_43 : decode cX1_trace 43 = .ok (.istore_n 3, 1) := by decide +kernel
theorem dX1_trace_44 : decode cX1_trace 44 = .ok (.aload_n 0, 1) := by decide +kernel
theorem dX1_trace_45 : decode cX1_trace 45 = .ok (.iload 4, 2) := by decide +kernel
theorem dX1_trace_47 : decode cX1_trace 47 = .ok (.iload_n 2, 1) := by decide +kernel
theorem dX1_trace_48 : decode cX1_trace 48 = .ok (.invokevirtual 50, 3) := by decide +kernel
theorem dX1_trace_51 : decode cX1_trace 51 = .ok (.istore 4, 2) := by decide +kernel
theorem dX1_trace_53 : decode cX1_trace 53 = .ok (.iinc 5 1, 3) := by decide +kernel
theorem dX1_trace_56 : decode cX1_trace 56 = .ok (.goto (-30), 3) := by decide +kernel
theorem dX1_trace_59 : decode cX1_trace 59 = .ok (.iload_n 3, 1) := by decide +kernel
theorem dX1_trace_60 : decode cX1_trace 60 = .ok (.ireturn, 1) := by decide +kernel
theorem dX1_steps_0 : decode cX1_steps 0 = .ok (.aload_n 0, 1) := by decide +kernel
theorem dX1_steps_1 : decode cX1_steps 1 = .ok (.getfield 7, 3) := by decide +kernel
theorem dX1_steps_4 : decode cX1_steps 4 = .ok (.bipush 64, 2) := by decide +kernel
theorem dX1_steps_6 : decode cX1_steps 6 = .ok (.if_icmp .ne 44, 3) := by decide +kernel
theorem dX1_steps_9 : decode cX1_steps 9 = .ok (.iload_n 1, 1) := by decide +kernel
theorem dX1_steps_10 : decode cX1_steps 10 = .ok (.iconst 2, 1) := by decide +kernel
theorem dX1_steps_11 : decode cX1_steps 11 = .ok (.if_icmp .ne 8, 3) := by decide +kernel
theorem dX1_steps_14 : decode cX1_steps 14 = .ok (.bipush 6, 2) := by decide +kernel
theorem dX1_steps_16 : decode cX1_steps 16 = .ok (.goto 33, 3) := by decide +kernel
theorem dX1_steps_19 : decode cX1_steps 19 = .ok (.iload_n 1, 1) := by decide +kernel
theorem dX1_steps_20 : decode cX1_steps 20 = .ok (.iconst 4, 1) := by decide +kernel
theorem dX1_steps_21 : decode cX1_steps 21 = .ok (.if_icmp .ne 7, 3) := by decide +kernel
theorem dX1_steps_24 : decode cX1_steps 24 = .ok (.iconst 3, 1) := by decide +kernel
theorem dX1_steps_25 : decode cX1_steps 25 = .ok (.goto 24, 3) := by decide +kernel
theorem dX1_steps_28 : decode cX1_steps 28 = .ok (.iload_n 1, 1) := by decide +kernel
theorem dX1_steps_29 : decode cX1_steps 29 = .ok (.bipush 8, 2) := by decide +kernel
theorem dX1_steps_31 : decode cX1_steps 31 = .ok (.if_icmp .ne 7, 3) := by decide +kernel
theorem dX1_steps_34 : decode cX1_steps 34 = .ok (.iconst 2, 1) := by decide +kernel
theorem dX1_steps_35 : decode cX1_steps 35 = .ok (.goto 14, 3) := by decide +kernel
theorem dX1_steps_38 : decode cX1_steps 38 = .ok (.iload_n 1, 1) := by decide +kernel
theorem dX1_steps_39 : decode cX1_steps 39 = .ok (.bipush 64, 2) := by decide +kernel
theorem dX1_steps_41 : decode cX1_steps 41 = .ok (.if_icmp .ne 7, 3) := by decide +kernel
theorem dX1_steps_44 : decode cX1_steps 44 = .ok (.iconst 1, 1) := by decide +kernel
theorem dX1_steps_45 : decode cX1_steps 45 = .ok (.goto 4, 3) := by decide +kernel
theorem dX1_steps_48 : decode cX1_steps 48 = .ok (.iconst 0, 1) := by decide +kernel
theorem dX1_steps_49 : decode cX1_steps 49 = .ok (.ireturn, 1) := by decide +kernel
theorem dX1_steps_50 : decode cX1_steps 50 = .ok (.iload_n 1, 1) := by decide +kernel
theorem dX1_steps_51 : decode cX1_steps 51 = .ok (.iconst 3, 1) := by decide +kernel
theorem dX1_steps_52 : decode cX1_steps 52 = .ok (.if_icmp .ne 7, 3) := by decide +kernel
theorem dX1_steps_55 : decode cX1_steps 55 = .ok (.iconst 4, 1) := by decide +kernel
theorem dX1_steps_56 : decode cX1_steps 56 = .ok (.goto 24, 3) := by decide +kernel
theorem dX1_steps_59 : decode cX1_steps 59 = .ok (.iload_n 1, 1) := by decide +kernel
theorem dX1_steps_60 : decode cX1_steps 60 = .ok (.bipush 9, 2) := by decide +kernel
theorem dX1_steps_62 : decode cX1_steps 62 = .ok (.if_icmp .ne 7, 3) := by decide +kernel
theorem dX1_steps_65 : decode cX1_steps 65 = .ok (.iconst 2, 1) := by decide +kernel
theorem dX1_steps_66 : decode cX1_steps 66 = .ok (.goto 14, 3) := by decide +kernel
theorem dX1_steps_69 : decode cX1_steps 69 = .ok (.iload_n 1, 1) := by decide +kernel
theorem dX1_steps_70 : decode cX1_steps 70 = .ok (.bipush 81, 2) := by decide +kernel
theorem dX1_steps_72 : decode cX1_steps 72 = .ok (.if_icmp .ne 7, 3) := by decide +kernel
theorem dX1_steps_75 : decode cX1_steps 75 = .ok (.iconst 1, 1) := by decide +kernel
theorem dX1_steps_76 : decode cX1_steps 76 = .ok (.goto 4, 3) := by decide +kernel
theorem dX1_steps_79 : decode cX1_steps 79 = .ok (.iconst 0, 1) := by decide +kernel
theorem dX1_steps_80 : decode cX1_steps 80 = .ok (.ireturn, 1) := by decide +kernel
theorem dX1_home_0 : decode cX1_home 0 = .ok (.aload_n 0, 1) := by decide +kernel
theorem dX1_home_1 : decode cX1_home 1 = .ok (.iload_n 1, 1) := by decide +kernel
theorem dX1_home_2 : decode cX1_home 2 = .ok (.invokevirtual 39, 3) := by decide +kernel
theorem dX1_home_5 : decode cX1_home 5 = .ok (.ifCond .eq 5, 3) := by decide +kernel
theorem dX1_home_8 : decode cX1_home 8 = .ok (.iconst (-1), 1) := by decide +kernel
theorem dX1_home_9 : decode cX1_home 9 = .ok (.ireturn, 1) := by decide +kernel
theorem dX1_home_10 : decode cX1_home 10 = .ok (.iconst 2, 1) := by decide +kernel
theorem dX1_home_11 : decode cX1_home 11 = .ok (.istore_n 2, 1) := by decide +kernel
theorem dX1_home_12 : decode cX1_home 12 = .ok (.iload_n 2, 1) := by decide +kernel
theorem dX1_home_13 : decode cX1_home 13 = .ok (.aload_n 0, 1) := by decide +kernel
theorem dX1_home_14 : decode cX1_home 14 = .ok (.getfield 7, 3) := by decide +kernel
theorem dX1_home_17 : decode cX1_home 17 = .ok (.if_icmp .ge 29, 3) := by decide +kernel
theorem dX1_home_20 : decode cX1_home 20 = .ok (.aload_n 0, 1) := by decide +kernel
theorem dX1_home_21 : decode cX1_home 21 = .ok (.iload_n 2, 1) := by decide +kernel
theorem dX1_home_22 : decode cX1_home 22 = .ok (.invokevirtual 53, 3) := by decide +kernel
theorem dX1_home_25 : decode cX1_home 25 = .ok (.ifCond .le 15, 3) := by decide +kernel
theorem dX1_home_28 : decode cX1_home 28 = .ok (.aload_n 0, 1) := by decide +kernel
theorem dX1_home_29 : decode cX1_home 29 = .ok (.iload_n 1, 1) := by decide +kernel
theorem dX1_home_30 : decode cX1_home 30 = .ok (.iload_n 2, 1) := by decide +kernel
theorem dX1_home_31 : decode cX1_home 31 = .ok (.invokevirtual 50, 3) := by decide +kernel
theorem dX1_home_34 : decode cX1_home 34 = .ok (.iload_n 1, 1) := by decide +kernel
theorem dX1_home_35 : decode cX1_home 35 = .ok (.if_icmp .ne 5, 3) := by decide +kernel
theorem dX1_home_38 : decode cX1_home 38 = .ok (.iload_n 2, 1) := by decide +kernel
theorem dX1_home_39 : decode cX1_home 39 = .ok (.ireturn, 1) := by decide +kernel
theorem dX1_home_40 : decode cX1_home 40 = .ok (.iinc 2 1, 3) := by decide +kernel
theorem dX1_home_43 : decode cX1_home 43 = .ok (.goto (-31), 3) := by decide +kernel
theorem dX1_home_46 : decode cX1_home 46 = .ok (.aload_n 0, 1) := by decide +kernel
theorem dX1_home_47 : decode cX1_home 47 = .ok (.getfield 7, 3) := by decide +kernel
theorem dX1_home_50 : decode cX1_home 50 = .ok (.ireturn, 1) := by decide +kernel
theorem dX1_logarithm_0 : decode cX1_logarithm 0 = .ok (.aload_n 0, 1) := by decide +kernel
theorem dX1_logarithm_1 : decode cX1_logarithm 1 = .ok (.iload_n 1, 1) := by decide +kernel
theorem dX1_logarithm_2 : decode cX1_logarithm 2 = .ok (.invokevirtual 39, 3) := by decide +kernel
theorem dX1_logarithm_5 : decode cX1_logarithm 5 = .ok (.ifCond .ne 19, 3) := by decide +kernel
theorem dX1_logarithm_8 : decode cX1_logarithm 8 = .ok (.aload_n 0, 1) := by decide +kernel
theorem dX1_logarithm_9 : decode cX1_logarithm 9 = .ok (.iload_n 2, 1) := by decide +kernel
theorem dX1_logarithm_10 : decode cX1_logarithm 10 = .ok (.invokevirtual 39, 3) := by decide +kernel
theorem dX1_logarithm_13 : decode cX1_logarithm 13 = .ok (.ifCond .ne 11, 3) := by decide +kernel
theorem dX1_logarithm_16 : decode cX1_logarithm 16 = .ok (.iload_n 1, 1) := by decide +kernel
theorem dX1_logarithm_17 : decode cX1_logarithm 17 = .ok (.ifCond .eq 7, 3) := by decide +kernel
theorem dX1_logarithm_20 : decode cX1_logarithm 20 = .ok (.iload_n 2, 1) := by decide +kernel
theorem dX1_logarithm_21 : decode cX1_logarithm 21 = .ok (.ifCond .ne 5, 3) := by decide +kernel
theorem dX1_logarithm_24 : decode cX1_logarithm 24 = .ok (.iconst (-1), 1) := by decide +kernel
theorem dX1_logarithm_25 : decode cX1_logarithm 25 = .ok (.ireturn, 1) := by decide +kernel
theorem dX1_logarithm_26 : decode cX1_logarithm 26 = .ok (.iconst 1, 1) := by decide +kernel
theorem dX1_logarithm_27 : decode cX1_logarithm 27 = .ok (.istore_n 3, 1) := by decide +kernel
theorem dX1_logarithm_28 : decode cX1_logarithm 28 = .ok (.iconst 0, 1) := by decide +kernel
theorem dX1_logarithm_29 : decode cX1_logarithm 29 = .ok (.istore 4, 2) := by decide +kernel
theorem dX1_logarithm_31 : decode cX1_logarithm 31 = .ok (.iload 4, 2) := by decide +kernel
theorem dX1_logarithm_33 : decode cX1_logarithm 33 = .ok (.aload_n 0, 1) := by decide +kernel
theorem dX1_logarithm_34 : decode cX1_logarithm 34 = .ok (.getfield 7, 3) := by decide +kernel
theorem dX1_logarithm_37 : decode cX1_logarithm 37 = .ok (.if_icmp .ge 24, 3) := by decide +kernel
theorem dX1_logarithm_40 : decode cX1_logarithm 40 = .ok (.iload_n 3, 1) := by decide +kernel
theorem dX1_logarithm_41 : decode cX1_logarithm 41 = .ok (.iload_n 2, 1) := by decide +kernel
theorem dX1_logarithm_42 : decode cX1_logarithm 42 = .ok (.if_icmp .ne 6, 3) := by decide +kernel
theorem dX1_logarithm_45 : decode cX1_logarithm 45 = .ok (.iload 4, 2) := by decide +kernel
theorem dX1_logarithm_47 : decode cX1_logarithm 47 = .ok (.ireturn, 1) := by decide +kernel
theorem dX1_logarithm_48 : decode cX1_logarithm 48 = .ok (.aload_n 0, 1) := by decide +kernel
theorem dX1_logarithm_49 : decode cX1_logarithm 49 = .ok (.iload_n 3, 1) := by decide +kernel
theorem dX1_logarithm_50 : decode cX1_logarithm 50 = .ok (.iload_n 1, 1) := by decide +kernel
theorem dX1_logarithm_51 : decode cX1_logarithm 51 = .ok (.invokevirtual 46, 3) := by decide +kernel
theorem dX1_logarithm_54 : decode cX1_logarithm 54 = .ok (.istore_n 3, 1) := by decide +kernel
theorem dX1_logarithm_55 : decode cX1_logarithm 55 = .ok (.iinc 4 1, 3) := by decide +kernel
theorem dX1_logarithm_58 : decode cX1_logarithm 58 = .ok (.goto (-27), 3) := by decide +kernel
theorem dX1_logarithm_61 : decode cX1_logarithm 61 = .ok (.iconst (-1), 1) := by decide +kernel
theorem dX1_logarithm_62 : decode cX1_logarithm 62 = .ok (.ireturn, 1) := by decide +kernel
theorem dL_law_0 : decode cL_law 0 = .ok (.new 7, 3) := by decide +kernel
theorem dL_law_3 : decode cL_law 3 = .ok (.dup, 1) := by decide +kernel
theorem dL_law_4 : decode cL_law 4 = .ok (.invokespecial 9, 3) := by decide +kernel
theorem dL_law_7 : decode cL_law 7 = .ok (.astore_n 1, 1) := by decide +kernel
theorem dL_law_8 : decode cL_law 8 = .ok (.new 10, 3) := by decide +kernel
theorem dL_law_11 : decode cL_law 11 = .ok (.dup, 1) := by decide +kernel
theorem dL_law_12 : decode cL_law 12 = .ok (.invokespecial 12, 3) := by decide +kernel
theorem dL_law_15 : decode cL_law 15 = .ok (.astore_n 2, 1) := by decide +kernel
theorem dL_law_16 : decode cL_law 16 = .ok (.iconst 0, 1) := by decide +kernel
theorem dL_law_17 : decode cL_law 17 = .ok (.istore_n 3, 1) := by decide +kernel
end
section
set_option maxRecDepth 100000
theorem dL_law_18 : decode cL_law 18 = .ok (.iload_n 3, 1) := by decide +kernel
theorem dL_law_19 : decode cL_law 19 = .ok (.aload_n 0, 1) := by decide +kernel
theorem dL_law_20 : decode cL_law 20 = .ok (.arraylength, 1) := by decide +kernel
theorem dL_law_21 : decode cL_law 21 = .ok (.iconst 3, 1) := by decide +kernel
theorem dL_law_22 : decode cL_law 22 = .ok (.isub, 1) := by decide +kernel
theorem dL_law_23 : decode cL_law 23 = .ok (.if_icmp .gt 388, 3) := by decide +kernel
theorem dL_law_26 : decode cL_law 26 = .ok (.aload_n 0, 1) := by decide +kernel
theorem dL_law_27 : decode cL_law 27 = .ok (.iload_n 3, 1) := by decide +kernel
theorem dL_law_28 : decode cL_law 28 = .ok (.iaload, 1) := by decide +kernel
theorem dL_law_29 : decode cL_law 29 = .ok (.bipush 15, 2) := by decide +kernel
theorem dL_law_31 : decode cL_law 31 = .ok (.iand, 1) := by decide +kernel
theorem dL_law_32 : decode cL_law 32 = .ok (.tableswitch 373 0 10 #[60, 83, 116, 149, 172, 205, 228, 251, 284, 317, 340], 60) := by decide +kernel
theorem dL_law_92 : decode cL_law 92 = .ok (.aload_n 1, 1) := by decide +kernel
theorem dL_law_93 : decode cL_law 93 = .ok (.aload_n 0, 1) := by decide +kernel
theorem dL_law_94 : decode cL_law 94 = .ok (.iload_n 3, 1) := by decide +kernel
theorem dL_law_95 : decode cL_law 95 = .ok (.iconst 1, 1) := by decide +kernel
theorem dL_law_96 : decode cL_law 96 = .ok (.iadd, 1) := by decide +kernel
theorem dL_law_97 : decode cL_law 97 = .ok (.iaload, 1) := by decide +kernel
theorem dL_law_98 : decode cL_law 98 = .ok (.invokevirtual 13, 3) := by decide +kernel
theorem dL_law_101 : decode cL_law 101 = .ok (.aload_n 2, 1) := by decide +kernel
theorem dL_law_102 : decode cL_law 102 = .ok (.aload_n 0, 1) := by decide +kernel
theorem dL_law_103 : decode cL_law 103 = .ok (.iload_n 3, 1) := by decide +kernel
theorem dL_law_104 : decode cL_law 104 = .ok (.iconst 1, 1) := by decide +kernel
theorem dL_law_105 : decode cL_law 105 = .ok (.iadd, 1) := by decide +kernel
theorem dL_law_106 : decode cL_law 106 = .ok (.iaload, 1) := by decide +kernel
theorem dL_law_107 : decode cL_law 107 = .ok (.invokevirtual 17, 3) := by decide +kernel
theorem dL_law_110 : decode cL_law 110 = .ok (.if_icmp .eq 295, 3) := by decide +kernel
theorem dL_law_113 : decode cL_law 113 = .ok (.iconst 0, 1) := by decide +kernel
theorem dL_law_114 : decode cL_law 114 = .ok (.ireturn, 1) := by decide +kernel
theorem dL_law_115 : decode cL_law 115 = .ok (.aload_n 1, 1) := by decide +kernel
theorem dL_law_116 : decode cL_law 116 = .ok (.aload_n 0, 1) := by decide +kernel
theorem dL_law_117 : decode cL_law 117 = .ok (.iload_n 3, 1) := by decide +kernel
theorem dL_law_118 : decode cL_law 118 = .ok (.iconst 1, 1) := by decide +kernel
theorem dL_law_119 : decode cL_law 119 = .ok (.iadd, 1) := by decide +kernel
theorem dL_law_120 : decode cL_law 120 = .ok (.iaload, 1) := by decide +kernel
theorem dL_law_121 : decode cL_law 121 = .ok (.aload_n 0, 1) := by decide +kernel
theorem dL_law_122 : decode cL_law 122 = .ok (.iload_n 3, 1) := by decide +kernel
theorem dL_law_123 : decode cL_law 123 = .ok (.iconst 2, 1) := by decide +kernel
theorem dL_law_124 : decode cL_law 124 = .ok (.iadd, 1) := by decide +kernel
theorem dL_law_125 : decode cL_law 125 = .ok (.iaload, 1) := by decide +kernel
theorem dL_law_126 : decode cL_law 126 = .ok (.invokevirtual 18, 3) := by decide +kernel
theorem dL_law_129 : decode cL_law 129 = .ok (.aload_n 2, 1) := by decide +kernel
theorem dL_law_130 : decode cL_law 130 = .ok (.aload_n 0, 1) := by decide +kernel
theorem dL_law_131 : decode cL_law 131 = .ok (.iload_n 3, 1) := by decide +kernel
theorem dL_law_132 : decode cL_law 132 = .ok (.iconst 1, 1) := by decide +kernel
theorem dL_law_133 : decode cL_law 133 = .ok (.iadd, 1) := by decide +kernel
theorem dL_law_134 : decode cL_law 134 = .ok (.iaload, 1) := by decide +kernel
theorem dL_law_135 : decode cL_law 135 = .ok (.aload_n 0, 1) := by decide +kernel
theorem dL_law_136 : decode cL_law 136 = .ok (.iload_n 3, 1) := by decide +kernel
theorem dL_law_137 : decode cL_law 137 = .ok (.iconst 2, 1) := by decide +kernel
theorem dL_law_138 : decode cL_law 138 = .ok (.iadd, 1) := by decide +kernel
theorem dL_law_139 : decode cL_law 139 = .ok (.iaload, 1) := by decide +kernel
theorem dL_law_140 : decode cL_law 140 = .ok (.invokevirtual 22, 3) := by decide +kernel
theorem dL_law_143 : decode cL_law 143 = .ok (.if_icmp .eq 262, 3) := by decide +kernel
theorem dL_law_146 : decode cL_law 146 = .ok (.iconst 0, 1) := by decide +kernel
theorem dL_law_147 : decode cL_law 147 = .ok (.ireturn, 1) := by decide +kernel
theorem dL_law_148 : decode cL_law 148 = .ok (.aload_n 1, 1) := by decide +kernel
theorem dL_law_149 : decode cL_law 149 = .ok (.aload_n 0, 1) := by decide +kernel
theorem dL_law_150 : decode cL_law 150 = .ok (.iload_n 3, 1) := by decide +kernel
theorem dL_law_151 : decode cL_law 151 = .ok (.iconst 1, 1) := by decide +kernel
theorem dL_law_152 : decode cL_law 152 = .ok (.iadd, 1) := by decide +kernel
theorem dL_law_153 : decode cL_law 153 = .ok (.iaload, 1) := by decide +kernel
theorem dL_law_154 : decode cL_law 154 = .ok (.aload_n 0, 1) := by decide +kernel
theorem dL_law_155 : decode cL_law 155 = .ok (.iload_n 3, 1) := by decide +kernel
theorem dL_law_156 : decode cL_law 156 = .ok (.iconst 2, 1) := by decide +kernel
theorem dL_law_157 : decode cL_law 157 = .ok (.iadd, 1) := by decide +kernel
theorem dL_law_158 : decode cL_law 158 = .ok (.iaload, 1) := by decide +kernel
theorem dL_law_159 : decode cL_law 159 = .ok (.invokevirtual 23, 3) := by decide +kernel
theorem dL_law_162 : decode cL_law 162 = .ok (.aload_n 2, 1) := by decide +kernel
theorem dL_law_163 : decode cL_law 163 = .ok (.aload_n 0, 1) := by decide +kernel
theorem dL_law_164 : decode cL_law 164 = .ok (.iload_n 3, 1) := by decide +kernel
theorem dL_law_165 : decode cL_law 165 = .ok (.iconst 1, 1) := by decide +kernel
theorem dL_law_166 : decode cL_law 166 = .ok (.iadd, 1) := by decide +kernel
theorem dL_law_167 : decode cL_law 167 = .ok (.iaload, 1) := by decide +kernel
theorem dL_law_168 : decode cL_law 168 = .ok (.aload_n 0, 1) := by decide +kernel
theorem dL_law_169 : decode cL_law 169 = .ok (.iload_n 3, 1) := by decide +kernel
theorem dL_law_170 : decode cL_law 170 = .ok (.iconst 2, 1) := by decide +kernel
theorem dL_law_171 : decode cL_law 171 = .ok (.iadd, 1) := by decide +kernel
theorem dL_law_172 : decode cL_law 172 = .ok (.iaload, 1) := by decide +kernel
theorem dL_law_173 : decode cL_law 173 = .ok (.invokevirtual 26, 3) := by decide +kernel
theorem dL_law_176 : decode cL_law 176 = .ok (.if_icmp .eq 229, 3) := by decide +kernel
theorem dL_law_179 : decode cL_law 179 = .ok (.iconst 0, 1) := by decide +kernel
theorem dL_law_180 : decode cL_law 180 = .ok (.ireturn, 1) := by decide +kernel
theorem dL_law_181 : decode cL_law 181 = .ok (.aload_n 1, 1) := by decide +kernel
theorem dL_law_182 : decode cL_law 182 = .ok (.aload_n 0, 1) := by decide +kernel
theorem dL_law_183 : decode cL_law 183 = .ok (.iload_n 3, 1) := by decide +kernel
theorem dL_law_184 : decode cL_law 184 = .ok (.iconst 1, 1) := by decide +kernel
theorem dL_law_185 : decode cL_law 185 = .ok (.iadd, 1) := by decide +kernel
theorem dL_law_186 : decode cL_law 186 = .ok (.iaload, 1) := by decide +kernel
theorem dL_law_187 : decode cL_law 187 = .ok (.invokevirtual 27, 3) := by decide +kernel
theorem dL_law_190 : decode cL_law 190 = .ok (.aload_n 2, 1) := by decide +kernel
theorem dL_law_191 : decode cL_law 191 = .ok (.aload_n 0, 1) := by decide +kernel
theorem dL_law_192 : decode cL_law 192 = .ok (.iload_n 3, 1) := by decide +kernel
theorem dL_law_193 : decode cL_law 193 = .ok (.iconst 1, 1) := by decide +kernel
theorem dL_law_194 : decode cL_law 194 = .ok (.iadd, 1) := by decide +kernel
theorem dL_law_195 : decode cL_law 195 = .ok (.iaload, 1) := by decide +kernel
theorem dL_law_196 : decode cL_law 196 = .ok (.invokevirtual 30, 3) := by decide +kernel
theorem dL_law_199 : decode cL_law 199 = .ok (.if_icmp .eq 206, 3) := by decide +kernel
theorem dL_law_202 : decode cL_law 202 = .ok (.iconst 0, 1) := by decide +kernel
theorem dL_law_203 : decode cL_law 203 = .ok (.ireturn, 1) := by decide +kernel
theorem dL_law_204 : decode cL_law 204 = .ok (.aload_n 1, 1) := by decide +kernel
theorem dL_law_205 : decode cL_law 205 = .ok (.aload_n 0, 1) := by decide +kernel
theorem dL_law_206 : decode cL_law 206 = .ok (.iload_n 3, 1) := by decide +kernel
theorem dL_law_207 : decode cL_law 207 = .ok (.iconst 1, 1) := by decide +kernel
theorem dL_law_208 : decode cL_law 208 = .ok (.iadd, 1) := by decide +kernel
theorem dL_law_209 : decode cL_law 209 = .ok (.iaload, 1) := by decide +kernel
theorem dL_law_210 : decode cL_law 210 = .ok (.aload_n 0, 1) := by decide +kernel
theorem dL_law_211 : decode cL_law 211 = .ok (.iload_n 3, 1) := by decide +kernel
theorem dL_law_212 : decode cL_law 212 = .ok (.iconst 2, 1) := by decide +kernel
theorem dL_law_213 : decode cL_law 213 = .ok (.iadd, 1) := by decide +kernel
theorem dL_law_214 : decode cL_law 214 = .ok (.iaload, 1) := by decide +kernel
theorem dL_law_215 : decode cL_law 215 = .ok (.invokevirtual 31, 3) := by decide +kernel
theorem dL_law_218 : decode cL_law 218 = .ok (.aload_n 2, 1) := by decide +kernel
theorem dL_law_219 : decode cL_law 219 = .ok (.aload_n 0, 1) := by decide +kernel
theorem dL_law_220 : decode cL_law 220 = .ok (.iload_n 3, 1) := by decide +kernel
theorem dL_law_221 : decode cL_law 221 = .ok (.iconst 1, 1) := by decide +kernel
theorem dL_law_222 : decode cL_law 222 = .ok (.iadd, 1) := by decide +kernel
theorem dL_law_223 : decode cL_law 223 = .ok (.iaload, 1) := by decide +kernel
theorem dL_law_224 : decode cL_law 224 = .ok (.aload_n 0, 1) := by decide +kernel
theorem dL_law_225 : decode cL_law 225 = .ok (.iload_n 3, 1) := by decide +kernel
theorem dL_law_226 : decode cL_law 226 = .ok (.iconst 2, 1) := by decide +kernel
theorem dL_law_227 : decode cL_law 227 = .ok (.iadd, 1) := by decide +kernel
theorem dL_law_228 : decode cL_law 228 = .ok (.iaload, 1) := by decide +kernel
theorem dL_law_229 : decode cL_law 229 = .ok (.invokevirtual 34, 3) := by decide +kernel
theorem dL_law_232 : decode cL_law 232 = .ok (.if_icmp .eq 173, 3) := by decide +kernel
theorem dL_law_235 : decode cL_law 235 = .ok (.iconst 0, 1) := by decide +kernel
theorem dL_law_236 : decode cL_law 236 = .ok (.ireturn, 1) := by decide +kernel
theorem dL_law_237 : decode cL_law 237 = .ok (.aload_n 1, 1) := by decide +kernel
theorem dL_law_238 : decode cL_law 238 = .ok (.aload_n 0, 1) := by decide +kernel
theorem dL_law_239 : decode cL_law 239 = .ok (.iload_n 3, 1) := by decide +kernel
theorem dL_law_240 : decode cL_law 240 = .ok (.iconst 1, 1) := by decide +kernel
theorem dL_law_241 : decode cL_law 241 = .ok (.iadd, 1) := by decide +kernel
theorem dL_law_242 : decode cL_law 242 = .ok (.iaload, 1) := by decide +kernel
theorem dL_law_243 : decode cL_law 243 = .ok (.invokevirtual 35, 3) := by decide +kernel
theorem dL_law_246 : decode cL_law 246 = .ok (.aload_n 2, 1) := by decide +kernel
theorem dL_law_247 : decode cL_law 247 = .ok (.aload_n 0, 1) := by decide +kernel
theorem dL_law_248 : decode cL_law 248 = .ok (.iload_n 3, 1) := by decide +kernel
theorem dL_law_249 : decode cL_law 249 = .ok (.iconst 1, 1) := by decide +kernel
theorem dL_law_250 : decode cL_law 250 = .ok (.iadd, 1) := by decide +kernel
theorem dL_law_251 : decode cL_law 251 = .ok (.iaload, 1) := by decide +kernel
theorem dL_law_252 : decode cL_law 252 = .ok (.invokevirtual 38, 3) := by decide +kernel
theorem dL_law_255 : decode cL_law 255 = .ok (.if_icmp .eq 150, 3) := by decide +kernel
theorem dL_law_258 : decode cL_law 258 = .ok (.iconst 0, 1) := by decide +kernel
theorem dL_law_259 : decode cL_law 259 = .ok (.ireturn, 1) := by decide +kernel
theorem dL_law_260 : decode cL_law 260 = .ok (.aload_n 1, 1) := by decide +kernel
theorem dL_law_261 : decode cL_law 261 = .ok (.aload_n 0, 1) := by decide +kernel
theorem dL_law_262 : decode cL_law 262 = .ok (.iload_n 3, 1) := by decide +kernel
theorem dL_law_263 : decode cL_law 263 = .ok (.iconst 1, 1) := by decide +kernel
theorem dL_law_264 : decode cL_law 264 = .ok (.iadd, 1) := by decide +kernel
theorem dL_law_265 : decode cL_law 265 = .ok (.iaload, 1) := by decide +kernel
theorem dL_law_266 : decode cL_law 266 = .ok (.invokevirtual 39, 3) := by decide +kernel
theorem dL_law_269 : decode cL_law 269 = .ok (.aload_n 2, 1) := by decide +kernel
theorem dL_law_270 : decode cL_law 270 = .ok (.aload_n 0, 1) := by decide +kernel
theorem dL_law_271 : decode cL_law 271 = .ok (.iload_n 3, 1) := by decide +kernel
theorem dL_law_272 : decode cL_law 272 = .ok (.iconst 1, 1) := by decide +kernel
theorem dL_law_273 : decode cL_law 273 = .ok (.iadd, 1) := by decide +kernel
theorem dL_law_274 : decode cL_law 274 = .ok (.iaload, 1) := by decide +kernel
theorem dL_law_275 : decode cL_law 275 = .ok (.invokevirtual 42, 3) := by decide +kernel
theorem dL_law_278 : decode cL_law 278 = .ok (.if_icmp .eq 127, 3) := by decide +kernel
theorem dL_law_281 : decode cL_law 281 = .ok (.iconst 0, 1) := by decide +kernel
theorem dL_law_282 : decode cL_law 282 = .ok (.ireturn, 1) := by decide +kernel
theorem dL_law_283 : decode cL_law 283 = .ok (.aload_n 1, 1) := by decide +kernel
theorem dL_law_284 : decode cL_law 284 = .ok (.aload_n 0, 1) := by decide +kernel
theorem dL_law_285 : decode cL_law 285 = .ok (.iload_n 3, 1) := by decide +kernel
theorem dL_law_286 : decode cL_law 286 = .ok (.iconst 1, 1) := by decide +kernel
theorem dL_law_287 : decode cL_law 287 = .ok (.iadd, 1) := by decide +kernel
theorem dL_law_288 : decode cL_law 288 = .ok (.iaload, 1) := by decide +kernel
theorem dL_law_289 : decode cL_law 289 = .ok (.aload_n 0, 1) := by decide +kernel
theorem dL_law_290 : decode cL_law 290 = .ok (.iload_n 3, 1) := by decide +kernel
theorem dL_law_291 : decode cL_law 291 = .ok (.iconst 2, 1) := by decide +kernel
theorem dL_law_292 : decode cL_law 292 = .ok (.iadd, 1) := by decide +kernel
theorem dL_law_293 : decode cL_law 293 = .ok (.iaload, 1) := by decide +kernel
theorem dL_law_294 : decode cL_law 294 = .ok (.invokevirtual 43, 3) := by decide +kernel
theorem dL_law_297 : decode cL_law 297 = .ok (.aload_n 2, 1) := by decide +kernel
theorem dL_law_298 : decode cL_law 298 = .ok (.aload_n 0, 1) := by decide +kernel
theorem dL_law_299 : decode cL_law 299 = .ok (.iload_n 3, 1) := by decide +kernel
theorem dL_law_300 : decode cL_law 300 = .ok (.iconst 1, 1) := by decide +kernel
theorem dL_law_301 : decode cL_law 301 = .ok (.iadd, 1) := by decide +kernel
theorem dL_law_302 : decode cL_law 302 = .ok (.iaload, 1) := by decide +kernel
theorem dL_law_303 : decode cL_law 303 = .ok (.aload_n 0, 1) := by decide +kernel
theorem dL_law_304 : decode cL_law 304 = .ok (.iload_n 3, 1) := by decide +kernel
theorem dL_law_305 : decode cL_law 305 = .ok (.iconst 2, 1) := by decide +kernel
theorem dL_law_306 : decode cL_law 306 = .ok (.iadd, 1) := by decide +kernel
theorem dL_law_307 : decode cL_law 307 = .ok (.iaload, 1) := by decide +kernel
theorem dL_law_308 : decode cL_law 308 = .ok (.invokevirtual 46, 3) := by decide +kernel
theorem dL_law_311 : decode cL_law 311 = .ok (.if_icmp .eq 94, 3) := by decide +kernel
theorem dL_law_314 : decode cL_law 314 = .ok (.iconst 0, 1) := by decide +kernel
theorem dL_law_315 : decode cL_law 315 = .ok (.ireturn, 1) := by decide +kernel
theorem dL_law_316 : decode cL_law 316 = .ok (.aload_n 1, 1) := by decide +kernel
theorem dL_law_317 : decode cL_law 317 = .ok (.aload_n 0, 1) := by decide +kernel
theorem dL_law_318 : decode cL_law 318 = .ok (.iload_n 3, 1) := by decide +kernel
theorem dL_law_319 : decode cL_law 319 = .ok (.iconst 1, 1) := by decide +kernel
theorem dL_law_320 : decode cL_law 320 = .ok (.iadd, 1) := by decide +kernel
theorem dL_law_321 : decode cL_law 321 = .ok (.iaload, 1) := by decide +kernel
theorem dL_law_322 : decode cL_law 322 = .ok (.aload_n 0, 1) := by decide +kernel
theorem dL_law_323 : decode cL_law 323 = .ok (.iload_n 3, 1) := by decide +kernel
theorem dL_law_324 : decode cL_law 324 = .ok (.iconst 2, 1) := by decide +kernel
theorem dL_law_325 : decode cL_law 325 = .ok (.iadd, 1) := by decide +kernel
theorem dL_law_326 : decode cL_law 326 = .ok (.iaload, 1) := by decide +kernel
theorem dL_law_327 : decode cL_law 327 = .ok (.invokevirtual 47, 3) := by decide +kernel
theorem dL_law_330 : decode cL_law 330 = .ok (.aload_n 2, 1) := by decide +kernel
theorem dL_law_331 : decode cL_law 331 = .ok (.aload_n 0, 1) := by decide +kernel
theorem dL_law_332 : decode cL_law 332 = .ok (.iload_n 3, 1) := by decide +kernel
theorem dL_law_333 : decode cL_law 333 = .ok (.iconst 1, 1) := by decide +kernel
theorem dL_law_334 : decode cL_law 334 = .ok (.iadd, 1) := by decide +kernel
theorem dL_law_335 : decode cL_law 335 = .ok (.iaload, 1) := by decide +kernel
theorem dL_law_336 : decode cL_law 336 = .ok (.aload_n 0, 1) := by decide +kernel
theorem dL_law_337 : decode cL_law 337 = .ok (.iload_n 3, 1) := by decide +kernel
theorem dL_law_338 : decode cL_law 338 = .ok (.iconst 2, 1) := by decide +kernel
theorem dL_law_339 : decode cL_law 339 = .ok (.iadd, 1) := by decide +kernel
theorem dL_law_340 : decode cL_law 340 = .ok (.iaload, 1) := by decide +kernel
theorem dL_law_341 : decode cL_law 341 = .ok (.invokevirtual 50, 3) := by decide +kernel
theorem dL_law_344 : decode cL_law 344 = .ok (.if_icmp .eq 61, 3) := by decide +kernel
theorem dL_law_347 : decode cL_law 347 = .ok (.iconst 0, 1) := by decide +kernel
theorem dL_law_348 : decode cL_law 348 = .ok (.ireturn, 1) := by decide +kernel
theorem dL_law_349 : decode cL_law 349 = .ok (.aload_n 1, 1) := by decide +kernel
theorem dL_law_350 : decode cL_law 350 = .ok (.aload_n 0, 1) := by decide +kernel
theorem dL_law_351 : decode cL_law 351 = .ok (.iload_n 3, 1) := by decide +kernel
theorem dL_law_352 : decode cL_law 352 = .ok (.iconst 1, 1) := by decide +kernel
theorem dL_law_353 : decode cL_law 353 = .ok (.iadd, 1) := by decide +kernel
theorem dL_law_354 : decode cL_law 354 = .ok (.iaload, 1) := by decide +kernel
theorem dL_law_355 : decode cL_law 355 = .ok (.invokevirtual 51, 3) := by decide +kernel
theorem dL_law_358 : decode cL_law 358 = .ok (.aload_n 2, 1) := by decide +kernel
theorem dL_law_359 : decode cL_law 359 = .ok (.aload_n 0, 1) := by decide +kernel
theorem dL_law_360 : decode cL_law 360 = .ok (.iload_n 3, 1) := by decide +kernel
theorem dL_law_361 : decode cL_law 361 = .ok (.iconst 1, 1) := by decide +kernel
theorem dL_law_362 : decode cL_law 362 = .ok (.iadd, 1) := by decide +kernel
theorem dL_law_363 : decode cL_law 363 = .ok (.iaload, 1) := by decide +kernel
theorem dL_law_364 : decode cL_law 364 = .ok (.invokevirtual 54, 3) := by decide +kernel
theorem dL_law_367 : decode cL_law 367 = .ok (.if_icmp .eq 38, 3) := by decide +kernel
theorem dL_law_370 : decode cL_law 370 = .ok (.iconst 0, 1) := by decide +kernel
theorem dL_law_371 : decode cL_law 371 = .ok (.ireturn, 1) := by decide +kernel
theorem dL_law_372 : decode cL_law 372 = .ok (.aload_n 1, 1) := by decide +kernel
theorem dL_law_373 : decode cL_law 373 = .ok (.aload_n 0, 1) := by decide +kernel
theorem dL_law_374 : decode cL_law 374 = .ok (.iload_n 3, 1) := by decide +kernel
theorem dL_law_375 : decode cL_law 375 = .ok (.iconst 1, 1) := by decide +kernel
theorem dL_law_376 : decode cL_law 376 = .ok (.iadd, 1) := by decide +kernel
theorem dL_law_377 : decode cL_law 377 = .ok (.iaload, 1) := by decide +kernel
theorem dL_law_378 : decode cL_law 378 = .ok (.aload_n 0, 1) := by decide +kernel
theorem dL_law_379 : decode cL_law 379 = .ok (.iload_n 3, 1) := by decide +kernel
theorem dL_law_380 : decode cL_law 380 = .ok (.iconst 2, 1) := by decide +kernel
theorem dL_law_381 : decode cL_law 381 = .ok (.iadd, 1) := by decide +kernel
theorem dL_law_382 : decode cL_law 382 = .ok (.iaload, 1) := by decide +kernel
theorem dL_law_383 : decode cL_law 383 = .ok (.invokevirtual 55, 3) := by decide +kernel
theorem dL_law_386 : decode cL_law 386 = .ok (.aload_n 2, 1) := by decide +kernel
theorem dL_law_387 : decode cL_law 387 = .ok (.aload_n 0, 1) := by decide +kernel
theorem dL_law_388 : decode cL_law 388 = .ok (.iload_n 3, 1) := by decide +kernel
theorem dL_law_389 : decode cL_law 389 = .ok (.iconst 1, 1) := by decide +kernel
theorem dL_law_390 : decode cL_law 390 = .ok (.iadd, 1) := by decide +kernel
theorem dL_law_391 : decode cL_law 391 = .ok (.iaload, 1) := by decide +kernel
theorem dL_law_392 : decode cL_law 392 = .ok (.aload_n 0, 1) := by decide +kernel
theorem dL_law_393 : decode cL_law 393 = .ok (.iload_n 3, 1) := by decide +kernel
theorem dL_law_394 : decode cL_law 394 = .ok (.iconst 2, 1) := by decide +kernel
theorem dL_law_395 : decode cL_law 395 = .ok (.iadd, 1) := by decide +kernel
theorem dL_law_396 : decode cL_law 396 = .ok (.iaload, 1) := by decide +kernel
theorem dL_law_397 : decode cL_law 397 = .ok (.invokevirtual 58, 3) := by decide +kernel
theorem dL_law_400 : decode cL_law 400 = .ok (.if_icmp .eq 5, 3) := by decide +kernel
theorem dL_law_403 : decode cL_law 403 = .ok (.iconst 0, 1) := by decide +kernel
theorem dL_law_404 : decode cL_law 404 = .ok (.ireturn, 1) := by decide +kernel
theorem dL_law_405 : decode cL_law 405 = .ok (.iinc 3 3, 3) := by decide +kernel
theorem dL_law_408 : decode cL_law 408 = .ok (.goto (-390), 3) := by decide +kernel
theorem dL_law_411 : decode cL_law 411 = .ok (.iconst 1, 1) := by decide +kernel
theorem dL_law_412 : decode cL_law 412 = .ok (.ireturn, 1) := by decide +kernel
end
section
/-! PURE, 1: numbers, no program in sight. q p k: size, prime, degree. The digits of an element; packed digit rows (base 1048576); the tables of powers and exponents -/
def fz_Ok (q p k : Nat) : Prop := (q = 64 ∧ p = 2 ∧ k = 6) ∨ (q = 81 ∧ p = 3 ∧ k = 4)
theorem fz_facts {q p k : Nat} (h : fz_Ok q p k) : 2 ≤ p ∧ p ≤ 3 ∧ 4 ≤ k ∧ k ≤ 6 ∧ 64 ≤ q ∧ q ≤ 81 ∧ p ^ k = q := by
  rcases h with ⟨rfl, rfl, rfl⟩ | ⟨rfl, rfl, rfl⟩ <;> decide
/-- going up by ones to a bound: enough the bound itself and each step -/
theorem fz_down {P : Nat → Prop} (N : Nat) (h0 : P N) (hs : ∀ i, i < N → P (i + 1) → P i) : ∀ i, i ≤ N → P i := by
  intro i hi
  obtain ⟨d, rfl⟩ : ∃ d, N = i + d := ⟨N - i, by omega⟩
  induction d generalizing i with
  | zero => exact h0
  | succ d ih => exact hs i (by omega) (ih (i + 1) (by rw [show i + 1 + d = i + (d + 1) by omega]; exact h0) (by rw [show i + 1 + d = i + (d + 1) by omega]; exact hs) (by omega))
def fz_dgt (p a i : Nat) : Nat := a / p ^ i % p
theorem fz_dgt_lt {p : Nat} (h : 0 < p) (a i : Nat) : fz_dgt p a i < p := Nat.mod_lt _ h
theorem fz_dgt_mul {p : Nat} (h2 : 2 ≤ p) (h3 : p ≤ 3) (a b i j : Nat) : fz_dgt p a i * fz_dgt p b j ≤ 4 := by
  have h1 : fz_dgt p a i ≤ 2 := by have := fz_dgt_lt (show 0 < p by omega) a i; omega
  have h4 : fz_dgt p b j ≤ 2 := by have := fz_dgt_lt (show 0 < p by omega) b j; omega
  exact Nat.mul_le_mul h1 h4
theorem fz_div_succ (a p i : Nat) : a / p ^ i / p = a / p ^ (i + 1) := by rw [Nat.div_div_eq_div_mul, Nat.pow_succ]
theorem fz_le_div (a p i : Nat) : a / p ^ i ≤ a := Nat.div_le_self _ _
/-- the sum, digit by digit -/
def fz_sum (p a b : Nat) : Nat → Nat
  | 0 => 0
  | i + 1 => fz_sum p a b i + (fz_dgt p a i + fz_dgt p b i) % p * p ^ i
theorem fz_sum_lt {p : Nat} (hp : 0 < p) (a b : Nat) : ∀ i, fz_sum p a b i < p ^ i
  | 0 => by simp [fz_sum]
  | i + 1 => by
    have h1 := fz_sum_lt hp a b i
    have h2 : (fz_dgt p a i + fz_dgt p b i) % p + 1 ≤ p := Nat.mod_lt _ hp
    have h3 : ((fz_dgt p a i + fz_dgt p b i) % p + 1) * p ^ i ≤ p * p ^ i := Nat.mul_le_mul_right _ h2
    rw [Nat.add_mul, Nat.one_mul] at h3
    rw [fz_sum, Nat.pow_succ, Nat.mul_comm (p ^ i) p]
    omega
/-- a sum of two digits, taken down by p once if it can be, is the sum's rest -/
theorem fz_mod_of {p x y : Nat} (hx : x < p) (hy : y < p) : (x + y) % p = if p ≤ x + y then x + y - p else x + y := by
  by_cases h : p ≤ x + y
  · rw [if_pos h, Nat.mod_eq_sub_mod h, Nat.mod_eq_of_lt (by omega)]
  · rw [if_neg h, Nat.mod_eq_of_lt (by omega)]
/-! packed rows of digits -/
def fz_dg (N j : Nat) : Nat := N / 1048576 ^ j % 1048576
theorem fz_dg_lt (N j : Nat) : fz_dg N j < 1048576 := Nat.mod_lt _ (by decide)
theorem fz_bpos (j : Nat) : 0 < 1048576 ^ j := Nat.pow_pos (by decide)
theorem fz_dg_0 (j : Nat) : fz_dg 0 j = 0 := by rw [fz_dg, Nat.zero_div, Nat.zero_mod]
theorem fz_dg_add {N n c : Nat} (m : Nat) (h : fz_dg N n + c < 1048576) : fz_dg (N + c * 1048576 ^ n) m = fz_dg N m + if m = n then c else 0 := by
  unfold fz_dg at h ⊢
  rcases Nat.lt_trichotomy m n with hm | hm | hm
  · obtain ⟨t, rfl⟩ : ∃ t, n = m + 1 + t := ⟨n - (m + 1), by omega⟩
    rw [if_neg (by omega)]
    have e : c * 1048576 ^ (m + 1 + t) = (c * 1048576 ^ t * 1048576) * 1048576 ^ m := by
      rw [Nat.pow_add, Nat.pow_add, Nat.pow_one]; ac_rfl
    rw [e, Nat.add_mul_div_right _ _ (fz_bpos m), Nat.add_mul_mod_self_right]
    exact (Nat.add_zero _).symm
  · subst hm
    rw [if_pos rfl, Nat.add_mul_div_right _ _ (fz_bpos m)]
    generalize N / 1048576 ^ m = u at h ⊢
    omega
  · obtain ⟨t, rfl⟩ : ∃ t, m = n + 1 + t := ⟨m - (n + 1), by omega⟩
    rw [if_neg (by omega)]
    have e : ∀ x : Nat, x / 1048576 ^ (n + 1 + t) = x / 1048576 ^ n / 1048576 / 1048576 ^ t := by
      intro x
      rw [Nat.pow_add, Nat.pow_add, Nat.pow_one, Nat.div_div_eq_div_mul, Nat.div_div_eq_div_mul, Nat.mul_assoc]
    rw [e, e, Nat.add_mul_div_right _ _ (fz_bpos n)]
    generalize N / 1048576 ^ n = u at h ⊢
    rw [show (u + c) / 1048576 = u / 1048576 by omega]
    exact (Nat.add_zero _).symm
/-- every digit is at most M -/
def fz_bd (N M : Nat) : Prop := ∀ j, fz_dg N j ≤ M
theorem fz_bd_0 : fz_bd 0 0 := fun j => by rw [fz_dg_0]; exact Nat.le_refl 0
theorem fz_bd_mono {N M M' : Nat} (h : fz_bd N M) (hm : M ≤ M') : fz_bd N M' := fun j => Nat.le_trans (h j) hm
theorem fz_bd_add {N M n c : Nat} (h : fz_bd N M) (hc : M + c < 1048576) : fz_bd (N + c * 1048576 ^ n) (M + c) := fun j => by
  have h1 := h n
  have h2 := h j
  rw [fz_dg_add j (by omega)]
  split <;> omega
/-- digit s added to the digit n -/
def fz_ad (N n s : Nat) : Nat := N + fz_dg N s * 1048576 ^ n
theorem fz_ad_dg {N M n s : Nat} (m : Nat) (h : fz_bd N M) (hM : 2 * M < 1048576) : fz_dg (fz_ad N n s) m = fz_dg N m + if m = n then fz_dg N s else 0 := by
  have h1 := h n
  have h2 := h s
  exact fz_dg_add m (by omega)
theorem fz_ad_bd {N M n s : Nat} (h : fz_bd N M) (hM : 2 * M < 1048576) : fz_bd (fz_ad N n s) (2 * M) := fun j => by
  have h1 := h j
  have h2 := h s
  rw [fz_ad_dg j h hM]
  split <;> omega
/-- one step of the taking down: the digit n goes to the places n - k and n - k + 1 -/
def fz_rs (k n N : Nat) : Nat := fz_ad (fz_ad N (n - k) n) (n - k + 1) n
def fz_rd (k top N : Nat) : Nat → Nat
  | 0 => N
  | t + 1 => fz_rs k (top - t) (fz_rd k top N t)
theorem fz_rs_bd {k n N M : Nat} (h : fz_bd N M) (hM : 4 * M < 1048576) : fz_bd (fz_rs k n N) (4 * M) := by
  have h1 := fz_ad_bd (n := n - k) (s := n) h (by omega)
  have h2 := fz_ad_bd (n := n - k + 1) (s := n) h1 (by omega)
  exact fz_bd_mono h2 (by omega)
def fz_pk (p a : Nat) : Nat → Nat
  | 0 => 0
  | i + 1 => fz_pk p a i + fz_dgt p a i * 1048576 ^ i
/-- the row of a product's digits when i digits of a, and j of the next one, have been done -/
def fz_cv (p k a b i j : Nat) : Nat := fz_pk p a i * fz_pk p b k + fz_dgt p a i * 1048576 ^ i * fz_pk p b j
theorem fz_cv_00 (p k a b : Nat) : fz_cv p k a b 0 0 = 0 := by simp [fz_cv, fz_pk]
theorem fz_cv_step (p k a b i j : Nat) : fz_cv p k a b i (j + 1) = fz_cv p k a b i j + fz_dgt p a i * fz_dgt p b j * 1048576 ^ (i + j) := by
  rw [fz_cv, fz_cv, fz_pk, Nat.pow_add, Nat.mul_add, Nat.add_assoc]
  congr 2
  ac_rfl
theorem fz_cv_next (p k a b i : Nat) : fz_cv p k a b i k = fz_cv p k a b (i + 1) 0 := by
  rw [fz_cv, fz_cv, fz_pk, fz_pk, Nat.mul_zero, Nat.add_zero, Nat.add_mul]
theorem fz_cv_end (p k a b : Nat) : fz_cv p k a b k 0 = fz_pk p a k * fz_pk p b k := by rw [fz_cv, fz_pk, Nat.mul_zero, Nat.add_zero]
def fz_out (p N : Nat) : Nat → Nat
  | 0 => 0
  | i + 1 => fz_out p N i + fz_dg N i % p * p ^ i
def fz_hor (p N k : Nat) : Nat → Nat
  | 0 => 0
  | t + 1 => fz_hor p N k t * p + fz_dg N (k - 1 - t) % p
/-- the reference's product, and the class's own -/
def fz_prM (p k a b : Nat) : Nat := fz_out p (fz_rd k 11 (fz_pk p a k * fz_pk p b k) (12 - k)) k
def fz_prX (p k a b : Nat) : Nat := fz_hor p (fz_rd k (2 * k - 1) (fz_pk p a k * fz_pk p b k) k) k k
/-! the tables -/
def fz_T (q : Nat) : Nat := cond (Nat.beq q 64) 1481107839304674300694244455549010896069215335983087826995389689074358156631660874420791755137800490001131827450760451265370429391105 869871387327418209145902326782819751392925957450595549515909432920868191533877621894763744983011117859166123442535946760700003178911222309139391060357569129318432522625
def fz_L (q : Nat) : Nat := cond (Nat.beq q 64) 331897974751432621867724593303845019672994969555823919020494545719276614017377501208281081051988224541849933929202325670624972167462912 257559008960034587860992414499140092197600729046860782876414499159613126521712021623724166045966071204913469969488597468715687300609124765926263484204678247161285925535744
def fz_pw (q n : Nat) : Nat := fz_T q / 128 ^ n % 128
def fz_lg (q a : Nat) : Nat := fz_L q / 128 ^ a % 128
def fz_mul (q a b : Nat) : Nat := cond (Nat.beq (a * b) 0) 0 (fz_pw q ((fz_lg q a + fz_lg q b) % (q - 1)))
def fz_pow (q a n : Nat) : Nat := cond (Nat.beq n 0) 1 (cond (Nat.beq a 0) 0 (fz_pw q (fz_lg q a * n % (q - 1))))
def fz_all (f : Nat → Bool) : Nat → Bool
  | 0 => true
  | n + 1 => f n && fz_all f n
theorem fz_all_of {f : Nat → Bool} : ∀ {n : Nat}, fz_all f n = true → ∀ i, i < n → f i = true
  | 0, _, i, hi => absurd hi (Nat.not_lt_zero i)
  | n + 1, h, i, hi => by
    rw [fz_all, Bool.and_eq_true] at h
    by_cases e : i = n
    · rw [e]; exact h.1
    · exact fz_all_of h.2 i (by omega)
/-- the first b from b0 on, among n of them, that P likes -/
def fz_fnd (P : Nat → Bool) : Nat → Nat → Option Nat
  | 0, _ => none
  | n + 1, b => cond (P b) (some b) (fz_fnd P n (b + 1))
theorem fz_fnd_hit {P : Nat → Bool} {n b : Nat} (hb : b < n) (h : P b = true) : fz_fnd P (n - b) b = some b := by
  rw [show n - b = (n - b - 1) + 1 by omega, fz_fnd, h]; rfl
theorem fz_fnd_miss {P : Nat → Bool} {n b : Nat} (hb : b < n) (h : P b = false) : fz_fnd P (n - b) b = fz_fnd P (n - (b + 1)) (b + 1) := by
  rw [show n - b = (n - (b + 1)) + 1 by omega, fz_fnd, h]; rfl
theorem fz_fnd_skip {P : Nat → Bool} {n b : Nat} : ∀ {c : Nat}, b ≤ c → c ≤ n → (∀ i, b ≤ i → i < c → P i = false) → fz_fnd P (n - b) b = fz_fnd P (n - c) c := by
  intro c hbc
  induction c with
  | zero => intro _ _; rw [show b = 0 by omega]
  | succ c ih =>
    intro hn h
    by_cases e : b = c + 1
    · rw [e]
    · rw [ih (by omega) (by omega) (fun i h1 h2 => h i h1 (by omega)), fz_fnd_miss (by omega) (h c (by omega) (by omega))]
theorem fz_fnd_congr {P P' : Nat → Bool} : ∀ (n b : Nat), (∀ i, b ≤ i → i < b + n → P i = P' i) → fz_fnd P n b = fz_fnd P' n b
  | 0, _, _ => rfl
  | n + 1, b, h => by
    rw [fz_fnd, fz_fnd, h b (by omega) (by omega), fz_fnd_congr n (b + 1) (fun i h1 h2 => h i (by omega) (by omega))]
/-- how many of the first n that P likes -/
def fz_cnt (P : Nat → Bool) : Nat → Nat
  | 0 => 0
  | n + 1 => fz_cnt P n + cond (P n) 1 0
theorem fz_cnt_le (P : Nat → Bool) : ∀ n, fz_cnt P n ≤ n
  | 0 => Nat.le_refl 0
  | n + 1 => by
    have := fz_cnt_le P n
    rw [fz_cnt]
    cases P n <;> simp <;> omega
theorem fz_cnt_congr {P P' : Nat → Bool} : ∀ n, (∀ i, i < n → P i = P' i) → fz_cnt P n = fz_cnt P' n
  | 0, _ => rfl
  | n + 1, h => by rw [fz_cnt, fz_cnt, h n (by omega), fz_cnt_congr n (fun i hi => h i (by omega))]
/-- how often each value is taken, packed -/
def fz_hist (f : Nat → Nat) : Nat → Nat
  | 0 => 0
  | n + 1 => fz_hist f n + 1 * 1048576 ^ f n
theorem fz_hist_dg (f : Nat → Nat) (a : Nat) : ∀ n, n < 1048576 → fz_dg (fz_hist f n) a = fz_cnt (fun x => Nat.beq (f x) a) n ∧ fz_bd (fz_hist f n) n
  | 0, _ => ⟨fz_dg_0 a, fz_bd_0⟩
  | n + 1, hn => by
    obtain ⟨h1, h2⟩ := fz_hist_dg f a n (by omega)
    have h3 := h2 (f n)
    refine ⟨?_, fz_bd_add h2 (by omega)⟩
    rw [fz_hist, fz_dg_add a (by omega), h1, fz_cnt]
    congr 1
    by_cases e : a = f n
    · rw [if_pos e, show Nat.beq (f n) a = true from Nat.beq_eq.mpr e.symm]; rfl
    · rw [if_neg e, show Nat.beq (f n) a = false from by
        cases hb : Nat.beq (f n) a with
        | false => rfl
        | true => exact absurd (Nat.beq_eq.mp hb).symm e]; rfl
end
section
/-! PURE, 2: what the tables are, by the kernel's own arithmetic; powers; what the reference's searches find -/
set_option maxRecDepth 100000
theorem fz_c1_64 : fz_all (fun n => Nat.ble 1 (fz_pw 64 n) && (Nat.blt (fz_pw 64 n) 64 && Nat.beq (fz_lg 64 (fz_pw 64 n)) n)) 63 = true := by decide +kernel
theorem fz_c1_81 : fz_all (fun n => Nat.ble 1 (fz_pw 81 n) && (Nat.blt (fz_pw 81 n) 81 && Nat.beq (fz_lg 81 (fz_pw 81 n)) n)) 80 = true := by decide +kernel
theorem fz_c2_64 : fz_all (fun a => Nat.beq a 0 || (Nat.blt (fz_lg 64 a) 63 && Nat.beq (fz_pw 64 (fz_lg 64 a)) a)) 64 = true := by decide +kernel
theorem fz_c2_81 : fz_all (fun a => Nat.beq a 0 || (Nat.blt (fz_lg 81 a) 80 && Nat.beq (fz_pw 81 (fz_lg 81 a)) a)) 81 = true := by decide +kernel
theorem fz_c3_64 : fz_all (fun n => Nat.beq (fz_prX 2 6 (fz_pw 64 n) 2) (fz_pw 64 ((n + 1) % 63))) 63 = true := by decide +kernel
theorem fz_c3_81 : fz_all (fun n => Nat.beq (fz_prX 3 4 (fz_pw 81 n) 3) (fz_pw 81 ((n + 1) % 80))) 80 = true := by decide +kernel
theorem fz_pw_ok {q p k : Nat} (hm : fz_Ok q p k) {n : Nat} (hn : n < q - 1) : 1 ≤ fz_pw q n ∧ fz_pw q n < q ∧ fz_lg q (fz_pw q n) = n := by
  rcases hm with ⟨rfl, rfl, rfl⟩ | ⟨rfl, rfl, rfl⟩
  · have h := fz_all_of fz_c1_64 n hn
    rw [Bool.and_eq_true, Bool.and_eq_true] at h
    exact ⟨Nat.le_of_ble_eq_true h.1, Nat.le_of_ble_eq_true h.2.1, Nat.eq_of_beq_eq_true h.2.2⟩
  · have h := fz_all_of fz_c1_81 n hn
    rw [Bool.and_eq_true, Bool.and_eq_true] at h
    exact ⟨Nat.le_of_ble_eq_true h.1, Nat.le_of_ble_eq_true h.2.1, Nat.eq_of_beq_eq_true h.2.2⟩
theorem fz_lg_ok {q p k : Nat} (hm : fz_Ok q p k) {a : Nat} (h0 : a ≠ 0) (ha : a < q) : fz_lg q a < q - 1 ∧ fz_pw q (fz_lg q a) = a := by
  have e : Nat.beq a 0 = false := by
    cases hb : Nat.beq a 0 with
    | false => rfl
    | true => exact absurd (Nat.eq_of_beq_eq_true hb) h0
  rcases hm with ⟨rfl, rfl, rfl⟩ | ⟨rfl, rfl, rfl⟩
  · have h := fz_all_of fz_c2_64 a ha
    rw [e, Bool.false_or, Bool.and_eq_true] at h
    exact ⟨Nat.le_of_ble_eq_true h.1, Nat.eq_of_beq_eq_true h.2⟩
  · have h := fz_all_of fz_c2_81 a ha
    rw [e, Bool.false_or, Bool.and_eq_true] at h
    exact ⟨Nat.le_of_ble_eq_true h.1, Nat.eq_of_beq_eq_true h.2⟩
/-- the class's own powers: times the element p is the next one -/
theorem fz_prX_ok {q p k : Nat} (hm : fz_Ok q p k) {n : Nat} (hn : n < q - 1) : fz_prX p k (fz_pw q n) p = fz_pw q ((n + 1) % (q - 1)) := by
  rcases hm with ⟨rfl, rfl, rfl⟩ | ⟨rfl, rfl, rfl⟩
  · exact Nat.eq_of_beq_eq_true (fz_all_of fz_c3_64 n hn)
  · exact Nat.eq_of_beq_eq_true (fz_all_of fz_c3_81 n hn)
theorem fz_pw_0 {q p k : Nat} (hm : fz_Ok q p k) : fz_pw q 0 = 1 := by
  rcases hm with ⟨rfl, rfl, rfl⟩ | ⟨rfl, rfl, rfl⟩ <;> decide +kernel
theorem fz_lg_1 {q p k : Nat} (hm : fz_Ok q p k) : fz_lg q 1 = 0 := by
  rcases hm with ⟨rfl, rfl, rfl⟩ | ⟨rfl, rfl, rfl⟩ <;> decide +kernel
theorem fz_pw_ne1 {q p k : Nat} (hm : fz_Ok q p k) {n : Nat} (h0 : 0 < n) (hn : n < q - 1) : fz_pw q n ≠ 1 := by
  intro h
  have h2 := (fz_pw_ok hm hn).2.2
  rw [h, fz_lg_1 hm] at h2
  omega
theorem fz_beq_f {a b : Nat} (h : a ≠ b) : Nat.beq a b = false := by
  cases hb : Nat.beq a b with
  | false => rfl
  | true => exact absurd (Nat.eq_of_beq_eq_true hb) h
theorem fz_beq_t {a b : Nat} (h : a = b) : Nat.beq a b = true := Nat.beq_eq.mpr h
theorem fz_beq_dec (a b : Nat) : Nat.beq a b = decide (a = b) := by
  by_cases h : a = b
  · rw [fz_beq_t h, decide_eq_true h]
  · rw [fz_beq_f h, decide_eq_false h]
theorem fz_mul_0 {q a b : Nat} (h : a = 0 ∨ b = 0) : fz_mul q a b = 0 := by
  rw [fz_mul, fz_beq_t (by rcases h with h | h <;> simp [h])]; rfl
theorem fz_mul_n {q a b : Nat} (ha : a ≠ 0) (hb : b ≠ 0) : fz_mul q a b = fz_pw q ((fz_lg q a + fz_lg q b) % (q - 1)) := by
  rw [fz_mul, fz_beq_f (Nat.mul_ne_zero ha hb)]; rfl
theorem fz_pow_n0 {q a : Nat} : fz_pow q a 0 = 1 := rfl
theorem fz_pow_0 {q n : Nat} (hn : n ≠ 0) : fz_pow q 0 n = 0 := by
  rw [fz_pow, fz_beq_f hn]; rfl
theorem fz_pow_n {q a n : Nat} (ha : a ≠ 0) (hn : n ≠ 0) : fz_pow q a n = fz_pw q (fz_lg q a * n % (q - 1)) := by
  rw [fz_pow, fz_beq_f hn, fz_beq_f ha]; rfl
theorem fz_modlt {q p k : Nat} (hm : fz_Ok q p k) (x : Nat) : x % (q - 1) < q - 1 := Nat.mod_lt _ (by have := fz_facts hm; omega)
theorem fz_pow_nz {q p k : Nat} (hm : fz_Ok q p k) {a : Nat} (ha : a ≠ 0) (n : Nat) : fz_pow q a n = fz_pw q (fz_lg q a * n % (q - 1)) := by
  by_cases hn : n = 0
  · subst hn
    rw [fz_pow_n0, Nat.mul_zero, Nat.zero_mod, fz_pw_0 hm]
  · exact fz_pow_n ha hn
theorem fz_mul_lt {q p k : Nat} (hm : fz_Ok q p k) (a b : Nat) : fz_mul q a b < q := by
  have hf := fz_facts hm
  by_cases h : a = 0 ∨ b = 0
  · rw [fz_mul_0 h]; omega
  · rw [fz_mul_n (fun e => h (Or.inl e)) (fun e => h (Or.inr e))]
    exact (fz_pw_ok hm (fz_modlt hm _)).2.1
theorem fz_pow_lt {q p k : Nat} (hm : fz_Ok q p k) (a n : Nat) : fz_pow q a n < q := by
  have hf := fz_facts hm
  by_cases ha : a = 0
  · subst ha
    by_cases hn : n = 0
    · subst hn; rw [fz_pow_n0]; omega
    · rw [fz_pow_0 hn]; omega
  · rw [fz_pow_nz hm ha]
    exact (fz_pw_ok hm (fz_modlt hm _)).2.1
theorem fz_mul_1 {q p k : Nat} (hm : fz_Ok q p k) {b : Nat} (hb : b < q) : fz_mul q 1 b = b := by
  by_cases h : b = 0
  · subst h; exact fz_mul_0 (Or.inr rfl)
  · have h2 := fz_lg_ok hm h hb
    rw [fz_mul_n (by decide) h, fz_lg_1 hm, Nat.zero_add, Nat.mod_eq_of_lt h2.1, h2.2]
theorem fz_mul_comm (q a b : Nat) : fz_mul q a b = fz_mul q b a := by
  rw [fz_mul, fz_mul, Nat.mul_comm a b, Nat.add_comm (fz_lg q a)]
theorem fz_pow_1 {q p k : Nat} (hm : fz_Ok q p k) {a : Nat} (ha : a < q) : fz_pow q a 1 = a := by
  by_cases h : a = 0
  · subst h; exact fz_pow_0 (by decide)
  · have h2 := fz_lg_ok hm h ha
    rw [fz_pow_nz hm h, Nat.mul_one, Nat.mod_eq_of_lt h2.1, h2.2]
theorem fz_pow_add {q p k : Nat} (hm : fz_Ok q p k) {a : Nat} (m n : Nat) : fz_mul q (fz_pow q a m) (fz_pow q a n) = fz_pow q a (m + n) := by
  by_cases h0 : m = 0
  · subst h0
    rw [fz_pow_n0, Nat.zero_add, fz_mul_1 hm (fz_pow_lt hm a n)]
  by_cases h1 : n = 0
  · subst h1
    rw [fz_pow_n0, Nat.add_zero, fz_mul_comm, fz_mul_1 hm (fz_pow_lt hm a m)]
  by_cases ha : a = 0
  · subst ha
    rw [fz_pow_0 h0, fz_pow_0 (show m + n ≠ 0 by omega)]
    exact fz_mul_0 (Or.inl rfl)
  · have e1 := fz_pw_ok hm (fz_modlt hm (fz_lg q a * m))
    have e2 := fz_pw_ok hm (fz_modlt hm (fz_lg q a * n))
    rw [fz_pow_nz hm ha, fz_pow_nz hm ha, fz_pow_nz hm ha, fz_mul_n (by omega) (by omega), e1.2.2, e2.2.2, ← Nat.add_mod, ← Nat.mul_add]
/-- a power times the element -/
theorem fz_pow_s {q p k : Nat} (hm : fz_Ok q p k) {a : Nat} (ha : a < q) (n : Nat) : fz_mul q (fz_pow q a n) a = fz_pow q a (n + 1) := by
  have h := fz_pow_add hm (a := a) n 1
  rw [fz_pow_1 hm ha] at h
  exact h
/-! answers: a number, or none (-1) -/
def fz_or (o : Option Nat) : Int32 := match o with
  | some n => nI n
  | none => -1
def fz_on (o : Option Nat) : Nat := match o with
  | some n => n + 1
  | none => 0
theorem fz_on_inj {o o' : Option Nat} (h : fz_on o = fz_on o') : o = o' := by
  cases o <;> cases o' <;> simp [fz_on] at h ⊢
  exact h
def fz_inv (q a : Nat) : Option Nat := cond (Nat.beq a 0) none (some (fz_pw q ((q - 1 - fz_lg q a) % (q - 1))))
theorem fz_ci_64 : fz_all (fun a => Nat.beq (fz_on (fz_fnd (fun b => Nat.beq (fz_mul 64 a b) 1) 64 0)) (fz_on (fz_inv 64 a))) 64 = true := by decide +kernel
theorem fz_ci_81 : fz_all (fun a => Nat.beq (fz_on (fz_fnd (fun b => Nat.beq (fz_mul 81 a b) 1) 81 0)) (fz_on (fz_inv 81 a))) 81 = true := by decide +kernel
theorem fz_inv_ok {q p k : Nat} (hm : fz_Ok q p k) {a : Nat} (ha : a < q) : fz_fnd (fun b => Nat.beq (fz_mul q a b) 1) q 0 = fz_inv q a := by
  rcases hm with ⟨rfl, rfl, rfl⟩ | ⟨rfl, rfl, rfl⟩
  · exact fz_on_inj (Nat.eq_of_beq_eq_true (fz_all_of fz_ci_64 a ha))
  · exact fz_on_inj (Nat.eq_of_beq_eq_true (fz_all_of fz_ci_81 a ha))
def fz_root (q a : Nat) : Option Nat := cond (Nat.beq a 0) (some 0) (cond (Nat.beq q 64) (some (fz_pw q (fz_lg q a * 32 % 63))) (cond (Nat.beq (fz_lg q a % 2) 0) (some (Nat.min (fz_pw q (fz_lg q a / 2)) (fz_pw q (fz_lg q a / 2 + 40)))) none))
theorem fz_cr_64 : fz_all (fun a => Nat.beq (fz_on (fz_fnd (fun r => Nat.beq (fz_mul 64 r r) a) 64 0)) (fz_on (fz_root 64 a))) 64 = true := by decide +kernel
theorem fz_cr_81 : fz_all (fun a => Nat.beq (fz_on (fz_fnd (fun r => Nat.beq (fz_mul 81 r r) a) 81 0)) (fz_on (fz_root 81 a))) 81 = true := by decide +kernel
theorem fz_root_ok {q p k : Nat} (hm : fz_Ok q p k) {a : Nat} (ha : a < q) : fz_fnd (fun r => Nat.beq (fz_mul q r r) a) q 0 = fz_root q a := by
  rcases hm with ⟨rfl, rfl, rfl⟩ | ⟨rfl, rfl, rfl⟩
  · exact fz_on_inj (Nat.eq_of_beq_eq_true (fz_all_of fz_cr_64 a ha))
  · exact fz_on_inj (Nat.eq_of_beq_eq_true (fz_all_of fz_cr_81 a ha))
/-- how many more times the reference multiplies, f times at most -/
def fz_ord (q a : Nat) : Nat → Nat → Nat
  | 0, _ => 0
  | f + 1, at_ => cond (Nat.beq at_ 1) 0 (fz_ord q a f (fz_mul q at_ a) + 1)
theorem fz_co_64 : fz_all (fun a => Nat.beq a 0 || Nat.beq (1 + fz_ord 64 a 99 a) (63 / Nat.gcd (fz_lg 64 a) 63)) 64 = true := by decide +kernel
theorem fz_co_81 : fz_all (fun a => Nat.beq a 0 || Nat.beq (1 + fz_ord 81 a 99 a) (80 / Nat.gcd (fz_lg 81 a) 80)) 81 = true := by decide +kernel
theorem fz_ord_ok {q p k : Nat} (hm : fz_Ok q p k) {a : Nat} (h0 : a ≠ 0) (ha : a < q) : 1 + fz_ord q a 99 a = (q - 1) / Nat.gcd (fz_lg q a) (q - 1) := by
  rcases hm with ⟨rfl, rfl, rfl⟩ | ⟨rfl, rfl, rfl⟩
  · have h := fz_all_of fz_co_64 a ha
    rw [fz_beq_f h0, Bool.false_or] at h
    exact Nat.eq_of_beq_eq_true h
  · have h := fz_all_of fz_co_81 a ha
    rw [fz_beq_f h0, Bool.false_or] at h
    exact Nat.eq_of_beq_eq_true h
/-- the class's own divisor, f rounds at most -/
def fz_dv : Nat → Nat → Nat → Nat
  | 0, _, b => b
  | f + 1, a, b => cond (Nat.beq a 0) b (fz_dv f (b % a) a)
theorem fz_cd_64 : fz_all (fun a => Nat.beq (fz_dv 40 a 63) (Nat.gcd a 63) && Nat.beq (fz_dv 38 a 63) (Nat.gcd a 63)) 64 = true := by decide +kernel
theorem fz_cd_81 : fz_all (fun a => Nat.beq (fz_dv 40 a 80) (Nat.gcd a 80) && Nat.beq (fz_dv 38 a 80) (Nat.gcd a 80)) 81 = true := by decide +kernel
theorem fz_dv_small {q p k : Nat} (hm : fz_Ok q p k) {a : Nat} (ha : a < q) : fz_dv 40 a (q - 1) = Nat.gcd a (q - 1) ∧ fz_dv 38 a (q - 1) = Nat.gcd a (q - 1) := by
  rcases hm with ⟨rfl, rfl, rfl⟩ | ⟨rfl, rfl, rfl⟩
  · have h := fz_all_of fz_cd_64 a ha
    rw [Bool.and_eq_true] at h
    exact ⟨Nat.eq_of_beq_eq_true h.1, Nat.eq_of_beq_eq_true h.2⟩
  · have h := fz_all_of fz_cd_81 a ha
    rw [Bool.and_eq_true] at h
    exact ⟨Nat.eq_of_beq_eq_true h.1, Nat.eq_of_beq_eq_true h.2⟩
theorem fz_dv_ok {q p k : Nat} (hm : fz_Ok q p k) (n : Nat) : fz_dv 40 n (q - 1) = Nat.gcd (n % (q - 1)) (q - 1) := by
  have hf := fz_facts hm
  rw [← Nat.gcd_rec]
  by_cases h : n < q
  · rw [(fz_dv_small hm h).1, Nat.gcd_comm]
  · have h1 := (fz_dv_small hm (show n % (q - 1) < q by have := fz_modlt hm n; omega)).2
    rw [fz_dv, fz_beq_f (show n ≠ 0 by omega), cond_false, Nat.mod_eq_of_lt (show q - 1 < n by omega), fz_dv, fz_beq_f (show q - 1 ≠ 0 by omega), cond_false, h1, ← Nat.gcd_rec]
/-! roots: how many elements have a for their n-th power -/
def fz_p0 (q x r : Nat) : Nat := cond (Nat.beq x 0) 0 (fz_pw q (fz_lg q x * r % (q - 1)))
def fz_rv (q r a : Nat) : Nat := cond (Nat.beq a 0) 1 (cond (Nat.beq (fz_lg q a % Nat.gcd r (q - 1)) 0) (Nat.gcd r (q - 1)) 0)
theorem fz_ct_64 : fz_all (fun r => fz_all (fun a => Nat.beq (fz_dg (fz_hist (fun x => fz_p0 64 x r) 64) a) (fz_rv 64 r a)) 64) 63 = true := by decide +kernel
theorem fz_ct_81 : fz_all (fun r => fz_all (fun a => Nat.beq (fz_dg (fz_hist (fun x => fz_p0 81 x r) 81) a) (fz_rv 81 r a)) 81) 80 = true := by decide +kernel
theorem fz_pow_p0 {q p k : Nat} (hm : fz_Ok q p k) (x : Nat) {n : Nat} (hn : n ≠ 0) : fz_pow q x n = fz_p0 q x (n % (q - 1)) := by
  by_cases h : x = 0
  · subst h; rw [fz_pow_0 hn]; rfl
  · rw [fz_pow_n h hn, fz_p0, fz_beq_f h, cond_false]
    congr 1
    rw [Nat.mul_mod, Nat.mul_mod (fz_lg q x) (n % (q - 1)), Nat.mod_mod]
theorem fz_roots_ok {q p k : Nat} (hm : fz_Ok q p k) {a n : Nat} (ha : a < q) (hn : n ≠ 0) : fz_cnt (fun x => Nat.beq (fz_pow q x n) a) q = fz_rv q (n % (q - 1)) a := by
  have hf := fz_facts hm
  have h1 := (fz_hist_dg (fun x => fz_p0 q x (n % (q - 1))) a q (by omega)).1
  rw [fz_cnt_congr q (fun i _ => by rw [fz_pow_p0 hm i hn]), ← h1]
  have h2 := fz_modlt hm n
  rcases hm with ⟨rfl, rfl, rfl⟩ | ⟨rfl, rfl, rfl⟩
  · exact Nat.eq_of_beq_eq_true (fz_all_of (fz_all_of fz_ct_64 _ h2) a ha)
  · exact Nat.eq_of_beq_eq_true (fz_all_of (fz_all_of fz_ct_81 _ h2) a ha)
end
section
/-! PURE, 3: the reference's product is the tables' (every pair, by the kernel) -/
set_option maxRecDepth 100000
theorem fz_c4_64 : fz_all (fun a => fz_all (fun b => Nat.beq (fz_prM 2 6 a b) (fz_mul 64 a b)) 64) 64 = true := by decide +kernel
theorem fz_c4_81 : fz_all (fun a => fz_all (fun b => Nat.beq (fz_prM 3 4 a b) (fz_mul 81 a b)) 81) 81 = true := by decide +kernel
theorem fz_prM_ok {q p k : Nat} (hm : fz_Ok q p k) {a b : Nat} (ha : a < q) (hb : b < q) : fz_prM p k a b = fz_mul q a b := by
  rcases hm with ⟨rfl, rfl, rfl⟩ | ⟨rfl, rfl, rfl⟩
  · exact Nat.eq_of_beq_eq_true (fz_all_of (fz_all_of fz_c4_64 a ha) b hb)
  · exact Nat.eq_of_beq_eq_true (fz_all_of (fz_all_of fz_c4_81 a ha) b hb)
end
section
/-! PURE, 4: the logarithm -/
set_option maxRecDepth 100000
/-- the class's own inverse, as its int arithmetic goes: f rounds at most -/
def fz_il : Nat → Int32 → Int32 → Int32 → Int32 → Int32
  | 0, _, _, u, _ => u
  | f + 1, a, b, u, v => if b ≤ 0 then u else fz_il f b (a - a / b * b) v (u - a / b * v)
def fz_im (x m : Int32) : Int32 := if fz_il 20 m (x - x / m * m) 0 1 < 0 then fz_il 20 m (x - x / m * m) 0 1 + m else fz_il 20 m (x - x / m * m) 0 1
def fz_iv (x m : Nat) : Nat := fz_on (fz_fnd (fun y => Nat.beq (x * y % m) (1 % m)) m 0) - 1
theorem fz_cj_64 : fz_all (fun g => decide (fz_im (nI (g / Nat.gcd g 63)) (nI (63 / Nat.gcd g 63)) = nI (fz_iv (g / Nat.gcd g 63) (63 / Nat.gcd g 63))) && Nat.blt (fz_iv (g / Nat.gcd g 63) (63 / Nat.gcd g 63)) 80) 63 = true := by decide +kernel
theorem fz_cj_81 : fz_all (fun g => decide (fz_im (nI (g / Nat.gcd g 80)) (nI (80 / Nat.gcd g 80)) = nI (fz_iv (g / Nat.gcd g 80) (80 / Nat.gcd g 80))) && Nat.blt (fz_iv (g / Nat.gcd g 80) (80 / Nat.gcd g 80)) 80) 80 = true := by decide +kernel
theorem fz_im_ok {q p k : Nat} (hm : fz_Ok q p k) {g : Nat} (hg : g < q - 1) : fz_im (nI (g / Nat.gcd g (q - 1))) (nI ((q - 1) / Nat.gcd g (q - 1))) = nI (fz_iv (g / Nat.gcd g (q - 1)) ((q - 1) / Nat.gcd g (q - 1))) ∧ fz_iv (g / Nat.gcd g (q - 1)) ((q - 1) / Nat.gcd g (q - 1)) < 80 := by
  rcases hm with ⟨rfl, rfl, rfl⟩ | ⟨rfl, rfl, rfl⟩
  · have h := fz_all_of fz_cj_64 g hg
    rw [Bool.and_eq_true] at h
    exact ⟨of_decide_eq_true h.1, Nat.le_of_ble_eq_true h.2⟩
  · have h := fz_all_of fz_cj_81 g hg
    rw [Bool.and_eq_true] at h
    exact ⟨of_decide_eq_true h.1, Nat.le_of_ble_eq_true h.2⟩
/-- the answer out of the exponents g and a, M = q - 1 -/
def fz_lx (M g a : Nat) : Option Nat := cond (Nat.beq (a % Nat.gcd g M) 0) (some (a / Nat.gcd g M * fz_iv (g / Nat.gcd g M) (M / Nat.gcd g M) % (M / Nat.gcd g M))) none
theorem fz_cl_64 : fz_all (fun g => fz_all (fun a => Nat.beq (fz_on (fz_fnd (fun n => Nat.beq (g * n % 63) a) 64 0)) (fz_on (fz_lx 63 g a))) 63) 63 = true := by decide +kernel
theorem fz_cl_81 : fz_all (fun g => fz_all (fun a => Nat.beq (fz_on (fz_fnd (fun n => Nat.beq (g * n % 80) a) 81 0)) (fz_on (fz_lx 80 g a))) 80) 80 = true := by decide +kernel
theorem fz_log_ok {q p k : Nat} (hm : fz_Ok q p k) {g a : Nat} (h1 : g ≠ 0) (hg : g < q) (h2 : a ≠ 0) (ha : a < q) : fz_fnd (fun n => Nat.beq (fz_pow q g n) a) q 0 = fz_lx (q - 1) (fz_lg q g) (fz_lg q a) := by
  have e1 := fz_lg_ok hm h1 hg
  have e2 := fz_lg_ok hm h2 ha
  rw [fz_fnd_congr (P' := fun n => Nat.beq (fz_lg q g * n % (q - 1)) (fz_lg q a)) q 0 (fun n _ _ => by
    show Nat.beq (fz_pow q g n) a = Nat.beq (fz_lg q g * n % (q - 1)) (fz_lg q a)
    rw [fz_pow_nz hm h1]
    have e3 := fz_pw_ok hm (fz_modlt hm (fz_lg q g * n))
    by_cases h : fz_lg q g * n % (q - 1) = fz_lg q a
    · rw [fz_beq_t h, h, fz_beq_t e2.2]
    · rw [fz_beq_f h]
      exact fz_beq_f (fun e => h (by rw [← e3.2.2, e])))]
  rcases hm with ⟨rfl, rfl, rfl⟩ | ⟨rfl, rfl, rfl⟩
  · exact fz_on_inj (Nat.eq_of_beq_eq_true (fz_all_of (fz_all_of fz_cl_64 _ e1.1) _ e2.1))
  · exact fz_on_inj (Nat.eq_of_beq_eq_true (fz_all_of (fz_all_of fz_cl_81 _ e1.1) _ e2.1))
/-! subfields -/
/-- how many times s makes q; 0 if it is no size of a field in it -/
def fz_st (q s : Nat) : Nat := cond (Nat.beq q 64) (cond (Nat.beq s 2) 6 (cond (Nat.beq s 4) 3 (cond (Nat.beq s 8) 2 (cond (Nat.beq s 64) 1 0)))) (cond (Nat.beq s 3) 4 (cond (Nat.beq s 9) 2 (cond (Nat.beq s 81) 1 0)))
def fz_si (q : Nat) (s : Int32) : Nat := if q = 64 then (if s = nI 2 then 6 else if s = nI 4 then 3 else if s = nI 8 then 2 else if s = nI 64 then 1 else 0) else (if s = nI 3 then 4 else if s = nI 9 then 2 else if s = nI 81 then 1 else 0)
theorem fz_si_n {q p k : Nat} (hm : fz_Ok q p k) {s : Nat} (hs : s < 2 ^ 31) : fz_si q (nI s) = fz_st q s := by
  rcases hm with ⟨rfl, rfl, rfl⟩ | ⟨rfl, rfl, rfl⟩
  · rw [fz_si, if_pos rfl, fz_st, show Nat.beq 64 64 = true from rfl, cond_true]
    simp only [nI_eq hs (show 2 < 2 ^ 31 by decide), nI_eq hs (show 4 < 2 ^ 31 by decide), nI_eq hs (show 8 < 2 ^ 31 by decide), nI_eq hs (show 64 < 2 ^ 31 by decide), fz_beq_dec, Bool.cond_decide]
  · rw [fz_si, if_neg (by decide), fz_st, show Nat.beq 81 64 = false from rfl, cond_false]
    simp only [nI_eq hs (show 3 < 2 ^ 31 by decide), nI_eq hs (show 9 < 2 ^ 31 by decide), nI_eq hs (show 81 < 2 ^ 31 by decide), fz_beq_dec, Bool.cond_decide]
/-- a size of a field in q: its number, and q as its power -/
theorem fz_si_of {q p k : Nat} (hm : fz_Ok q p k) {s : Int32} (h : fz_si q s ≠ 0) : ∃ n : Nat, s = nI n ∧ 2 ≤ n ∧ n ≤ 81 ∧ n ^ fz_si q s = q ∧ fz_si q s ≤ 6 ∧ fz_st q n = fz_si q s := by
  rcases hm with ⟨rfl, rfl, rfl⟩ | ⟨rfl, rfl, rfl⟩
  · by_cases h1 : s = nI 2
    · subst h1; exact ⟨2, rfl, by decide +kernel⟩
    by_cases h2 : s = nI 4
    · subst h2; exact ⟨4, rfl, by decide +kernel⟩
    by_cases h3 : s = nI 8
    · subst h3; exact ⟨8, rfl, by decide +kernel⟩
    by_cases h4 : s = nI 64
    · subst h4; exact ⟨64, rfl, by decide +kernel⟩
    exact absurd (by rw [fz_si, if_pos rfl, if_neg h1, if_neg h2, if_neg h3, if_neg h4]) h
  · by_cases h1 : s = nI 3
    · subst h1; exact ⟨3, rfl, by decide +kernel⟩
    by_cases h2 : s = nI 9
    · subst h2; exact ⟨9, rfl, by decide +kernel⟩
    by_cases h3 : s = nI 81
    · subst h3; exact ⟨81, rfl, by decide +kernel⟩
    exact absurd (by rw [fz_si, if_neg (by decide), if_neg h1, if_neg h2, if_neg h3]) h
/-- between two powers of p no number is a size of a field in q -/
theorem fz_cg_64 : fz_all (fun i => fz_all (fun s => Nat.ble s (2 ^ i) || (Nat.ble (2 ^ (i + 1)) s || Nat.beq (fz_st 64 s) 0)) 64) 6 = true := by decide +kernel
theorem fz_cg_81 : fz_all (fun i => fz_all (fun s => Nat.ble s (3 ^ i) || (Nat.ble (3 ^ (i + 1)) s || Nat.beq (fz_st 81 s) 0)) 81) 4 = true := by decide +kernel
theorem fz_st_gap {q p k : Nat} (hm : fz_Ok q p k) {i s : Nat} (hi : i < k) (h1 : p ^ i < s) (h2 : s < p ^ (i + 1)) : fz_st q s = 0 := by
  have hf := fz_facts hm
  have h3 : p ^ (i + 1) ≤ p ^ k := Nat.pow_le_pow_right (by omega) (by omega)
  have hs : s < q := by omega
  rcases hm with ⟨rfl, rfl, rfl⟩ | ⟨rfl, rfl, rfl⟩
  · have h := fz_all_of (fz_all_of fz_cg_64 i hi) s hs
    rw [Bool.or_eq_true, Bool.or_eq_true] at h
    rcases h with h | h | h
    · have := Nat.le_of_ble_eq_true h; omega
    · have := Nat.le_of_ble_eq_true h; omega
    · exact Nat.eq_of_beq_eq_true h
  · have h := fz_all_of (fz_all_of fz_cg_81 i hi) s hs
    rw [Bool.or_eq_true, Bool.or_eq_true] at h
    rcases h with h | h | h
    · have := Nat.le_of_ble_eq_true h; omega
    · have := Nat.le_of_ble_eq_true h; omega
    · exact Nat.eq_of_beq_eq_true h
/-- the trace's running sum and term after i rounds -/
def fz_tt (q a s : Nat) : Nat → Nat
  | 0 => a
  | i + 1 => fz_pow q (fz_tt q a s i) s
def fz_ts (q p k a s : Nat) : Nat → Nat
  | 0 => 0
  | i + 1 => fz_sum p (fz_ts q p k a s i) (fz_tt q a s i) k
theorem fz_tt_lt {q p k : Nat} (hm : fz_Ok q p k) {a : Nat} (ha : a < q) (s i : Nat) : fz_tt q a s i < q := by
  cases i with
  | zero => exact ha
  | succ i => exact fz_pow_lt hm _ _
theorem fz_ts_lt {q p k : Nat} (hm : fz_Ok q p k) (a s i : Nat) : fz_ts q p k a s i < q := by
  have hf := fz_facts hm
  cases i with
  | zero => rw [fz_ts]; omega
  | succ i =>
    have h := fz_sum_lt (show 0 < p by omega) (fz_ts q p k a s i) (fz_tt q a s i) k
    rw [fz_ts]; omega
/-- what home looks for -/
def fz_hp (q a s : Nat) : Bool := Nat.ble 1 (fz_st q s) && Nat.beq (fz_pow q a s) a
def fz_home (q a : Nat) : Nat := (fz_fnd (fz_hp q a) (q - 2) 2).getD q
/-! what the law's int is: an element or not -/
def fz_el (q : Nat) (a : Int32) : Bool := decide (¬ a < 0) && decide (a < nI q)
theorem fz_el_of {q : Nat} {a : Int32} (hq : q < 2 ^ 31) (h : fz_el q a = true) : ∃ i : Nat, i < q ∧ a = nI i := by
  rw [fz_el, Bool.and_eq_true, decide_eq_true_eq, decide_eq_true_eq] at h
  obtain ⟨j, hj, rfl⟩ := nI_of h.1
  exact ⟨j, (nI_ltI hj hq).mp h.2, rfl⟩
theorem fz_el_n {q i : Nat} (hq : q < 2 ^ 31) (h : i < q) : fz_el q (nI i) = true := by
  rw [fz_el, decide_eq_true (nI_pos (by omega)), decide_eq_true (nI_lt h hq)]; rfl
theorem fz_el_neg {q : Nat} {a : Int32} (h : a < 0) : fz_el q a = false := by
  rw [fz_el, decide_eq_false (fun e => e h), Bool.false_and]
theorem fz_el_big {q : Nat} {a : Int32} (h : ¬ a < nI q) : fz_el q a = false := by
  rw [fz_el, decide_eq_false h, Bool.and_false]
theorem fz_el_t {q : Nat} {a : Int32} (h1 : ¬ a < 0) (h2 : a < nI q) : fz_el q a = true := by
  rw [fz_el, decide_eq_true h1, decide_eq_true h2]; rfl
end
section
/-! ROWS: the two worlds (FieldTower's cells, FieldTowerModel's cells), instruction rows over numbers, loops, calls that change nothing, calls that change the own cells -/
set_option maxRecDepth 100000
abbrev vwCl : List vw_C := [(RX0, TX0, 6), (RX1, TX1, 4)]
abbrev fz_wX (h h1 h2 h3 : Nat) (d1 d2 d3 : ClassId) (q p k : Nat) (f1 f2 f3 : Nat → Int32) : va_W := [(h, .inr (0, [.int (nI q), .int (nI p), .int (nI k), .ref h1, .ref h2, .ref h3])), (h1, .inl (d1, 160, .inl f1)), (h2, .inl (d2, 81, .inl f2)), (h3, .inl (d3, 12, .inl f3))]
abbrev fz_tX (d1 d2 d3 : ClassId) : List (ClassId × FieldType) := [(d1, .int), (d2, .int), (d3, .int)]
abbrev fz_BX (D : va_G) (h h1 h2 h3 : Nat) (d1 d2 d3 : ClassId) (q p k : Nat) (f1 f2 f3 : Nat → Int32) (U : State) : Prop := va_P D vwCl (fz_wX h h1 h2 h3 d1 d2 d3 q p k f1 f2 f3) U.heap ∧ va_K D vwCl (fz_tX d1 d2 d3) U
abbrev fz_wM (h hd : Nat) (dd : ClassId) (q p k : Nat) (f : Nat → Int32) : va_W := [(h, .inr (1, [.int (nI q), .int (nI p), .int (nI k), .ref hd])), (hd, .inl (dd, 12, .inl f))]
abbrev fz_tM (dd : ClassId) : List (ClassId × FieldType) := [(dd, .int)]
abbrev fz_BM (D : va_G) (h hd : Nat) (dd : ClassId) (q p k : Nat) (f : Nat → Int32) (U : State) : Prop := va_P D vwCl (fz_wM h hd dd q p k f) U.heap ∧ va_K D vwCl (fz_tM dd) U
/-- the own cells -/
def fz_AX (h h1 h2 h3 : Nat) : Nat → Prop := fun a => a = h ∨ a = h1 ∨ a = h2 ∨ a = h3
def fz_AM (h hd : Nat) : Nat → Prop := fun a => a = h ∨ a = hd
/-- they are apart -/
def fz_nX (h h1 h2 h3 : Nat) : Prop := h ≠ h1 ∧ h ≠ h2 ∧ h ≠ h3 ∧ h1 ≠ h2 ∧ h1 ≠ h3 ∧ h2 ≠ h3
theorem fz_dX {h h1 h2 h3 : Nat} (hne : fz_nX h h1 h2 h3) {d1 d2 d3 : ClassId} {q p k : Nat} {f1 f2 f3 : Nat → Int32} : va_D (fz_AX h h1 h2 h3) (fz_wX h h1 h2 h3 d1 d2 d3 q p k f1 f2 f3) := by
  obtain ⟨n1, n2, n3, n4, n5, n6⟩ := hne
  constructor
  · intro i j x y hi hj hxy
    match i, j, hi, hj with
    | 0, 0, _, _ => rfl
    | 1, 1, _, _ => rfl
    | 2, 2, _, _ => rfl
    | 3, 3, _, _ => rfl
    | 0, 1, hi, hj => cases hi; cases hj; exact absurd hxy n1
    | 0, 2, hi, hj => cases hi; cases hj; exact absurd hxy n2
    | 0, 3, hi, hj => cases hi; cases hj; exact absurd hxy n3
    | 1, 0, hi, hj => cases hi; cases hj; exact absurd hxy.symm n1
    | 2, 0, hi, hj => cases hi; cases hj; exact absurd hxy.symm n2
    | 3, 0, hi, hj => cases hi; cases hj; exact absurd hxy.symm n3
    | 1, 2, hi, hj => cases hi; cases hj; exact absurd hxy n4
    | 1, 3, hi, hj => cases hi; cases hj; exact absurd hxy n5
    | 2, 1, hi, hj => cases hi; cases hj; exact absurd hxy.symm n4
    | 3, 1, hi, hj => cases hi; cases hj; exact absurd hxy.symm n5
    | 2, 3, hi, hj => cases hi; cases hj; exact absurd hxy n6
    | 3, 2, hi, hj => cases hi; cases hj; exact absurd hxy.symm n6
    | i + 4, _, hi, _ => simp at hi
    | _, j + 4, _, hj => simp at hj
  · intro i x hi
    match i, hi with
    | 0, hi => cases hi; exact Or.inl rfl
    | 1, hi => cases hi; exact Or.inr (Or.inl rfl)
    | 2, hi => cases hi; exact Or.inr (Or.inr (Or.inl rfl))
    | 3, hi => cases hi; exact Or.inr (Or.inr (Or.inr rfl))
    | i + 4, hi => simp at hi
theorem fz_dM {h hd : Nat} (hne : h ≠ hd) {dd : ClassId} {q p k : Nat} {f : Nat → Int32} : va_D (fz_AM h hd) (fz_wM h hd dd q p k f) := by
  constructor
  · intro i j x y hi hj hxy
    match i, j, hi, hj with
    | 0, 0, _, _ => rfl
    | 1, 1, _, _ => rfl
    | 0, 1, hi, hj => cases hi; cases hj; exact absurd hxy hne
    | 1, 0, hi, hj => cases hi; cases hj; exact absurd hxy.symm hne
    | i + 2, _, hi, _ => simp at hi
    | _, j + 2, _, hj => simp at hj
  · intro i x hi
    match i, hi with
    | 0, hi => cases hi; exact Or.inl rfl
    | 1, hi => cases hi; exact Or.inr rfl
    | i + 2, hi => simp at hi
section NV
variable {P : Program} {l : Launch} {e : Env} {R : Room} {s : State} {m : MethodId} {args : Array Value} {below : List Frame} {meth : Method} {c : Code} {H : Heap} {locs : List Loc} {cells slots : Nat} {Q : State → Prop} {cc : ByteArray} {pc : Nat} {ls : Array Slot} {rest st0 : List Value}
theorem nv_iadd (hx : P.tables.exec = Jvm.exec) (hb : c.code = cc) {a b : Nat} (hd : decode cc pc = .ok (.iadd, 1)) (k : W P l e R s m args below meth c H locs cells slots Q (F0 m (pc + 1) ls (.int (nI (a + b)) :: rest))) : W P l e R s m args below meth c H locs cells slots Q (F0 m pc ls (.int (nI b) :: .int (nI a) :: rest)) := lv_iadd hx hb hd (by rw [nI_add]; exact k)
theorem nv_isub (hx : P.tables.exec = Jvm.exec) (hb : c.code = cc) {a b : Nat} (hd : decode cc pc = .ok (.isub, 1)) (h : b ≤ a) (k : W P l e R s m args below meth c H locs cells slots Q (F0 m (pc + 1) ls (.int (nI (a - b)) :: rest))) : W P l e R s m args below meth c H locs cells slots Q (F0 m pc ls (.int (nI b) :: .int (nI a) :: rest)) := lv_isub hx hb hd (by rw [pk_sub h]; exact k)
theorem nv_imul (hx : P.tables.exec = Jvm.exec) (hb : c.code = cc) {a b : Nat} (hd : decode cc pc = .ok (.imul, 1)) (k : W P l e R s m args below meth c H locs cells slots Q (F0 m (pc + 1) ls (.int (nI (a * b)) :: rest))) : W P l e R s m args below meth c H locs cells slots Q (F0 m pc ls (.int (nI b) :: .int (nI a) :: rest)) := lv_imul hx hb hd (by rw [pk_mul]; exact k)
theorem nv_idiv (hx : P.tables.exec = Jvm.exec) (hb : c.code = cc) {a b : Nat} (hd : decode cc pc = .ok (.idiv, 1)) (h1 : a < 2 ^ 31) (h2 : 0 < b) (h3 : b < 2 ^ 31) (k : W P l e R s m args below meth c H locs cells slots Q (F0 m (pc + 1) ls (.int (nI (a / b)) :: rest))) : W P l e R s m args below meth c H locs cells slots Q (F0 m pc ls (.int (nI b) :: .int (nI a) :: rest)) := lv_idiv hx hb hd (nI_ne0 h2 h3) (by rw [pk_div h1 h2 h3]; exact k)
theorem nv_irem (hx : P.tables.exec = Jvm.exec) (hb : c.code = cc) {a b : Nat} (hd : decode cc pc = .ok (.irem, 1)) (h1 : a < 2 ^ 31) (h2 : 0 < b) (h3 : b < 2 ^ 31) (k : W P l e R s m args below meth c H locs cells slots Q (F0 m (pc + 1) ls (.int (nI (a % b)) :: rest))) : W P l e R s m args below meth c H locs cells slots Q (F0 m pc ls (.int (nI b) :: .int (nI a) :: rest)) := lv_irem hx hb hd (nI_ne0 h2 h3) (by rw [pk_rem h1 h2 h3]; exact k)
theorem nv_lmul (hx : P.tables.exec = Jvm.exec) (hb : c.code = cc) {a b : Nat} (hd : decode cc pc = .ok (.lmul, 1)) (k : W P l e R s m args below meth c H locs cells slots Q (F0 m (pc + 1) ls (.long (lN (a * b)) :: rest))) : W P l e R s m args below meth c H locs cells slots Q (F0 m pc ls (.long (lN b) :: .long (lN a) :: rest)) := lv_lmul hx hb hd (by rw [lN_mul]; exact k)
theorem nv_lrem (hx : P.tables.exec = Jvm.exec) (hb : c.code = cc) {a b : Nat} (hd : decode cc pc = .ok (.lrem, 1)) (h1 : a < 2 ^ 63) (h2 : 0 < b) (h3 : b < 2 ^ 31) (k : W P l e R s m args below meth c H locs cells slots Q (F0 m (pc + 1) ls (.long (lN (a % b)) :: rest))) : W P l e R s m args below meth c H locs cells slots Q (F0 m pc ls (.long (lN b) :: .long (lN a) :: rest)) := lv_lrem hx hb hd (fun z => by
  have h4 : b = 0 := (lN_eq h3 (by decide)).mp z
  omega) (by rw [pk_lRem h1 h2 (by omega)]; exact k)
theorem nv_inc (x : Nat) : nI x + Int32.ofInt 1 = nI (x + 1) := nI_1 x
theorem nv_dec {x : Nat} (h : 1 ≤ x) : nI x + Int32.ofInt (-1) = nI (x - 1) := by
  obtain ⟨y, rfl⟩ : ∃ y, x = y + 1 := ⟨x - 1, by omega⟩
  exact pk_m1 y
theorem fz_top {x y : Int32} (h : x = y) (k : W P l e R s m args below meth c H locs cells slots Q (F0 m pc ls (.int y :: rest))) : W P l e R s m args below meth c H locs cells slots Q (F0 m pc ls (.int x :: rest)) := by
  rw [h]; exact k
theorem nv_ald {D : va_G} {cl : List vw_C} {tys : List (ClassId × FieldType)} {ws : va_W} {a : Nat} (hx : P.tables.exec = Jvm.exec) (hb : c.code = cc) (hK : va_K D cl tys s) (hP : va_P D cl ws H) (q0 t0 : Nat) {cA : ClassId} {n : Nat} {f : Nat → Int32} (ha : ws[q0]? = some (a, .inl (cA, n, .inl f))) (ht : tys[t0]? = some (cA, .int)) {i : Nat} {v : Int32} (hi : i < n) (hn : n < 2 ^ 31) (hv : f i = v) (hd : decode cc pc = .ok (.iaload, 1)) (kk : W P l e R s m args below meth c H locs cells slots Q (F0 m (pc + 1) ls (.int v :: rest))) : W P l e R s m args below meth c H locs cells slots Q (F0 m pc ls (.int (nI i) :: .ref a :: rest)) :=
  va_iald hx hb hK hP q0 t0 ha ht (vp_in_nI hi hn) hd (by rw [nI_clamp (by omega), hv]; exact kk)
theorem nv_ast {D : va_G} {cl : List vw_C} {tys : List (ClassId × FieldType)} {ws : va_W} {a : Nat} {A : Nat → Prop} {H0 : Heap} (hx : P.tables.exec = Jvm.exec) (hb : c.code = cc) (hK : va_K D cl tys s) (hP : va_P D cl ws H) (hD : va_D A ws) (hS : va_S A H0 H locs) (q0 t0 : Nat) {cA : ClassId} {n : Nat} {f : Nat → Int32} (ha : ws[q0]? = some (a, .inl (cA, n, .inl f))) (ht : tys[t0]? = some (cA, .int)) {i : Nat} {x : Int32} (hi : i < n) (hn : n < 2 ^ 31) (hd : decode cc pc = .ok (.iastore, 1))
    (kk : ∀ (H1 : Heap) (locs1 : List Loc), va_P D cl (ws.set q0 (a, .inl (cA, n, .inl (upd f i x)))) H1 → va_S A H0 H1 locs1 → W P l e R s m args below meth c H1 locs1 cells slots Q (F0 m (pc + 1) ls rest)) : W P l e R s m args below meth c H locs cells slots Q (F0 m pc ls (.int x :: .int (nI i) :: .ref a :: rest)) := by
  refine va_iast hx hb hK hP hD hS q0 t0 ha ht (vp_in_nI hi hn) hd ?_
  rw [nI_clamp (by omega)]
  exact fun H1 locs1 a1 _ a3 => kk H1 locs1 a1 a3
/-- a loop that writes no cell -/
theorem fz_loop (N : Nat) (Inv : Nat → Array Slot → Prop) (hexit : ∀ ls, Inv N ls → W P l e R s m args below meth c H locs cells slots Q (F0 m pc ls st0))
    (hstep : ∀ i, i < N → (∀ ls, Inv (i + 1) ls → W P l e R s m args below meth c H locs cells slots Q (F0 m pc ls st0)) → ∀ ls, Inv i ls → W P l e R s m args below meth c H locs cells slots Q (F0 m pc ls st0)) :
    ∀ i, i ≤ N → ∀ ls, Inv i ls → W P l e R s m args below meth c H locs cells slots Q (F0 m pc ls st0) :=
  fz_down (P := fun i => ∀ ls, Inv i ls → W P l e R s m args below meth c H locs cells slots Q (F0 m pc ls st0)) N hexit hstep
/-- a loop over cells: g is what the cells hold -/
theorem fz_loopH {G : Type} (N : Nat) (Inv : Nat → G → Heap → List Loc → Array Slot → Prop) (hexit : ∀ g H locs ls, Inv N g H locs ls → W P l e R s m args below meth c H locs cells slots Q (F0 m pc ls st0))
    (hstep : ∀ i, i < N → (∀ g H locs ls, Inv (i + 1) g H locs ls → W P l e R s m args below meth c H locs cells slots Q (F0 m pc ls st0)) → ∀ g H locs ls, Inv i g H locs ls → W P l e R s m args below meth c H locs cells slots Q (F0 m pc ls st0)) :
    ∀ i, i ≤ N → ∀ g H locs ls, Inv i g H locs ls → W P l e R s m args below meth c H locs cells slots Q (F0 m pc ls st0) :=
  fz_down (P := fun i => ∀ g H locs ls, Inv i g H locs ls → W P l e R s m args below meth c H locs cells slots Q (F0 m pc ls st0)) N hexit hstep
variable {y : MethodName} {bytes : ByteArray} {maxL nL n index : Nat} {ret : Option FieldType} {ws : List Cond} {rm : Room} {own : String} {As : List Value} {D : va_G}
/-- a call of the class's own that changes nothing -/
theorem fz_callX {h h1 h2 h3 : Nat} {d1 d2 d3 : ClassId} {q p k : Nat} {f1 f2 f3 : Nat → Int32} {post : Int32 → Prop} (S : CallFix P m c cc nL s args lw_all own) (hM : Met l y ws rm (va_Pc (.ref h :: As) (fz_BX D h h1 h2 h3 d1 d2 d3 q p k f1 f2 f3)) (vp_Si post) 0 0 (fun _ => False)) (cw : CallW R s args own RX0 index y bytes maxL ret ws rm 0 0 n)
    (hP : va_P D vwCl (fz_wX h h1 h2 h3 d1 d2 d3 q p k f1 f2 f3) H) (hK : va_K D vwCl (fz_tX d1 d2 d3) s) (hn : As.length = n) (hsize : ls.size = nL) (hst : st0 = As.reverse ++ .ref h :: rest) (hw : (rest.map fun v => v.category).sum ≤ 8) (hd : decode cc pc = .ok (.invokevirtual index, 3)) (hf : cells ≤ R.cells ∧ slots ≤ R.slots)
    (kk : ∀ r : Int32, post r → W P l e R s m args below meth c H locs cells slots Q (F0 m (pc + 3) ls (.int r :: rest))) : W P l e R s m args below meth c H locs cells slots Q (F0 m pc ls st0) :=
  vp_callSi (W.runV (As := As) (rest := rest) S hM cw ⟨fun a U g mk z => ⟨z.1, z.2.1, va_K.moved (u := U) (U := U.calling g mk a) (Vm.Alike.refl U.vm) z.2.2⟩, va_recv hK hP (ci := 0) (q0 := 0) rfl rfl, fun U hU hW => ⟨rfl, by rw [hU]; exact hP, va_K.moved hW.alike hK⟩⟩ rfl hn hsize hst (lv_room hw) hd hf) kk
theorem fz_callM {h hd : Nat} {dd : ClassId} {q p k : Nat} {f : Nat → Int32} {post : Int32 → Prop} (S : CallFix P m c cc nL s args lw_all own) (hM : Met l y ws rm (va_Pc (.ref h :: As) (fz_BM D h hd dd q p k f)) (vp_Si post) 0 0 (fun _ => False)) (cw : CallW R s args own RX1 index y bytes maxL ret ws rm 0 0 n)
    (hP : va_P D vwCl (fz_wM h hd dd q p k f) H) (hK : va_K D vwCl (fz_tM dd) s) (hn : As.length = n) (hsize : ls.size = nL) (hst : st0 = As.reverse ++ .ref h :: rest) (hw : (rest.map fun v => v.category).sum ≤ 8) (hdg : decode cc pc = .ok (.invokevirtual index, 3)) (hf : cells ≤ R.cells ∧ slots ≤ R.slots)
    (kk : ∀ r : Int32, post r → W P l e R s m args below meth c H locs cells slots Q (F0 m (pc + 3) ls (.int r :: rest))) : W P l e R s m args below meth c H locs cells slots Q (F0 m pc ls st0) :=
  vp_callSi (W.runV (As := As) (rest := rest) S hM cw ⟨fun a U g mk z => ⟨z.1, z.2.1, va_K.moved (u := U) (U := U.calling g mk a) (Vm.Alike.refl U.vm) z.2.2⟩, va_recv hK hP (ci := 1) (q0 := 0) rfl rfl, fun U hU hW => ⟨rfl, by rw [hU]; exact hP, va_K.moved hW.alike hK⟩⟩ rfl hn hsize hst (lv_room hw) hdg hf) kk
/-- a static call that changes nothing and reads nothing -/
theorem fz_callS {post : Int32 → Prop} (S : CallFix P m c cc nL s args lw_all own) (hM : Met l y ws rm (va_Pc As (fun _ => True)) (vp_Si post) 0 0 (fun _ => False)) (cw : CallB R s args own index y bytes maxL ret ws rm 0 0 n ∧ (Cond.static y).before args s = true)
    (hn : As.length = n) (hsize : ls.size = nL) (hst : st0 = As.reverse ++ rest) (hw : (rest.map fun v => v.category).sum ≤ 8) (hd : decode cc pc = .ok (.invokestatic index, 3)) (hf : cells ≤ R.cells ∧ slots ≤ R.slots)
    (kk : ∀ r : Int32, post r → W P l e R s m args below meth c H locs cells slots Q (F0 m (pc + 3) ls (.int r :: rest))) : W P l e R s m args below meth c H locs cells slots Q (F0 m pc ls st0) :=
  vp_callSi (W.runS (As := As) (rest := rest) S hM cw ⟨fun a U g mk z => ⟨z.1, trivial⟩, fun U hU hW => ⟨rfl, trivial⟩⟩ rfl hn hsize hst (lv_room hw) hd hf) kk
/-- a call that changes the own cells' contents: q p k and the arrays as u says -/
theorem fz_callXm {S0 : Type} {A0 : Nat → Prop} {H0 : Heap} {h h1 h2 h3 : Nat} {d1 d2 d3 : ClassId} {q p k : Nat} {f1 f2 f3 : Nat → Int32} {q' p' k' : S0 → Nat} {g1 g2 g3 : S0 → Nat → Int32} {post : Int32 → S0 → Prop} (S : CallFix P m c cc nL s args lw_all own) (hM : Met l y ws rm (va_Pc (.ref h :: As) (fz_BX D h h1 h2 h3 d1 d2 d3 q p k f1 f2 f3)) (va_Qi post (fun u t => va_P D vwCl (fz_wX h h1 h2 h3 d1 d2 d3 (q' u) (p' u) (k' u) (g1 u) (g2 u) (g3 u)) t.heap) (fz_AX h h1 h2 h3)) 0 0 (fz_AX h h1 h2 h3)) (cw : CallW R s args own RX0 index y bytes maxL ret ws rm 0 0 n)
    (hP : va_P D vwCl (fz_wX h h1 h2 h3 d1 d2 d3 q p k f1 f2 f3) H) (hK : va_K D vwCl (fz_tX d1 d2 d3) s) (hS : va_S A0 H0 H locs) (hA : ∀ a, fz_AX h h1 h2 h3 a → A0 a) (hn : As.length = n) (hsize : ls.size = nL) (hst : st0 = As.reverse ++ .ref h :: rest) (hw : (rest.map fun v => v.category).sum ≤ 8) (hd : decode cc pc = .ok (.invokevirtual index, 3)) (hf : cells ≤ R.cells ∧ slots ≤ R.slots)
    (kk : ∀ (r : Int32) (u : S0) (H1 : Heap) (locs1 : List Loc), post r u → va_P D vwCl (fz_wX h h1 h2 h3 d1 d2 d3 (q' u) (p' u) (k' u) (g1 u) (g2 u) (g3 u)) H1 → (∀ a : Nat, a < H.size → ¬ fz_AX h h1 h2 h3 a → H1[a]? = H[a]?) → va_S A0 H0 H1 locs1 → W P l e R s m args below meth c H1 locs1 cells slots Q (F0 m (pc + 3) ls (.int r :: rest))) : W P l e R s m args below meth c H locs cells slots Q (F0 m pc ls st0) :=
  va_calli (va_runV (As := As) (rest := rest) S hM cw ⟨fun a U g mk z => ⟨z.1, z.2.1, va_K.moved (u := U) (U := U.calling g mk a) (Vm.Alike.refl U.vm) z.2.2⟩, va_recv hK hP (ci := 0) (q0 := 0) rfl rfl, fun U hU hW => ⟨rfl, by rw [hU]; exact hP, va_K.moved hW.alike hK⟩⟩ rfl hn hsize hst (lv_room hw) hd hf) hS (fun a _ z => hA a z) hA (fun r u t H1 locs1 ht hvm hp hB hz hk hS1 => kk r u H1 locs1 hp (by rw [← ht]; exact hB) hk hS1)
theorem fz_callXv {S0 : Type} {A0 : Nat → Prop} {H0 : Heap} {h h1 h2 h3 : Nat} {d1 d2 d3 : ClassId} {q p k : Nat} {f1 f2 f3 : Nat → Int32} {q' p' k' : S0 → Nat} {g1 g2 g3 : S0 → Nat → Int32} {post : S0 → Prop} (S : CallFix P m c cc nL s args lw_all own) (hM : Met l y ws rm (va_Pc (.ref h :: As) (fz_BX D h h1 h2 h3 d1 d2 d3 q p k f1 f2 f3)) (va_Qv post (fun u t => va_P D vwCl (fz_wX h h1 h2 h3 d1 d2 d3 (q' u) (p' u) (k' u) (g1 u) (g2 u) (g3 u)) t.heap) (fz_AX h h1 h2 h3)) 0 0 (fz_AX h h1 h2 h3)) (cw : CallW R s args own RX0 index y bytes maxL ret ws rm 0 0 n)
    (hP : va_P D vwCl (fz_wX h h1 h2 h3 d1 d2 d3 q p k f1 f2 f3) H) (hK : va_K D vwCl (fz_tX d1 d2 d3) s) (hS : va_S A0 H0 H locs) (hA : ∀ a, fz_AX h h1 h2 h3 a → A0 a) (hn : As.length = n) (hsize : ls.size = nL) (hst : st0 = As.reverse ++ .ref h :: rest) (hw : (rest.map fun v => v.category).sum ≤ 8) (hd : decode cc pc = .ok (.invokevirtual index, 3)) (hf : cells ≤ R.cells ∧ slots ≤ R.slots)
    (kk : ∀ (u : S0) (H1 : Heap) (locs1 : List Loc), post u → va_P D vwCl (fz_wX h h1 h2 h3 d1 d2 d3 (q' u) (p' u) (k' u) (g1 u) (g2 u) (g3 u)) H1 → (∀ a : Nat, a < H.size → ¬ fz_AX h h1 h2 h3 a → H1[a]? = H[a]?) → va_S A0 H0 H1 locs1 → W P l e R s m args below meth c H1 locs1 cells slots Q (F0 m (pc + 3) ls rest)) : W P l e R s m args below meth c H locs cells slots Q (F0 m pc ls st0) :=
  va_callv (va_runV (As := As) (rest := rest) S hM cw ⟨fun a U g mk z => ⟨z.1, z.2.1, va_K.moved (u := U) (U := U.calling g mk a) (Vm.Alike.refl U.vm) z.2.2⟩, va_recv hK hP (ci := 0) (q0 := 0) rfl rfl, fun U hU hW => ⟨rfl, by rw [hU]; exact hP, va_K.moved hW.alike hK⟩⟩ rfl hn hsize hst (lv_room hw) hd hf) hS (fun a _ z => hA a z) hA (fun u t H1 locs1 ht hvm hp hB hz hk hS1 => kk u H1 locs1 hp (by rw [← ht]; exact hB) hk hS1)
theorem fz_callMm {S0 : Type} {A0 : Nat → Prop} {H0 : Heap} {h hd : Nat} {dd : ClassId} {q p k : Nat} {f : Nat → Int32} {q' p' k' : S0 → Nat} {g : S0 → Nat → Int32} {post : Int32 → S0 → Prop} (S : CallFix P m c cc nL s args lw_all own) (hM : Met l y ws rm (va_Pc (.ref h :: As) (fz_BM D h hd dd q p k f)) (va_Qi post (fun u t => va_P D vwCl (fz_wM h hd dd (q' u) (p' u) (k' u) (g u)) t.heap) (fz_AM h hd)) 0 0 (fz_AM h hd)) (cw : CallW R s args own RX1 index y bytes maxL ret ws rm 0 0 n)
    (hP : va_P D vwCl (fz_wM h hd dd q p k f) H) (hK : va_K D vwCl (fz_tM dd) s) (hS : va_S A0 H0 H locs) (hA : ∀ a, fz_AM h hd a → A0 a) (hn : As.length = n) (hsize : ls.size = nL) (hst : st0 = As.reverse ++ .ref h :: rest) (hw : (rest.map fun v => v.category).sum ≤ 8) (hdg : decode cc pc = .ok (.invokevirtual index, 3)) (hf : cells ≤ R.cells ∧ slots ≤ R.slots)
    (kk : ∀ (r : Int32) (u : S0) (H1 : Heap) (locs1 : List Loc), post r u → va_P D vwCl (fz_wM h hd dd (q' u) (p' u) (k' u) (g u)) H1 → (∀ a : Nat, a < H.size → ¬ fz_AM h hd a → H1[a]? = H[a]?) → va_S A0 H0 H1 locs1 → W P l e R s m args below meth c H1 locs1 cells slots Q (F0 m (pc + 3) ls (.int r :: rest))) : W P l e R s m args below meth c H locs cells slots Q (F0 m pc ls st0) :=
  va_calli (va_runV (As := As) (rest := rest) S hM cw ⟨fun a U g mk z => ⟨z.1, z.2.1, va_K.moved (u := U) (U := U.calling g mk a) (Vm.Alike.refl U.vm) z.2.2⟩, va_recv hK hP (ci := 1) (q0 := 0) rfl rfl, fun U hU hW => ⟨rfl, by rw [hU]; exact hP, va_K.moved hW.alike hK⟩⟩ rfl hn hsize hst (lv_room hw) hdg hf) hS (fun a _ z => hA a z) hA (fun r u t H1 locs1 ht hvm hp hB hz hk hS1 => kk r u H1 locs1 hp (by rw [← ht]; exact hB) hk hS1)
theorem fz_callMv {S0 : Type} {A0 : Nat → Prop} {H0 : Heap} {h hd : Nat} {dd : ClassId} {q p k : Nat} {f : Nat → Int32} {q' p' k' : S0 → Nat} {g : S0 → Nat → Int32} {post : S0 → Prop} (S : CallFix P m c cc nL s args lw_all own) (hM : Met l y ws rm (va_Pc (.ref h :: As) (fz_BM D h hd dd q p k f)) (va_Qv post (fun u t => va_P D vwCl (fz_wM h hd dd (q' u) (p' u) (k' u) (g u)) t.heap) (fz_AM h hd)) 0 0 (fz_AM h hd)) (cw : CallW R s args own RX1 index y bytes maxL ret ws rm 0 0 n)
    (hP : va_P D vwCl (fz_wM h hd dd q p k f) H) (hK : va_K D vwCl (fz_tM dd) s) (hS : va_S A0 H0 H locs) (hA : ∀ a, fz_AM h hd a → A0 a) (hn : As.length = n) (hsize : ls.size = nL) (hst : st0 = As.reverse ++ .ref h :: rest) (hw : (rest.map fun v => v.category).sum ≤ 8) (hdg : decode cc pc = .ok (.invokevirtual index, 3)) (hf : cells ≤ R.cells ∧ slots ≤ R.slots)
    (kk : ∀ (u : S0) (H1 : Heap) (locs1 : List Loc), post u → va_P D vwCl (fz_wM h hd dd (q' u) (p' u) (k' u) (g u)) H1 → (∀ a : Nat, a < H.size → ¬ fz_AM h hd a → H1[a]? = H[a]?) → va_S A0 H0 H1 locs1 → W P l e R s m args below meth c H1 locs1 cells slots Q (F0 m (pc + 3) ls rest)) : W P l e R s m args below meth c H locs cells slots Q (F0 m pc ls st0) :=
  va_callv (va_runV (As := As) (rest := rest) S hM cw ⟨fun a U g mk z => ⟨z.1, z.2.1, va_K.moved (u := U) (U := U.calling g mk a) (Vm.Alike.refl U.vm) z.2.2⟩, va_recv hK hP (ci := 1) (q0 := 0) rfl rfl, fun U hU hW => ⟨rfl, by rw [hU]; exact hP, va_K.moved hW.alike hK⟩⟩ rfl hn hsize hst (lv_room hw) hdg hf) hS (fun a _ z => hA a z) hA (fun u t H1 locs1 ht hvm hp hB hz hk hS1 => kk u H1 locs1 hp (by rw [← ht]; exact hB) hk hS1)
end NV
end
section
/-! FieldTower, leaves: contracts of the methods that call nothing and change nothing -/
/-- the class's tables hold the powers (twice over) and the exponents -/
def fz_XOk (q : Nat) (f1 f2 : Nat → Int32) : Prop := (∀ n, n < 2 * (q - 1) → f1 n = nI (fz_pw q (n % (q - 1)))) ∧ (∀ a, a ≠ 0 → a < q → f2 a = nI (fz_lg q a))
theorem cd_X0_isElement : yX0_isElement.cls = RX0 ∧ yX0_isElement.cls ≠ "java/lang/invoke/MethodHandle" ∧ yX0_isElement.cls ≠ "java/lang/invoke/VarHandle" ∧ (parseMethodDescriptor yX0_isElement.desc).map (fun d => d.parameters.length) = some 1 := by decide +kernel
theorem cd_X0_isField : yX0_isField.cls = RX0 ∧ yX0_isField.cls ≠ "java/lang/invoke/MethodHandle" ∧ yX0_isField.cls ≠ "java/lang/invoke/VarHandle" ∧ (parseMethodDescriptor yX0_isField.desc).map (fun d => d.parameters.length) = some 1 := by decide +kernel
theorem cd_X0_sumOf : yX0_sumOf.cls = RX0 ∧ yX0_sumOf.cls ≠ "java/lang/invoke/MethodHandle" ∧ yX0_sumOf.cls ≠ "java/lang/invoke/VarHandle" ∧ (parseMethodDescriptor yX0_sumOf.desc).map (fun d => d.parameters.length) = some 2 := by decide +kernel
theorem cd_X0_productOf : yX0_productOf.cls = RX0 ∧ yX0_productOf.cls ≠ "java/lang/invoke/MethodHandle" ∧ yX0_productOf.cls ≠ "java/lang/invoke/VarHandle" ∧ (parseMethodDescriptor yX0_productOf.desc).map (fun d => d.parameters.length) = some 2 := by decide +kernel
theorem cd_X0_powerOf : yX0_powerOf.cls = RX0 ∧ yX0_powerOf.cls ≠ "java/lang/invoke/MethodHandle" ∧ yX0_powerOf.cls ≠ "java/lang/invoke/VarHandle" ∧ (parseMethodDescriptor yX0_powerOf.desc).map (fun d => d.parameters.length) = some 2 := by decide +kernel
theorem cd_X0_productByCoefficients : yX0_productByCoefficients.cls = RX0 ∧ yX0_productByCoefficients.cls ≠ "java/lang/invoke/MethodHandle" ∧ yX0_productByCoefficients.cls ≠ "java/lang/invoke/VarHandle" ∧ (parseMethodDescriptor yX0_productByCoefficients.desc).map (fun d => d.parameters.length) = some 2 := by decide +kernel
theorem cd_X0_makesAll : yX0_makesAll.cls = RX0 ∧ yX0_makesAll.cls ≠ "java/lang/invoke/MethodHandle" ∧ yX0_makesAll.cls ≠ "java/lang/invoke/VarHandle" ∧ (parseMethodDescriptor yX0_makesAll.desc).map (fun d => d.parameters.length) = some 1 := by decide +kernel
theorem cd_X0_build : yX0_build.cls = RX0 ∧ yX0_build.cls ≠ "java/lang/invoke/MethodHandle" ∧ yX0_build.cls ≠ "java/lang/invoke/VarHandle" ∧ (parseMethodDescriptor yX0_build.desc).map (fun d => d.parameters.length) = some 3 := by decide +kernel
theorem cd_X0_use : yX0_use.cls = RX0 ∧ yX0_use.cls ≠ "java/lang/invoke/MethodHandle" ∧ yX0_use.cls ≠ "java/lang/invoke/VarHandle" ∧ (parseMethodDescriptor yX0_use.desc).map (fun d => d.parameters.length) = some 1 := by decide +kernel
theorem cd_X0_add : yX0_add.cls = RX0 ∧ yX0_add.cls ≠ "java/lang/invoke/MethodHandle" ∧ yX0_add.cls ≠ "java/lang/invoke/VarHandle" ∧ (parseMethodDescriptor yX0_add.desc).map (fun d => d.parameters.length) = some 2 := by decide +kernel
theorem cd_X0_multiply : yX0_multiply.cls = RX0 ∧ yX0_multiply.cls ≠ "java/lang/invoke/MethodHandle" ∧ yX0_multiply.cls ≠ "java/lang/invoke/VarHandle" ∧ (parseMethodDescriptor yX0_multiply.desc).map (fun d => d.parameters.length) = some 2 := by decide +kernel
theorem cd_X0_invert : yX0_invert.cls = RX0 ∧ yX0_invert.cls ≠ "java/lang/invoke/MethodHandle" ∧ yX0_invert.cls ≠ "java/lang/invoke/VarHandle" ∧ (parseMethodDescriptor yX0_invert.desc).map (fun d => d.parameters.length) = some 1 := by decide +kernel
theorem cd_X0_power : yX0_power.cls = RX0 ∧ yX0_power.cls ≠ "java/lang/invoke/MethodHandle" ∧ yX0_power.cls ≠ "java/lang/invoke/VarHandle" ∧ (parseMethodDescriptor yX0_power.desc).map (fun d => d.parameters.length) = some 2 := by decide +kernel
theorem cd_X0_order : yX0_order.cls = RX0 ∧ yX0_order.cls ≠ "java/lang/invoke/MethodHandle" ∧ yX0_order.cls ≠ "java/lang/invoke/VarHandle" ∧ (parseMethodDescriptor yX0_order.desc).map (fun d => d.parameters.length) = some 1 := by decide +kernel
theorem cd_X0_root : yX0_root.cls = RX0 ∧ yX0_root.cls ≠ "java/lang/invoke/MethodHandle" ∧ yX0_root.cls ≠ "java/lang/invoke/VarHandle" ∧ (parseMethodDescriptor yX0_root.desc).map (fun d => d.parameters.length) = some 1 := by decide +kernel
theorem cd_X0_roots : yX0_roots.cls = RX0 ∧ yX0_roots.cls ≠ "java/lang/invoke/MethodHandle" ∧ yX0_roots.cls ≠ "java/lang/invoke/VarHandle" ∧ (parseMethodDescriptor yX0_roots.desc).map (fun d => d.parameters.length) = some 2 := by decide +kernel
theorem cd_X0_trace : yX0_trace.cls = RX0 ∧ yX0_trace.cls ≠ "java/lang/invoke/MethodHandle" ∧ yX0_trace.cls ≠ "java/lang/invoke/VarHandle" ∧ (parseMethodDescriptor yX0_trace.desc).map (fun d => d.parameters.length) = some 2 := by decide +kernel
theorem cd_X0_home : yX0_home.cls = RX0 ∧ yX0_home.cls ≠ "java/lang/invoke/MethodHandle" ∧ yX0_home.cls ≠ "java/lang/invoke/VarHandle" ∧ (parseMethodDescriptor yX0_home.desc).map (fun d => d.parameters.length) = some 1 := by decide +kernel
theorem cd_X0_logarithm : yX0_logarithm.cls = RX0 ∧ yX0_logarithm.cls ≠ "java/lang/invoke/MethodHandle" ∧ yX0_logarithm.cls ≠ "java/lang/invoke/VarHandle" ∧ (parseMethodDescriptor yX0_logarithm.desc).map (fun d => d.parameters.length) = some 2 := by decide +kernel
set_option maxHeartbeats 4000000 in
set_option maxRecDepth 100000 in
theorem mX0_isElement (l : Launch) {D : va_G} {h h1 h2 h3 : Nat} {d1 d2 d3 : ClassId} {q p k : Nat} {f1 f2 f3 : Nat → Int32} (a : Int32) : Met l yX0_isElement (ws_ yX0_isElement cX0_isElement 2 (some .boolean)) ({ frames := 0, cells := 0, slots := 0, locals := 0 }) (va_Pc [.ref h, .int a] (fz_BX D h h1 h2 h3 d1 d2 d3 q p k f1 f2 f3)) (vp_Si (fun r => r = nI (cond (fz_el q a) 1 0))) 0 0 (fun _ => False) := by
  refine Met.ofW (cc := cX0_isElement) (maxL := 2) (ret := (some .boolean)) (by decide) rfl ?_
  intro P e s m args below meth c s₁ B hml hv
  obtain ⟨rfl, hP, hK⟩ := hv
  have hx := B.exec
  have hb := B.bytes
  have hr := B.returns
  have hts := atoms_spec (ws := ws_ yX0_isElement cX0_isElement 2 (some .boolean)) B.pre
  have hts : ∀ w ∈ lw_all, w.before _ s = true := fun w h => hts w (List.mem_cons_of_mem _ h)
  have hown : s.vm.findClass RX0 = some m.cls := findClass_of_methodNamed B.named
  have hlocks := B.notSynchronized
  have hl := lv_entry ([.ref h, .int a]) (n := 2) (Nat.le_of_ble_eq_true rfl)
  rw [lg_entry_eq]
  generalize (lg_sl ([.ref h, .int a]) ++ List.replicate (2 - (lg_sl ([.ref h, .int a])).length) Slot.unset).toArray = ls at hl ⊢
  have hl : lv_has ls 2 [(0, .ref h), (1, .int a)] := hl
  refine lv_iload_n hx hb dX0_isElement_0 rfl (lv_at hl 1 rfl) ?_
  refine lv_if_lt (tgt := 16) hx hb dX0_isElement_1 (by decide) (fun c_1 => ?_) (fun c_1 => ?_)
  · refine lv_iconst (v := nI 0) hx hb dX0_isElement_16 (by decide) ?_
    exact W.zret (v := (nI 0)) hx hb hr rfl (fun t ht hW => ⟨_, rfl, (by rw [fz_el_neg c_1]; rfl), ht⟩) (fun _ z => absurd z List.not_mem_nil) dX0_isElement_17
  · refine lv_iload_n hx hb dX0_isElement_4 rfl (lv_at hl 1 rfl) ?_
    refine lv_aload_n hx hb dX0_isElement_5 rfl (lv_at hl 0 rfl) ?_
    refine va_get (D := D) (ci := 0) (v := .int (nI q)) (C := RX0) (T := TX0) (N := 6) hx hb hts in_X0 hown hK hP 0 rfl rfl 0 (by decide) (hts _ q40) (fun _ h9 => h9) rfl dX0_isElement_6 ?_
    refine lv_icmp_ge (tgt := 16) hx hb dX0_isElement_9 (by decide) (fun c_9 => ?_) (fun c_9 => ?_)
    · refine lv_iconst (v := nI 0) hx hb dX0_isElement_16 (by decide) ?_
      exact W.zret (v := (nI 0)) hx hb hr rfl (fun t ht hW => ⟨_, rfl, (by rw [fz_el_big (Int32.not_lt.mpr c_9)]; rfl), ht⟩) (fun _ z => absurd z List.not_mem_nil) dX0_isElement_17
    · refine lv_iconst (v := nI 1) hx hb dX0_isElement_12 (by decide) ?_
      refine lv_goto (tgt := 17) hx hb dX0_isElement_13 (by decide) ?_
      exact W.zret (v := (nI 1)) hx hb hr rfl (fun t ht hW => ⟨_, rfl, (by rw [fz_el_t c_1 (Int32.not_le.mp c_9)]; rfl), ht⟩) (fun _ z => absurd z List.not_mem_nil) dX0_isElement_17
set_option maxHeartbeats 4000000 in
set_option maxRecDepth 100000 in
theorem mX0_isField (l : Launch) {D : va_G} {h h1 h2 h3 : Nat} {d1 d2 d3 : ClassId} {q p k : Nat} {f1 f2 f3 : Nat → Int32} (hm : fz_Ok q p k) (z : Int32) : Met l yX0_isField (ws_ yX0_isField cX0_isField 2 (some .boolean)) ({ frames := 0, cells := 0, slots := 0, locals := 0 }) (va_Pc [.ref h, .int z] (fz_BX D h h1 h2 h3 d1 d2 d3 q p k f1 f2 f3)) (vp_Si (fun r => r = nI (cond (Nat.beq (fz_si q z) 0) 0 1))) 0 0 (fun _ => False) := by
  refine Met.ofW (cc := cX0_isField) (maxL := 2) (ret := (some .boolean)) (by decide) rfl ?_
  intro P e s m args below meth c s₁ B hml hv
  obtain ⟨rfl, hP, hK⟩ := hv
  have hx := B.exec
  have hb := B.bytes
  have hr := B.returns
  have hts := atoms_spec (ws := ws_ yX0_isField cX0_isField 2 (some .boolean)) B.pre
  have hts : ∀ w ∈ lw_all, w.before _ s = true := fun w h => hts w (List.mem_cons_of_mem _ h)
  have hown : s.vm.findClass RX0 = some m.cls := findClass_of_methodNamed B.named
  have hlocks := B.notSynchronized
  have hl := lv_entry ([.ref h, .int z]) (n := 2) (Nat.le_of_ble_eq_true rfl)
  rw [lg_entry_eq]
  generalize (lg_sl ([.ref h, .int z]) ++ List.replicate (2 - (lg_sl ([.ref h, .int z])).length) Slot.unset).toArray = ls at hl ⊢
  have hl : lv_has ls 2 [(0, .ref h), (1, .int z)] := hl
  rcases hm with ⟨rfl, rfl, rfl⟩ | ⟨rfl, rfl, rfl⟩
  · refine lv_aload_n hx hb dX0_isField_0 rfl (lv_at hl 0 rfl) ?_
    refine va_get (D := D) (ci := 0) (v := .int (nI 2)) (C := RX0) (T := TX0) (N := 6) hx hb hts in_X0 hown hK hP 0 rfl rfl 1 (by decide) (hts _ q41) (fun _ h9 => h9) rfl dX0_isField_1 ?_
    refine lv_iconst (v := nI 2) hx hb dX0_isField_4 (by decide) ?_
    refine lv_icmp_ne (tgt := 38) hx hb dX0_isField_5 (by decide) (fun c_ => False.elim ((fun z => z rfl) c_)) (fun _ => ?_)
    refine lv_iload_n hx hb dX0_isField_8 rfl (lv_at hl 1 rfl) ?_
    refine lv_iconst (v := nI 2) hx hb dX0_isField_9 (by decide) ?_
    refine lv_icmp_eq (tgt := 30) hx hb dX0_isField_10 (by decide) (fun c_10 => ?_) (fun c_10 => ?_)
    · refine lv_iconst (v := nI 1) hx hb dX0_isField_30 (by decide) ?_
      refine lv_goto (tgt := 60) hx hb dX0_isField_31 (by decide) ?_
      exact W.zret (v := (nI 1)) hx hb hr rfl (fun t ht hW => ⟨_, rfl, (by subst c_10; decide +kernel), ht⟩) (fun _ z => absurd z List.not_mem_nil) dX0_isField_60
    · refine lv_iload_n hx hb dX0_isField_13 rfl (lv_at hl 1 rfl) ?_
      refine lv_iconst (v := nI 4) hx hb dX0_isField_14 (by decide) ?_
      refine lv_icmp_eq (tgt := 30) hx hb dX0_isField_15 (by decide) (fun c_15 => ?_) (fun c_15 => ?_)
      · refine lv_iconst (v := nI 1) hx hb dX0_isField_30 (by decide) ?_
        refine lv_goto (tgt := 60) hx hb dX0_isField_31 (by decide) ?_
        exact W.zret (v := (nI 1)) hx hb hr rfl (fun t ht hW => ⟨_, rfl, (by subst c_15; decide +kernel), ht⟩) (fun _ z => absurd z List.not_mem_nil) dX0_isField_60
      · refine lv_iload_n hx hb dX0_isField_18 rfl (lv_at hl 1 rfl) ?_
        refine lv_bipush (v := nI 8) hx hb dX0_isField_19 (by decide) ?_
        refine lv_icmp_eq (tgt := 30) hx hb dX0_isField_21 (by decide) (fun c_21 => ?_) (fun c_21 => ?_)
        · refine lv_iconst (v := nI 1) hx hb dX0_isField_30 (by decide) ?_
          refine lv_goto (tgt := 60) hx hb dX0_isField_31 (by decide) ?_
          exact W.zret (v := (nI 1)) hx hb hr rfl (fun t ht hW => ⟨_, rfl, (by subst c_21; decide +kernel), ht⟩) (fun _ z => absurd z List.not_mem_nil) dX0_isField_60
        · refine lv_iload_n hx hb dX0_isField_24 rfl (lv_at hl 1 rfl) ?_
          refine lv_bipush (v := nI 64) hx hb dX0_isField_25 (by decide) ?_
          refine lv_icmp_ne (tgt := 34) hx hb dX0_isField_27 (by decide) (fun c_27 => ?_) (fun c_27 => ?_)
          · refine lv_iconst (v := nI 0) hx hb dX0_isField_34 (by decide) ?_
            refine lv_goto (tgt := 60) hx hb dX0_isField_35 (by decide) ?_
            exact W.zret (v := (nI 0)) hx hb hr rfl (fun t ht hW => ⟨_, rfl, (by rw [fz_si, if_pos rfl, if_neg c_10, if_neg c_15, if_neg c_21, if_neg c_27]; rfl), ht⟩) (fun _ z => absurd z List.not_mem_nil) dX0_isField_60
          · refine lv_iconst (v := nI 1) hx hb dX0_isField_30 (by decide) ?_
            refine lv_goto (tgt := 60) hx hb dX0_isField_31 (by decide) ?_
            exact W.zret (v := (nI 1)) hx hb hr rfl (fun t ht hW => ⟨_, rfl, (by subst c_27; decide +kernel), ht⟩) (fun _ z => absurd z List.not_mem_nil) dX0_isField_60
  · refine lv_aload_n hx hb dX0_isField_0 rfl (lv_at hl 0 rfl) ?_
    refine va_get (D := D) (ci := 0) (v := .int (nI 3)) (C := RX0) (T := TX0) (N := 6) hx hb hts in_X0 hown hK hP 0 rfl rfl 1 (by decide) (hts _ q41) (fun _ h9 => h9) rfl dX0_isField_1 ?_
    refine lv_iconst (v := nI 2) hx hb dX0_isField_4 (by decide) ?_
    refine lv_icmp_ne (tgt := 38) hx hb dX0_isField_5 (by decide) (fun _ => ?_) (fun c_ => False.elim ((fun z => absurd z (by decide)) c_))
    refine lv_iload_n hx hb dX0_isField_38 rfl (lv_at hl 1 rfl) ?_
    refine lv_iconst (v := nI 3) hx hb dX0_isField_39 (by decide) ?_
    refine lv_icmp_eq (tgt := 55) hx hb dX0_isField_40 (by decide) (fun c_40 => ?_) (fun c_40 => ?_)
    · refine lv_iconst (v := nI 1) hx hb dX0_isField_55 (by decide) ?_
      refine lv_goto (tgt := 60) hx hb dX0_isField_56 (by decide) ?_
      exact W.zret (v := (nI 1)) hx hb hr rfl (fun t ht hW => ⟨_, rfl, (by subst c_40; decide +kernel), ht⟩) (fun _ z => absurd z List.not_mem_nil) dX0_isField_60
    · refine lv_iload_n hx hb dX0_isField_43 rfl (lv_at hl 1 rfl) ?_
      refine lv_bipush (v := nI 9) hx hb dX0_isField_44 (by decide) ?_
      refine lv_icmp_eq (tgt := 55) hx hb dX0_isField_46 (by decide) (fun c_46 => ?_) (fun c_46 => ?_)
      · refine lv_iconst (v := nI 1) hx hb dX0_isField_55 (by decide) ?_
        refine lv_goto (tgt := 60) hx hb dX0_isField_56 (by decide) ?_
        exact W.zret (v := (nI 1)) hx hb hr rfl (fun t ht hW => ⟨_, rfl, (by subst c_46; decide +kernel), ht⟩) (fun _ z => absurd z List.not_mem_nil) dX0_isField_60
      · refine lv_iload_n hx hb dX0_isField_49 rfl (lv_at hl 1 rfl) ?_
        refine lv_bipush (v := nI 81) hx hb dX0_isField_50 (by decide) ?_
        refine lv_icmp_ne (tgt := 59) hx hb dX0_isField_52 (by decide) (fun c_52 => ?_) (fun c_52 => ?_)
        · refine lv_iconst (v := nI 0) hx hb dX0_isField_59 (by decide) ?_
          exact W.zret (v := (nI 0)) hx hb hr rfl (fun t ht hW => ⟨_, rfl, (by rw [fz_si, if_neg (by decide), if_neg c_40, if_neg c_46, if_neg c_52]; rfl), ht⟩) (fun _ z => absurd z List.not_mem_nil) dX0_isField_60
        · refine lv_iconst (v := nI 1) hx hb dX0_isField_55 (by decide) ?_
          refine lv_goto (tgt := 60) hx hb dX0_isField_56 (by decide) ?_
          exact W.zret (v := (nI 1)) hx hb hr rfl (fun t ht hW => ⟨_, rfl, (by subst c_52; decide +kernel), ht⟩) (fun _ z => absurd z List.not_mem_nil) dX0_isField_60
set_option maxHeartbeats 4000000 in
set_option maxRecDepth 100000 in
theorem mX0_divisor (l : Launch) {x y : Nat} (hx1 : x < 2 ^ 31) (hy1 : y < 2 ^ 31) : Met l yX0_divisor (ws_ yX0_divisor cX0_divisor 6 (some .int)) ({ frames := 0, cells := 0, slots := 0, locals := 0 }) (va_Pc [.int (nI x), .int (nI y)] (fun _ => True)) (vp_Si (fun r => r = nI (fz_dv 40 x y))) 0 0 (fun _ => False) := by
  refine Met.ofW (cc := cX0_divisor) (maxL := 6) (ret := (some .int)) (by decide) rfl ?_
  intro P e s m args below meth c s₁ B hml hv
  obtain ⟨rfl, -⟩ := hv
  have hx := B.exec
  have hb := B.bytes
  have hr := B.returns
  have hts := atoms_spec (ws := ws_ yX0_divisor cX0_divisor 6 (some .int)) B.pre
  have hts : ∀ w ∈ lw_all, w.before _ s = true := fun w h => hts w (List.mem_cons_of_mem _ h)
  have hown : s.vm.findClass RX0 = some m.cls := findClass_of_methodNamed B.named
  have hlocks := B.notSynchronized
  have hl := lv_entry ([.int (nI x), .int (nI y)]) (n := 6) (Nat.le_of_ble_eq_true rfl)
  rw [lg_entry_eq]
  generalize (lg_sl ([.int (nI x), .int (nI y)]) ++ List.replicate (6 - (lg_sl ([.int (nI x), .int (nI y)])).length) Slot.unset).toArray = ls at hl ⊢
  have hl : lv_has ls 6 [(0, .int (nI x)), (1, .int (nI y))] := hl
  refine lv_iload_n hx hb dX0_divisor_0 rfl (lv_at hl 0 rfl) ?_
  refine lv_istore_n (lv' := [(2, .int (nI x)), (0, .int (nI x)), (1, .int (nI y))]) hx hb dX0_divisor_1 rfl hl (by decide) rfl (fun ls hl => ?_)
  refine lv_iload_n hx hb dX0_divisor_2 rfl (lv_at hl 2 rfl) ?_
  refine lv_istore_n (lv' := [(3, .int (nI y)), (2, .int (nI x)), (0, .int (nI x)), (1, .int (nI y))]) hx hb dX0_divisor_3 rfl hl (by decide) rfl (fun ls hl => ?_)
  refine lv_iconst (v := nI 0) hx hb dX0_divisor_4 (by decide) ?_
  refine lv_istore (lv' := [(4, .int (nI 0)), (3, .int (nI y)), (2, .int (nI x)), (0, .int (nI x)), (1, .int (nI y))]) hx hb dX0_divisor_5 hl (by decide) rfl (fun ls hl => ?_)
  refine fz_loop 40 (fun i ls => ∃ a b, a < 2 ^ 31 ∧ b < 2 ^ 31 ∧ fz_dv (40 - i) a b = fz_dv 40 x y ∧ lv_has ls 6 [(4, .int (nI i)), (2, .int (nI a)), (3, .int (nI b))]) (fun ls hI => ?_) (fun i hi ih ls hI => ?_) 0 (Nat.zero_le _) ls ⟨x, y, hx1, hy1, rfl, lv_sub hl [0, 2, 1] rfl⟩
  · obtain ⟨a, b, ha, hB, hd, hl⟩ := hI
    refine lv_iload hx hb dX0_divisor_7 (lv_at hl 0 rfl) ?_
    refine lv_bipush (v := nI 40) hx hb dX0_divisor_9 (by decide) ?_
    refine lv_icmp_ge (tgt := 34) hx hb dX0_divisor_11 (by decide) (fun _ => ?_) (fun c_ => False.elim ((fun z => z (nI_le (Nat.le_refl 40) (by omega))) c_))
    refine lv_iload_n hx hb dX0_divisor_34 rfl (lv_at hl 2 rfl) ?_
    exact W.iret (v := (nI b)) hx hb hr (fun t ht hW => ⟨_, rfl, (by rw [← hd]; rfl), ht⟩) (fun _ z => absurd z List.not_mem_nil) dX0_divisor_35
  · obtain ⟨a, b, ha, hB, hd, hl⟩ := hI
    refine lv_iload hx hb dX0_divisor_7 (lv_at hl 0 rfl) ?_
    refine lv_bipush (v := nI 40) hx hb dX0_divisor_9 (by decide) ?_
    refine lv_icmp_ge (tgt := 34) hx hb dX0_divisor_11 (by decide) (fun c_ => False.elim ((nI_ge hi (by omega)) c_)) (fun _ => ?_)
    refine lv_iload_n hx hb dX0_divisor_14 rfl (lv_at hl 1 rfl) ?_
    refine lv_if_le (tgt := 34) hx hb dX0_divisor_15 (by decide) (fun c_15 => ?_) (fun c_15 => ?_)
    · refine lv_iload_n hx hb dX0_divisor_34 rfl (lv_at hl 2 rfl) ?_
      exact W.iret (v := (nI b)) hx hb hr (fun t ht hW => ⟨_, rfl, (by rw [← hd, show a = 0 from (by rcases Nat.eq_zero_or_pos a with z | z; exact z; exact absurd c_15 (nI_nle z ha)), show 40 - i = (40 - (i + 1)) + 1 by omega]; rfl), ht⟩) (fun _ z => absurd z List.not_mem_nil) dX0_divisor_35
    · have ha0 : 0 < a := by
        rcases Nat.eq_zero_or_pos a with z | z
        · subst z; exact absurd (Int32.le_refl 0) c_15
        · exact z
      refine lv_iload_n hx hb dX0_divisor_18 rfl (lv_at hl 2 rfl) ?_
      refine lv_iload_n hx hb dX0_divisor_19 rfl (lv_at hl 1 rfl) ?_
      refine nv_irem hx hb dX0_divisor_20 (by omega) (by omega) (by omega) ?_
      refine lv_istore (lv' := [(5, .int (nI (b % a))), (4, .int (nI i)), (2, .int (nI a)), (3, .int (nI b))]) hx hb dX0_divisor_21 hl (by decide) rfl (fun ls hl => ?_)
      refine lv_iload_n hx hb dX0_divisor_23 rfl (lv_at hl 2 rfl) ?_
      refine lv_istore_n (lv' := [(3, .int (nI a)), (5, .int (nI (b % a))), (4, .int (nI i)), (2, .int (nI a))]) hx hb dX0_divisor_24 rfl hl (by decide) rfl (fun ls hl => ?_)
      refine lv_iload hx hb dX0_divisor_25 (lv_at hl 1 rfl) ?_
      refine lv_istore_n (lv' := [(2, .int (nI (b % a))), (3, .int (nI a)), (5, .int (nI (b % a))), (4, .int (nI i))]) hx hb dX0_divisor_27 rfl hl (by decide) rfl (fun ls hl => ?_)
      refine lv_iinc (v := (nI (i + 1))) (lv' := [(4, .int (nI (i + 1))), (2, .int (nI (b % a))), (3, .int (nI a)), (5, .int (nI (b % a)))]) hx hb dX0_divisor_28 hl (k := 3) rfl (nv_inc _) (by decide) rfl (fun ls hl => ?_)
      refine lv_goto (tgt := 7) hx hb dX0_divisor_31 (by decide) ?_
      exact ih ls ⟨b % a, a, by have := Nat.mod_lt b ha0; omega, ha, by rw [← hd, show 40 - i = (40 - (i + 1)) + 1 by omega, fz_dv, fz_beq_f (by omega)]; rfl, lv_sub hl [0, 1, 2] rfl⟩
set_option maxHeartbeats 4000000 in
set_option maxRecDepth 100000 in
theorem mX0_inverseModulo (l : Launch) {x y : Int32} (hy0 : ¬ y = 0) : Met l yX0_inverseModulo (ws_ yX0_inverseModulo cX0_inverseModulo 10 (some .int)) ({ frames := 0, cells := 0, slots := 0, locals := 0 }) (va_Pc [.int x, .int y] (fun _ => True)) (vp_Si (fun r => r = fz_im x y)) 0 0 (fun _ => False) := by
  refine Met.ofW (cc := cX0_inverseModulo) (maxL := 10) (ret := (some .int)) (by decide) rfl ?_
  intro P e s m args below meth c s₁ B hml hv
  obtain ⟨rfl, -⟩ := hv
  have hx := B.exec
  have hb := B.bytes
  have hr := B.returns
  have hts := atoms_spec (ws := ws_ yX0_inverseModulo cX0_inverseModulo 10 (some .int)) B.pre
  have hts : ∀ w ∈ lw_all, w.before _ s = true := fun w h => hts w (List.mem_cons_of_mem _ h)
  have hown : s.vm.findClass RX0 = some m.cls := findClass_of_methodNamed B.named
  have hlocks := B.notSynchronized
  have hl := lv_entry ([.int x, .int y]) (n := 10) (Nat.le_of_ble_eq_true rfl)
  rw [lg_entry_eq]
  generalize (lg_sl ([.int x, .int y]) ++ List.replicate (10 - (lg_sl ([.int x, .int y])).length) Slot.unset).toArray = ls at hl ⊢
  have hl : lv_has ls 10 [(0, .int x), (1, .int y)] := hl
  refine lv_iload_n hx hb dX0_inverseModulo_0 rfl (lv_at hl 1 rfl) ?_
  refine lv_istore_n (lv' := [(2, .int y), (0, .int x), (1, .int y)]) hx hb dX0_inverseModulo_1 rfl hl (by decide) rfl (fun ls hl => ?_)
  refine lv_iload_n hx hb dX0_inverseModulo_2 rfl (lv_at hl 1 rfl) ?_
  refine lv_iload_n hx hb dX0_inverseModulo_3 rfl (lv_at hl 2 rfl) ?_
  refine lv_irem hx hb dX0_inverseModulo_4 hy0 ?_
  refine lv_istore_n (lv' := [(3, .int (x - x / y * y)), (2, .int y), (0, .int x), (1, .int y)]) hx hb dX0_inverseModulo_5 rfl hl (by decide) rfl (fun ls hl => ?_)
  refine lv_iconst (v := nI 0) hx hb dX0_inverseModulo_6 (by decide) ?_
  refine lv_istore (lv' := [(4, .int (nI 0)), (3, .int (x - x / y * y)), (2, .int y), (0, .int x), (1, .int y)]) hx hb dX0_inverseModulo_7 hl (by decide) rfl (fun ls hl => ?_)
  refine lv_iconst (v := nI 1) hx hb dX0_inverseModulo_9 (by decide) ?_
  refine lv_istore (lv' := [(5, .int (nI 1)), (4, .int (nI 0)), (3, .int (x - x / y * y)), (2, .int y), (0, .int x), (1, .int y)]) hx hb dX0_inverseModulo_10 hl (by decide) rfl (fun ls hl => ?_)
  refine lv_iconst (v := nI 0) hx hb dX0_inverseModulo_12 (by decide) ?_
  refine lv_istore (lv' := [(6, .int (nI 0)), (5, .int (nI 1)), (4, .int (nI 0)), (3, .int (x - x / y * y)), (2, .int y), (0, .int x), (1, .int y)]) hx hb dX0_inverseModulo_13 hl (by decide) rfl (fun ls hl => ?_)
  refine fz_loop 20 (fun i ls => ∃ a b u v, fz_il (20 - i) a b u v = fz_il 20 y (x - x / y * y) 0 1 ∧ lv_has ls 10 [(6, .int (nI i)), (2, .int a), (3, .int b), (4, .int u), (5, .int v), (1, .int y)]) (fun ls hI => ?_) (fun i hi ih ls hI => ?_) 0 (Nat.zero_le _) ls ⟨y, (x - x / y * y), nI 0, nI 1, rfl, lv_sub hl [0, 4, 3, 2, 1, 6] rfl⟩
  · obtain ⟨a, b, u, v, hd, hl⟩ := hI
    have hd : u = fz_il 20 y (x - x / y * y) 0 1 := hd
    refine lv_iload hx hb dX0_inverseModulo_15 (lv_at hl 0 rfl) ?_
    refine lv_bipush (v := nI 20) hx hb dX0_inverseModulo_17 (by decide) ?_
    refine lv_icmp_ge (tgt := 68) hx hb dX0_inverseModulo_19 (by decide) (fun _ => ?_) (fun c_ => False.elim ((fun z => z (nI_le (Nat.le_refl 20) (by omega))) c_))
    refine lv_iload hx hb dX0_inverseModulo_68 (lv_at hl 3 rfl) ?_
    refine lv_if_ge (tgt := 80) hx hb dX0_inverseModulo_70 (by decide) (fun c_70 => ?_) (fun c_70 => ?_)
    · refine lv_iload hx hb dX0_inverseModulo_80 (lv_at hl 3 rfl) ?_
      exact W.iret (v := u) hx hb hr (fun t ht hW => ⟨_, rfl, (by rw [fz_im, ← hd, if_neg (Int32.not_lt.mpr c_70)]), ht⟩) (fun _ z => absurd z List.not_mem_nil) dX0_inverseModulo_82
    · refine lv_iload hx hb dX0_inverseModulo_73 (lv_at hl 3 rfl) ?_
      refine lv_iload_n hx hb dX0_inverseModulo_75 rfl (lv_at hl 5 rfl) ?_
      refine lv_iadd hx hb dX0_inverseModulo_76 ?_
      refine lv_goto (tgt := 82) hx hb dX0_inverseModulo_77 (by decide) ?_
      exact W.iret (v := (u + y)) hx hb hr (fun t ht hW => ⟨_, rfl, (by rw [fz_im, ← hd, if_pos (Int32.not_le.mp c_70)]), ht⟩) (fun _ z => absurd z List.not_mem_nil) dX0_inverseModulo_82
  · obtain ⟨a, b, u, v, hd, hl⟩ := hI
    refine lv_iload hx hb dX0_inverseModulo_15 (lv_at hl 0 rfl) ?_
    refine lv_bipush (v := nI 20) hx hb dX0_inverseModulo_17 (by decide) ?_
    refine lv_icmp_ge (tgt := 68) hx hb dX0_inverseModulo_19 (by decide) (fun c_ => False.elim ((nI_ge hi (by omega)) c_)) (fun _ => ?_)
    refine lv_iload_n hx hb dX0_inverseModulo_22 rfl (lv_at hl 2 rfl) ?_
    refine lv_if_le (tgt := 68) hx hb dX0_inverseModulo_23 (by decide) (fun c_23 => ?_) (fun c_23 => ?_)
    · have hd : u = fz_il 20 y (x - x / y * y) 0 1 := by rw [← hd, show 20 - i = (20 - (i + 1)) + 1 by omega, fz_il, if_pos c_23]
      refine lv_iload hx hb dX0_inverseModulo_68 (lv_at hl 3 rfl) ?_
      refine lv_if_ge (tgt := 80) hx hb dX0_inverseModulo_70 (by decide) (fun c_70 => ?_) (fun c_70 => ?_)
      · refine lv_iload hx hb dX0_inverseModulo_80 (lv_at hl 3 rfl) ?_
        exact W.iret (v := u) hx hb hr (fun t ht hW => ⟨_, rfl, (by rw [fz_im, ← hd, if_neg (Int32.not_lt.mpr c_70)]), ht⟩) (fun _ z => absurd z List.not_mem_nil) dX0_inverseModulo_82
      · refine lv_iload hx hb dX0_inverseModulo_73 (lv_at hl 3 rfl) ?_
        refine lv_iload_n hx hb dX0_inverseModulo_75 rfl (lv_at hl 5 rfl) ?_
        refine lv_iadd hx hb dX0_inverseModulo_76 ?_
        refine lv_goto (tgt := 82) hx hb dX0_inverseModulo_77 (by decide) ?_
        exact W.iret (v := (u + y)) hx hb hr (fun t ht hW => ⟨_, rfl, (by rw [fz_im, ← hd, if_pos (Int32.not_le.mp c_70)]), ht⟩) (fun _ z => absurd z List.not_mem_nil) dX0_inverseModulo_82
    · have hb0 : ¬ b = 0 := fun z => c_23 (by rw [z]; exact Int32.le_refl 0)
      refine lv_iload_n hx hb dX0_inverseModulo_26 rfl (lv_at hl 1 rfl) ?_
      refine lv_iload_n hx hb dX0_inverseModulo_27 rfl (lv_at hl 2 rfl) ?_
      refine lv_idiv hx hb dX0_inverseModulo_28 hb0 ?_
      refine lv_istore (lv' := [(7, .int (a / b)), (6, .int (nI i)), (2, .int a), (3, .int b), (4, .int u), (5, .int v), (1, .int y)]) hx hb dX0_inverseModulo_29 hl (by decide) rfl (fun ls hl => ?_)
      refine lv_iload_n hx hb dX0_inverseModulo_31 rfl (lv_at hl 2 rfl) ?_
      refine lv_iload hx hb dX0_inverseModulo_32 (lv_at hl 0 rfl) ?_
      refine lv_iload_n hx hb dX0_inverseModulo_34 rfl (lv_at hl 3 rfl) ?_
      refine lv_imul hx hb dX0_inverseModulo_35 ?_
      refine lv_isub hx hb dX0_inverseModulo_36 ?_
      refine lv_istore (lv' := [(8, .int (a - ((a / b) * b))), (7, .int (a / b)), (6, .int (nI i)), (2, .int a), (3, .int b), (4, .int u), (5, .int v), (1, .int y)]) hx hb dX0_inverseModulo_37 hl (by decide) rfl (fun ls hl => ?_)
      refine lv_iload hx hb dX0_inverseModulo_39 (lv_at hl 5 rfl) ?_
      refine lv_iload hx hb dX0_inverseModulo_41 (lv_at hl 1 rfl) ?_
      refine lv_iload hx hb dX0_inverseModulo_43 (lv_at hl 6 rfl) ?_
      refine lv_imul hx hb dX0_inverseModulo_45 ?_
      refine lv_isub hx hb dX0_inverseModulo_46 ?_
      refine lv_istore (lv' := [(9, .int (u - ((a / b) * v))), (8, .int (a - ((a / b) * b))), (7, .int (a / b)), (6, .int (nI i)), (2, .int a), (3, .int b), (4, .int u), (5, .int v), (1, .int y)]) hx hb dX0_inverseModulo_47 hl (by decide) rfl (fun ls hl => ?_)
      refine lv_iload_n hx hb dX0_inverseModulo_49 rfl (lv_at hl 5 rfl) ?_
      refine lv_istore_n (lv' := [(2, .int b), (9, .int (u - ((a / b) * v))), (8, .int (a - ((a / b) * b))), (7, .int (a / b)), (6, .int (nI i)), (3, .int b), (4, .int u), (5, .int v), (1, .int y)]) hx hb dX0_inverseModulo_50 rfl hl (by decide) rfl (fun ls hl => ?_)
      refine lv_iload hx hb dX0_inverseModulo_51 (lv_at hl 2 rfl) ?_
      refine lv_istore_n (lv' := [(3, .int (a - ((a / b) * b))), (2, .int b), (9, .int (u - ((a / b) * v))), (8, .int (a - ((a / b) * b))), (7, .int (a / b)), (6, .int (nI i)), (4, .int u), (5, .int v), (1, .int y)]) hx hb dX0_inverseModulo_53 rfl hl (by decide) rfl (fun ls hl => ?_)
      refine lv_iload hx hb dX0_inverseModulo_54 (lv_at hl 7 rfl) ?_
      refine lv_istore (lv' := [(4, .int v), (3, .int (a - ((a / b) * b))), (2, .int b), (9, .int (u - ((a / b) * v))), (8, .int (a - ((a / b) * b))), (7, .int (a / b)), (6, .int (nI i)), (5, .int v), (1, .int y)]) hx hb dX0_inverseModulo_56 hl (by decide) rfl (fun ls hl => ?_)
      refine lv_iload hx hb dX0_inverseModulo_58 (lv_at hl 3 rfl) ?_
      refine lv_istore (lv' := [(5, .int (u - ((a / b) * v))), (4, .int v), (3, .int (a - ((a / b) * b))), (2, .int b), (9, .int (u - ((a / b) * v))), (8, .int (a - ((a / b) * b))), (7, .int (a / b)), (6, .int (nI i)), (1, .int y)]) hx hb dX0_inverseModulo_60 hl (by decide) rfl (fun ls hl => ?_)
      refine lv_iinc (v := (nI (i + 1))) (lv' := [(6, .int (nI (i + 1))), (5, .int (u - ((a / b) * v))), (4, .int v), (3, .int (a - ((a / b) * b))), (2, .int b), (9, .int (u - ((a / b) * v))), (8, .int (a - ((a / b) * b))), (7, .int (a / b)), (1, .int y)]) hx hb dX0_inverseModulo_62 hl (k := 7) rfl (nv_inc _) (by decide) rfl (fun ls hl => ?_)
      refine lv_goto (tgt := 15) hx hb dX0_inverseModulo_65 (by decide) ?_
      exact ih ls ⟨b, a - a / b * b, v, u - a / b * v, by rw [← hd, show 20 - i = (20 - (i + 1)) + 1 by omega, fz_il, if_neg c_23], lv_sub hl [0, 4, 3, 2, 1, 8] rfl⟩
set_option maxHeartbeats 4000000 in
set_option maxRecDepth 100000 in
theorem mX0_sumOf (l : Launch) {D : va_G} {h h1 h2 h3 : Nat} {d1 d2 d3 : ClassId} {q p k : Nat} {f1 f2 f3 : Nat → Int32} (hm : fz_Ok q p k) {a b : Nat} (ha : a < 2 ^ 31) (hb1 : b < 2 ^ 31) : Met l yX0_sumOf (ws_ yX0_sumOf cX0_sumOf 8 (some .int)) ({ frames := 0, cells := 0, slots := 0, locals := 0 }) (va_Pc [.ref h, .int (nI a), .int (nI b)] (fz_BX D h h1 h2 h3 d1 d2 d3 q p k f1 f2 f3)) (vp_Si (fun r => r = nI (fz_sum p a b k))) 0 0 (fun _ => False) := by
  obtain ⟨hp2, hp3, hk4, hk6, hq64, hq81, hpk⟩ := fz_facts hm
  refine Met.ofW (cc := cX0_sumOf) (maxL := 8) (ret := (some .int)) (by decide) rfl ?_
  intro P e s m args below meth c s₁ B hml hv
  obtain ⟨rfl, hP, hK⟩ := hv
  have hx := B.exec
  have hb := B.bytes
  have hr := B.returns
  have hts := atoms_spec (ws := ws_ yX0_sumOf cX0_sumOf 8 (some .int)) B.pre
  have hts : ∀ w ∈ lw_all, w.before _ s = true := fun w h => hts w (List.mem_cons_of_mem _ h)
  have hown : s.vm.findClass RX0 = some m.cls := findClass_of_methodNamed B.named
  have hlocks := B.notSynchronized
  have hl := lv_entry ([.ref h, .int (nI a), .int (nI b)]) (n := 8) (Nat.le_of_ble_eq_true rfl)
  rw [lg_entry_eq]
  generalize (lg_sl ([.ref h, .int (nI a), .int (nI b)]) ++ List.replicate (8 - (lg_sl ([.ref h, .int (nI a), .int (nI b)])).length) Slot.unset).toArray = ls at hl ⊢
  have hl : lv_has ls 8 [(0, .ref h), (1, .int (nI a)), (2, .int (nI b))] := hl
  refine lv_iconst (v := nI 0) hx hb dX0_sumOf_0 (by decide) ?_
  refine lv_istore_n (lv' := [(3, .int (nI 0)), (0, .ref h), (1, .int (nI a)), (2, .int (nI b))]) hx hb dX0_sumOf_1 rfl hl (by decide) rfl (fun ls hl => ?_)
  refine lv_iconst (v := nI 1) hx hb dX0_sumOf_2 (by decide) ?_
  refine lv_istore (lv' := [(4, .int (nI 1)), (3, .int (nI 0)), (0, .ref h), (1, .int (nI a)), (2, .int (nI b))]) hx hb dX0_sumOf_3 hl (by decide) rfl (fun ls hl => ?_)
  refine lv_iload_n hx hb dX0_sumOf_5 rfl (lv_at hl 3 rfl) ?_
  refine lv_istore (lv' := [(5, .int (nI a)), (4, .int (nI 1)), (3, .int (nI 0)), (0, .ref h), (1, .int (nI a)), (2, .int (nI b))]) hx hb dX0_sumOf_6 hl (by decide) rfl (fun ls hl => ?_)
  refine lv_iload_n hx hb dX0_sumOf_8 rfl (lv_at hl 5 rfl) ?_
  refine lv_istore (lv' := [(6, .int (nI b)), (5, .int (nI a)), (4, .int (nI 1)), (3, .int (nI 0)), (0, .ref h), (1, .int (nI a)), (2, .int (nI b))]) hx hb dX0_sumOf_9 hl (by decide) rfl (fun ls hl => ?_)
  refine lv_iconst (v := nI 0) hx hb dX0_sumOf_11 (by decide) ?_
  refine lv_istore (lv' := [(7, .int (nI 0)), (6, .int (nI b)), (5, .int (nI a)), (4, .int (nI 1)), (3, .int (nI 0)), (0, .ref h), (1, .int (nI a)), (2, .int (nI b))]) hx hb dX0_sumOf_12 hl (by decide) rfl (fun ls hl => ?_)
  have hl : lv_has ls 8 [(7, .int (nI 0)), (3, .int (nI (fz_sum p a b 0))), (4, .int (nI (p ^ 0))), (5, .int (nI (a / p ^ 0))), (6, .int (nI (b / p ^ 0))), (0, .ref h)] := by rw [Nat.pow_zero, Nat.div_one, Nat.div_one]; exact lv_sub hl [0, 4, 3, 2, 1, 5] rfl
  refine fz_loop k (fun i ls => lv_has ls 8 [(7, .int (nI i)), (3, .int (nI (fz_sum p a b i))), (4, .int (nI (p ^ i))), (5, .int (nI (a / p ^ i))), (6, .int (nI (b / p ^ i))), (0, .ref h)]) (fun ls hl => ?_) (fun i hi ih ls hl => ?_) 0 (Nat.zero_le _) ls hl
  · refine lv_iload hx hb dX0_sumOf_14 (lv_at hl 0 rfl) ?_
    refine lv_aload_n hx hb dX0_sumOf_16 rfl (lv_at hl 5 rfl) ?_
    refine va_get (D := D) (ci := 0) (v := .int (nI k)) (C := RX0) (T := TX0) (N := 6) hx hb hts in_X0 hown hK hP 0 rfl rfl 2 (by decide) (hts _ q42) (fun _ h9 => h9) rfl dX0_sumOf_17 ?_
    refine lv_icmp_ge (tgt := 82) hx hb dX0_sumOf_20 (by decide) (fun _ => ?_) (fun c_ => False.elim ((fun z => z (nI_le (Nat.le_refl k) (by omega))) c_))
    refine lv_iload_n hx hb dX0_sumOf_82 rfl (lv_at hl 1 rfl) ?_
    exact W.iret (v := (nI (fz_sum p a b k))) hx hb hr (fun t ht hW => ⟨_, rfl, rfl, ht⟩) (fun _ z => absurd z List.not_mem_nil) dX0_sumOf_83
  · have hxa : a / p ^ i < 2 ^ 31 := Nat.lt_of_le_of_lt (Nat.div_le_self _ _) ha
    have hxb : b / p ^ i < 2 ^ 31 := Nat.lt_of_le_of_lt (Nat.div_le_self _ _) hb1
    have hma : a / p ^ i % p < p := Nat.mod_lt _ (by omega)
    have hmb : b / p ^ i % p < p := Nat.mod_lt _ (by omega)
    refine lv_iload hx hb dX0_sumOf_14 (lv_at hl 0 rfl) ?_
    refine lv_aload_n hx hb dX0_sumOf_16 rfl (lv_at hl 5 rfl) ?_
    refine va_get (D := D) (ci := 0) (v := .int (nI k)) (C := RX0) (T := TX0) (N := 6) hx hb hts in_X0 hown hK hP 0 rfl rfl 2 (by decide) (hts _ q42) (fun _ h9 => h9) rfl dX0_sumOf_17 ?_
    refine lv_icmp_ge (tgt := 82) hx hb dX0_sumOf_20 (by decide) (fun c_ => False.elim ((nI_ge hi (by omega)) c_)) (fun _ => ?_)
    refine lv_iload_n hx hb dX0_sumOf_23 rfl (lv_at hl 1 rfl) ?_
    refine lv_iload hx hb dX0_sumOf_24 (lv_at hl 3 rfl) ?_
    refine lv_aload_n hx hb dX0_sumOf_26 rfl (lv_at hl 5 rfl) ?_
    refine va_get (D := D) (ci := 0) (v := .int (nI p)) (C := RX0) (T := TX0) (N := 6) hx hb hts in_X0 hown hK hP 0 rfl rfl 1 (by decide) (hts _ q41) (fun _ h9 => h9) rfl dX0_sumOf_27 ?_
    refine nv_irem hx hb dX0_sumOf_30 hxa (by omega) (by omega) ?_
    refine lv_iload hx hb dX0_sumOf_31 (lv_at hl 4 rfl) ?_
    refine lv_aload_n hx hb dX0_sumOf_33 rfl (lv_at hl 5 rfl) ?_
    refine va_get (D := D) (ci := 0) (v := .int (nI p)) (C := RX0) (T := TX0) (N := 6) hx hb hts in_X0 hown hK hP 0 rfl rfl 1 (by decide) (hts _ q41) (fun _ h9 => h9) rfl dX0_sumOf_34 ?_
    refine nv_irem hx hb dX0_sumOf_37 hxb (by omega) (by omega) ?_
    refine nv_iadd hx hb dX0_sumOf_38 ?_
    refine lv_aload_n hx hb dX0_sumOf_39 rfl (lv_at hl 5 rfl) ?_
    refine va_get (D := D) (ci := 0) (v := .int (nI p)) (C := RX0) (T := TX0) (N := 6) hx hb hts in_X0 hown hK hP 0 rfl rfl 1 (by decide) (hts _ q41) (fun _ h9 => h9) rfl dX0_sumOf_40 ?_
    refine nv_irem hx hb dX0_sumOf_43 (by omega) (by omega) (by omega) ?_
    refine lv_iload hx hb dX0_sumOf_44 (lv_at hl 2 rfl) ?_
    refine nv_imul hx hb dX0_sumOf_46 ?_
    refine nv_iadd hx hb dX0_sumOf_47 ?_
    refine lv_istore_n (lv' := [(3, .int (nI ((fz_sum p a b i) + (((((a / p ^ i) % p) + ((b / p ^ i) % p)) % p) * (p ^ i))))), (7, .int (nI i)), (4, .int (nI (p ^ i))), (5, .int (nI (a / p ^ i))), (6, .int (nI (b / p ^ i))), (0, .ref h)]) hx hb dX0_sumOf_48 rfl hl (by decide) rfl (fun ls hl => ?_)
    refine lv_iload hx hb dX0_sumOf_49 (lv_at hl 2 rfl) ?_
    refine lv_aload_n hx hb dX0_sumOf_51 rfl (lv_at hl 5 rfl) ?_
    refine va_get (D := D) (ci := 0) (v := .int (nI p)) (C := RX0) (T := TX0) (N := 6) hx hb hts in_X0 hown hK hP 0 rfl rfl 1 (by decide) (hts _ q41) (fun _ h9 => h9) rfl dX0_sumOf_52 ?_
    refine nv_imul hx hb dX0_sumOf_55 ?_
    refine lv_istore (lv' := [(4, .int (nI ((p ^ i) * p))), (3, .int (nI ((fz_sum p a b i) + (((((a / p ^ i) % p) + ((b / p ^ i) % p)) % p) * (p ^ i))))), (7, .int (nI i)), (5, .int (nI (a / p ^ i))), (6, .int (nI (b / p ^ i))), (0, .ref h)]) hx hb dX0_sumOf_56 hl (by decide) rfl (fun ls hl => ?_)
    refine lv_iload hx hb dX0_sumOf_58 (lv_at hl 3 rfl) ?_
    refine lv_aload_n hx hb dX0_sumOf_60 rfl (lv_at hl 5 rfl) ?_
    refine va_get (D := D) (ci := 0) (v := .int (nI p)) (C := RX0) (T := TX0) (N := 6) hx hb hts in_X0 hown hK hP 0 rfl rfl 1 (by decide) (hts _ q41) (fun _ h9 => h9) rfl dX0_sumOf_61 ?_
    refine nv_idiv hx hb dX0_sumOf_64 hxa (by omega) (by omega) ?_
    refine lv_istore (lv' := [(5, .int (nI ((a / p ^ i) / p))), (4, .int (nI ((p ^ i) * p))), (3, .int (nI ((fz_sum p a b i) + (((((a / p ^ i) % p) + ((b / p ^ i) % p)) % p) * (p ^ i))))), (7, .int (nI i)), (6, .int (nI (b / p ^ i))), (0, .ref h)]) hx hb dX0_sumOf_65 hl (by decide) rfl (fun ls hl => ?_)
    refine lv_iload hx hb dX0_sumOf_67 (lv_at hl 4 rfl) ?_
    refine lv_aload_n hx hb dX0_sumOf_69 rfl (lv_at hl 5 rfl) ?_
    refine va_get (D := D) (ci := 0) (v := .int (nI p)) (C := RX0) (T := TX0) (N := 6) hx hb hts in_X0 hown hK hP 0 rfl rfl 1 (by decide) (hts _ q41) (fun _ h9 => h9) rfl dX0_sumOf_70 ?_
    refine nv_idiv hx hb dX0_sumOf_73 hxb (by omega) (by omega) ?_
    refine lv_istore (lv' := [(6, .int (nI ((b / p ^ i) / p))), (5, .int (nI ((a / p ^ i) / p))), (4, .int (nI ((p ^ i) * p))), (3, .int (nI ((fz_sum p a b i) + (((((a / p ^ i) % p) + ((b / p ^ i) % p)) % p) * (p ^ i))))), (7, .int (nI i)), (0, .ref h)]) hx hb dX0_sumOf_74 hl (by decide) rfl (fun ls hl => ?_)
    refine lv_iinc (v := (nI (i + 1))) (lv' := [(7, .int (nI (i + 1))), (6, .int (nI ((b / p ^ i) / p))), (5, .int (nI ((a / p ^ i) / p))), (4, .int (nI ((p ^ i) * p))), (3, .int (nI ((fz_sum p a b i) + (((((a / p ^ i) % p) + ((b / p ^ i) % p)) % p) * (p ^ i))))), (0, .ref h)]) hx hb dX0_sumOf_76 hl (k := 4) rfl (nv_inc _) (by decide) rfl (fun ls hl => ?_)
    refine lv_goto (tgt := 14) hx hb dX0_sumOf_79 (by decide) ?_
    rw [fz_div_succ, fz_div_succ] at hl
    exact ih ls (lv_sub hl [0, 4, 3, 2, 1, 5] rfl)
set_option maxHeartbeats 4000000 in
set_option maxRecDepth 100000 in
theorem mX0_productOf (l : Launch) {D : va_G} {h h1 h2 h3 : Nat} {d1 d2 d3 : ClassId} {q p k : Nat} {f1 f2 f3 : Nat → Int32} (hm : fz_Ok q p k) (hT : fz_XOk q f1 f2) {a b : Nat} (ha : a < q) (hb1 : b < q) : Met l yX0_productOf (ws_ yX0_productOf cX0_productOf 3 (some .int)) ({ frames := 0, cells := 0, slots := 0, locals := 0 }) (va_Pc [.ref h, .int (nI a), .int (nI b)] (fz_BX D h h1 h2 h3 d1 d2 d3 q p k f1 f2 f3)) (vp_Si (fun r => r = nI (fz_mul q a b))) 0 0 (fun _ => False) := by
  obtain ⟨hp2, hp3, hk4, hk6, hq64, hq81, hpk⟩ := fz_facts hm
  refine Met.ofW (cc := cX0_productOf) (maxL := 3) (ret := (some .int)) (by decide) rfl ?_
  intro P e s m args below meth c s₁ B hml hv
  obtain ⟨rfl, hP, hK⟩ := hv
  have hx := B.exec
  have hb := B.bytes
  have hr := B.returns
  have hts := atoms_spec (ws := ws_ yX0_productOf cX0_productOf 3 (some .int)) B.pre
  have hts : ∀ w ∈ lw_all, w.before _ s = true := fun w h => hts w (List.mem_cons_of_mem _ h)
  have hown : s.vm.findClass RX0 = some m.cls := findClass_of_methodNamed B.named
  have hlocks := B.notSynchronized
  have hl := lv_entry ([.ref h, .int (nI a), .int (nI b)]) (n := 3) (Nat.le_of_ble_eq_true rfl)
  rw [lg_entry_eq]
  generalize (lg_sl ([.ref h, .int (nI a), .int (nI b)]) ++ List.replicate (3 - (lg_sl ([.ref h, .int (nI a), .int (nI b)])).length) Slot.unset).toArray = ls at hl ⊢
  have hl : lv_has ls 3 [(0, .ref h), (1, .int (nI a)), (2, .int (nI b))] := hl
  refine lv_iload_n hx hb dX0_productOf_0 rfl (lv_at hl 1 rfl) ?_
  refine lv_if_eq (tgt := 8) hx hb dX0_productOf_1 (by decide) (fun c_1 => ?_) (fun c_1 => ?_)
  · have ha0 : a = 0 := (nI_eq (by omega) (by decide)).mp c_1
    refine lv_iconst (v := nI 0) hx hb dX0_productOf_8 (by decide) ?_
    refine lv_goto (tgt := 30) hx hb dX0_productOf_9 (by decide) ?_
    exact W.iret (v := (nI 0)) hx hb hr (fun t ht hW => ⟨_, rfl, (by rw [fz_mul_0 (Or.inl ha0)]), ht⟩) (fun _ z => absurd z List.not_mem_nil) dX0_productOf_30
  · have ha0 : a ≠ 0 := fun z => c_1 (by rw [z]; rfl)
    refine lv_iload_n hx hb dX0_productOf_4 rfl (lv_at hl 2 rfl) ?_
    refine lv_if_ne (tgt := 12) hx hb dX0_productOf_5 (by decide) (fun c_5 => ?_) (fun c_5 => ?_)
    · have hb0 : b ≠ 0 := fun z => c_5 (by rw [z]; rfl)
      have e1 := fz_lg_ok hm ha0 ha
      have e2 := fz_lg_ok hm hb0 hb1
      refine lv_aload_n hx hb dX0_productOf_12 rfl (lv_at hl 0 rfl) ?_
      refine va_get (D := D) (ci := 0) (v := .ref h1) (C := RX0) (T := TX0) (N := 6) hx hb hts in_X0 hown hK hP 0 rfl rfl 3 (by decide) (hts _ q43) (fun _ h9 => h9) rfl dX0_productOf_13 ?_
      refine lv_aload_n hx hb dX0_productOf_16 rfl (lv_at hl 0 rfl) ?_
      refine va_get (D := D) (ci := 0) (v := .ref h2) (C := RX0) (T := TX0) (N := 6) hx hb hts in_X0 hown hK hP 0 rfl rfl 4 (by decide) (hts _ q44) (fun _ h9 => h9) rfl dX0_productOf_17 ?_
      refine lv_iload_n hx hb dX0_productOf_20 rfl (lv_at hl 1 rfl) ?_
      refine nv_ald hx hb hK hP 2 1 rfl rfl (by omega) (by decide) (hT.2 a ha0 ha) dX0_productOf_21 ?_
      refine lv_aload_n hx hb dX0_productOf_22 rfl (lv_at hl 0 rfl) ?_
      refine va_get (D := D) (ci := 0) (v := .ref h2) (C := RX0) (T := TX0) (N := 6) hx hb hts in_X0 hown hK hP 0 rfl rfl 4 (by decide) (hts _ q44) (fun _ h9 => h9) rfl dX0_productOf_23 ?_
      refine lv_iload_n hx hb dX0_productOf_26 rfl (lv_at hl 2 rfl) ?_
      refine nv_ald hx hb hK hP 2 1 rfl rfl (by omega) (by decide) (hT.2 b hb0 hb1) dX0_productOf_27 ?_
      refine nv_iadd hx hb dX0_productOf_28 ?_
      refine nv_ald hx hb hK hP 1 0 rfl rfl (by omega) (by decide) (hT.1 _ (by omega)) dX0_productOf_29 ?_
      exact W.iret (v := (nI (fz_pw q ((fz_lg q a + fz_lg q b) % (q - 1))))) hx hb hr (fun t ht hW => ⟨_, rfl, (by rw [fz_mul_n ha0 hb0]), ht⟩) (fun _ z => absurd z List.not_mem_nil) dX0_productOf_30
    · have hb0 : b = 0 := (nI_eq (by omega) (by decide)).mp c_5
      refine lv_iconst (v := nI 0) hx hb dX0_productOf_8 (by decide) ?_
      refine lv_goto (tgt := 30) hx hb dX0_productOf_9 (by decide) ?_
      exact W.iret (v := (nI 0)) hx hb hr (fun t ht hW => ⟨_, rfl, (by rw [fz_mul_0 (Or.inr hb0)]), ht⟩) (fun _ z => absurd z List.not_mem_nil) dX0_productOf_30
set_option maxHeartbeats 4000000 in
set_option maxRecDepth 100000 in
theorem mX0_powerOf (l : Launch) {D : va_G} {h h1 h2 h3 : Nat} {d1 d2 d3 : ClassId} {q p k : Nat} {f1 f2 f3 : Nat → Int32} (hm : fz_Ok q p k) (hT : fz_XOk q f1 f2) {a n : Nat} (ha : a < q) (hn : n < 2 ^ 31) : Met l yX0_powerOf (ws_ yX0_powerOf cX0_powerOf 3 (some .int)) ({ frames := 0, cells := 0, slots := 0, locals := 0 }) (va_Pc [.ref h, .int (nI a), .int (nI n)] (fz_BX D h h1 h2 h3 d1 d2 d3 q p k f1 f2 f3)) (vp_Si (fun r => r = nI (fz_pow q a n))) 0 0 (fun _ => False) := by
  obtain ⟨hp2, hp3, hk4, hk6, hq64, hq81, hpk⟩ := fz_facts hm
  refine Met.ofW (cc := cX0_powerOf) (maxL := 3) (ret := (some .int)) (by decide) rfl ?_
  intro P e s m args below meth c s₁ B hml hv
  obtain ⟨rfl, hP, hK⟩ := hv
  have hx := B.exec
  have hb := B.bytes
  have hr := B.returns
  have hts := atoms_spec (ws := ws_ yX0_powerOf cX0_powerOf 3 (some .int)) B.pre
  have hts : ∀ w ∈ lw_all, w.before _ s = true := fun w h => hts w (List.mem_cons_of_mem _ h)
  have hown : s.vm.findClass RX0 = some m.cls := findClass_of_methodNamed B.named
  have hlocks := B.notSynchronized
  have hl := lv_entry ([.ref h, .int (nI a), .int (nI n)]) (n := 3) (Nat.le_of_ble_eq_true rfl)
  rw [lg_entry_eq]
  generalize (lg_sl ([.ref h, .int (nI a), .int (nI n)]) ++ List.replicate (3 - (lg_sl ([.ref h, .int (nI a), .int (nI n)])).length) Slot.unset).toArray = ls at hl ⊢
  have hl : lv_has ls 3 [(0, .ref h), (1, .int (nI a)), (2, .int (nI n))] := hl
  refine lv_iload_n hx hb dX0_powerOf_0 rfl (lv_at hl 2 rfl) ?_
  refine lv_if_ne (tgt := 6) hx hb dX0_powerOf_1 (by decide) (fun c_1 => ?_) (fun c_1 => ?_)
  · have hn0 : n ≠ 0 := fun z => c_1 (by rw [z]; rfl)
    refine lv_iload_n hx hb dX0_powerOf_6 rfl (lv_at hl 1 rfl) ?_
    refine lv_if_ne (tgt := 14) hx hb dX0_powerOf_7 (by decide) (fun c_7 => ?_) (fun c_7 => ?_)
    · have ha0 : a ≠ 0 := fun z => c_7 (by rw [z]; rfl)
      have e1 := fz_lg_ok hm ha0 ha
      have e2 := fz_modlt hm (fz_lg q a * n)
      have e3 : fz_lg q a * n ≤ 81 * 2147483648 := Nat.mul_le_mul (by omega) (by omega)
      refine lv_aload_n hx hb dX0_powerOf_14 rfl (lv_at hl 0 rfl) ?_
      refine va_get (D := D) (ci := 0) (v := .ref h1) (C := RX0) (T := TX0) (N := 6) hx hb hts in_X0 hown hK hP 0 rfl rfl 3 (by decide) (hts _ q43) (fun _ h9 => h9) rfl dX0_powerOf_15 ?_
      refine lv_aload_n hx hb dX0_powerOf_18 rfl (lv_at hl 0 rfl) ?_
      refine va_get (D := D) (ci := 0) (v := .ref h2) (C := RX0) (T := TX0) (N := 6) hx hb hts in_X0 hown hK hP 0 rfl rfl 4 (by decide) (hts _ q44) (fun _ h9 => h9) rfl dX0_powerOf_19 ?_
      refine lv_iload_n hx hb dX0_powerOf_22 rfl (lv_at hl 1 rfl) ?_
      refine nv_ald hx hb hK hP 2 1 rfl rfl (by omega) (by decide) (hT.2 a ha0 ha) dX0_powerOf_23 ?_
      refine lv_i2l (v := lN (fz_lg q a)) hx hb dX0_powerOf_24 (nI_l (by omega)) ?_
      refine lv_iload_n hx hb dX0_powerOf_25 rfl (lv_at hl 2 rfl) ?_
      refine lv_i2l (v := lN n) hx hb dX0_powerOf_26 (nI_l (by omega)) ?_
      refine nv_lmul hx hb dX0_powerOf_27 ?_
      refine lv_aload_n hx hb dX0_powerOf_28 rfl (lv_at hl 0 rfl) ?_
      refine va_get (D := D) (ci := 0) (v := .int (nI q)) (C := RX0) (T := TX0) (N := 6) hx hb hts in_X0 hown hK hP 0 rfl rfl 0 (by decide) (hts _ q40) (fun _ h9 => h9) rfl dX0_powerOf_29 ?_
      refine lv_iconst (v := nI 1) hx hb dX0_powerOf_32 (by decide) ?_
      refine nv_isub hx hb dX0_powerOf_33 (by omega) ?_
      refine lv_i2l (v := lN (q - 1)) hx hb dX0_powerOf_34 (nI_l (by omega)) ?_
      refine nv_lrem hx hb dX0_powerOf_35 (by omega) (by omega) (by omega) ?_
      refine lv_l2i (v := nI (((fz_lg q a) * n) % (q - 1))) hx hb dX0_powerOf_36 (lN_i _) ?_
      refine nv_ald hx hb hK hP 1 0 rfl rfl (by omega) (by decide) (by rw [hT.1 _ (by omega), Nat.mod_mod]) dX0_powerOf_37 ?_
      exact W.iret (v := (nI (fz_pw q (fz_lg q a * n % (q - 1))))) hx hb hr (fun t ht hW => ⟨_, rfl, (by rw [fz_pow_n ha0 hn0]), ht⟩) (fun _ z => absurd z List.not_mem_nil) dX0_powerOf_38
    · have ha0 : a = 0 := (nI_eq (by omega) (by decide)).mp c_7
      refine lv_iconst (v := nI 0) hx hb dX0_powerOf_10 (by decide) ?_
      refine lv_goto (tgt := 38) hx hb dX0_powerOf_11 (by decide) ?_
      exact W.iret (v := (nI 0)) hx hb hr (fun t ht hW => ⟨_, rfl, (by rw [ha0, fz_pow_0 hn0]), ht⟩) (fun _ z => absurd z List.not_mem_nil) dX0_powerOf_38
  · have hn0 : n = 0 := (nI_eq (by omega) (by decide)).mp c_1
    refine lv_iconst (v := nI 1) hx hb dX0_powerOf_4 (by decide) ?_
    exact W.iret (v := (nI 1)) hx hb hr (fun t ht hW => ⟨_, rfl, (by rw [hn0]; rfl), ht⟩) (fun _ z => absurd z List.not_mem_nil) dX0_powerOf_5
end
section
/-! WHAT BOTH SIDES ANSWER: one int a call, out of the size, prime and degree in use and the call's ints -/
def fz_rg (n : Int32) : Bool := decide (¬ n < 0) && decide (n ≤ nI 1000000)
def fz_rg1 (n : Int32) : Bool := decide (¬ n < nI 1) && decide (n ≤ nI 1000000)
theorem fz_rg_t {n : Int32} (h1 : ¬ n < 0) (h2 : n ≤ nI 1000000) : fz_rg n = true := by rw [fz_rg, decide_eq_true h1, decide_eq_true h2]; rfl
theorem fz_rg1_t {n : Int32} (h1 : ¬ n < nI 1) (h2 : n ≤ nI 1000000) : fz_rg1 n = true := by rw [fz_rg1, decide_eq_true h1, decide_eq_true h2]; rfl
theorem fz_rg_of {n : Int32} (h : fz_rg n = true) : ∃ j : Nat, j ≤ 1000000 ∧ n = nI j := by
  rw [fz_rg, Bool.and_eq_true, decide_eq_true_eq, decide_eq_true_eq] at h
  obtain ⟨j, hj, rfl⟩ := nI_of h.1
  exact ⟨j, (nI_leI hj (by decide)).mp h.2, rfl⟩
theorem fz_rg1_of {n : Int32} (h : fz_rg1 n = true) : ∃ j : Nat, 1 ≤ j ∧ j ≤ 1000000 ∧ n = nI j := by
  rw [fz_rg1, Bool.and_eq_true, decide_eq_true_eq, decide_eq_true_eq] at h
  obtain ⟨j, hj, rfl⟩ := nI_of (show ¬ n < 0 from fun z => h.1 (Int32.lt_trans z (by decide)))
  exact ⟨j, Nat.not_lt.mp (fun z => h.1 (nI_lt z (by decide))), (nI_leI hj (by decide)).mp h.2, rfl⟩
def fz_Aadd (q p k : Nat) (a b : Int32) : Int32 := cond (fz_el q a && fz_el q b) (nI (fz_sum p a.toNatClampNeg b.toNatClampNeg k)) (-1)
def fz_Amul (q : Nat) (a b : Int32) : Int32 := cond (fz_el q a && fz_el q b) (nI (fz_mul q a.toNatClampNeg b.toNatClampNeg)) (-1)
def fz_Ainv (q : Nat) (a : Int32) : Int32 := cond (fz_el q a) (fz_or (fz_inv q a.toNatClampNeg)) (-1)
def fz_Apow (q : Nat) (a n : Int32) : Int32 := cond (fz_el q a && fz_rg n) (nI (fz_pow q a.toNatClampNeg n.toNatClampNeg)) (-1)
def fz_Aord (q : Nat) (a : Int32) : Int32 := cond (fz_el q a && !decide (a = 0)) (nI ((q - 1) / Nat.gcd (fz_lg q a.toNatClampNeg) (q - 1))) (-1)
def fz_Aroot (q : Nat) (a : Int32) : Int32 := cond (fz_el q a) (fz_or (fz_root q a.toNatClampNeg)) (-1)
def fz_Arts (q : Nat) (a n : Int32) : Int32 := cond (fz_el q a && fz_rg1 n) (nI (fz_rv q (n.toNatClampNeg % (q - 1)) a.toNatClampNeg)) (-1)
def fz_Atr (q p k : Nat) (a z : Int32) : Int32 := cond (fz_el q a && !Nat.beq (fz_si q z) 0) (nI (fz_ts q p k a.toNatClampNeg z.toNatClampNeg (fz_si q z))) (-1)
def fz_Ahm (q : Nat) (a : Int32) : Int32 := cond (fz_el q a) (nI (fz_home q a.toNatClampNeg)) (-1)
def fz_Alog (q : Nat) (g a : Int32) : Int32 := cond ((fz_el q g && fz_el q a) && (!decide (g = 0) && !decide (a = 0))) (fz_or (fz_lx (q - 1) (fz_lg q g.toNatClampNeg) (fz_lg q a.toNatClampNeg))) (-1)
theorem fz_gcd {q p k : Nat} (hm : fz_Ok q p k) (x : Nat) : 0 < Nat.gcd x (q - 1) ∧ Nat.gcd x (q - 1) ≤ q - 1 := by
  have hf := fz_facts hm
  exact ⟨Nat.gcd_pos_of_pos_right _ (by omega), Nat.gcd_le_right _ (by omega)⟩
/-- an int that is a number, not 0 -/
theorem fz_nz {i : Nat} (h : i < 2 ^ 31) (h0 : i ≠ 0) : decide (nI i = 0) = false := decide_eq_false (fun z => h0 ((nI_eq h (by decide)).mp z))
end
section
/-! FieldTower: contracts of the public methods that change nothing -/
set_option maxHeartbeats 4000000 in
set_option maxRecDepth 100000 in
theorem mX0_add (l : Launch) {D : va_G} {h h1 h2 h3 : Nat} {d1 d2 d3 : ClassId} {q p k : Nat} {f1 f2 f3 : Nat → Int32} (hm : fz_Ok q p k) (a b : Int32) : Met l yX0_add (ws_ yX0_add cX0_add 3 (some .int)) ({ frames := 1, cells := 0, slots := 0, locals := 27 }) (va_Pc [.ref h, .int a, .int b] (fz_BX D h h1 h2 h3 d1 d2 d3 q p k f1 f2 f3)) (vp_Si (fun r => r = fz_Aadd q p k a b)) 0 0 (fun _ => False) := by
  obtain ⟨hp2, hp3, hk4, hk6, hq64, hq81, hpk⟩ := fz_facts hm
  refine Met.ofW (cc := cX0_add) (maxL := 3) (ret := (some .int)) (by decide) rfl ?_
  intro P e s m args below meth c s₁ B hml hv
  obtain ⟨rfl, hP, hK⟩ := hv
  have hx := B.exec
  have hb := B.bytes
  have hr := B.returns
  have hts := atoms_spec (ws := ws_ yX0_add cX0_add 3 (some .int)) B.pre
  have hts : ∀ w ∈ lw_all, w.before _ s = true := fun w h => hts w (List.mem_cons_of_mem _ h)
  have hown : s.vm.findClass RX0 = some m.cls := findClass_of_methodNamed B.named
  have hlocks := B.notSynchronized
  have hl := lv_entry ([.ref h, .int a, .int b]) (n := 3) (Nat.le_of_ble_eq_true rfl)
  rw [lg_entry_eq]
  generalize (lg_sl ([.ref h, .int a, .int b]) ++ List.replicate (3 - (lg_sl ([.ref h, .int a, .int b])).length) Slot.unset).toArray = ls at hl ⊢
  have hl : lv_has ls 3 [(0, .ref h), (1, .int a), (2, .int b)] := hl
  cases ea : fz_el q a with
  | false =>
    refine lv_aload_n hx hb dX0_add_0 rfl (lv_at hl 0 rfl) ?_
    refine lv_iload_n hx hb dX0_add_1 rfl (lv_at hl 1 rfl) ?_
    refine fz_callX (As := [.int a]) (rest := []) ⟨hx, hb, hml, hown, hts⟩ (mX0_isElement l a) (cwV 1 hts (lw_V q68 q70 qs3 q18 q71) rfl rfl rfl cd_X0_isElement ⟨Nat.le_of_ble_eq_true rfl, Nat.le_of_ble_eq_true rfl⟩) hP hK rfl hl.1 rfl (Nat.le_of_ble_eq_true rfl) dX0_add_2 ⟨Nat.zero_le _, Nat.zero_le _⟩ (fun r_ hr_ => ?_)
    have hr_ : r_ = (nI 0) := by rw [hr_, ea]; rfl
    subst hr_
    refine lv_if_eq (tgt := 25) hx hb dX0_add_5 (by decide) (fun _ => ?_) (fun c_ => False.elim ((fun z => z rfl) c_))
    refine lv_iconst (v := -1) hx hb dX0_add_25 (by decide) ?_
    exact W.iret (v := (-1)) hx hb hr (fun t ht hW => ⟨_, rfl, (by rw [fz_Aadd, ea]; rfl), ht⟩) (fun _ z => absurd z List.not_mem_nil) dX0_add_26
  | true =>
    obtain ⟨i, hi, rfl⟩ := fz_el_of (by omega) ea
    cases eb : fz_el q b with
    | false =>
      refine lv_aload_n hx hb dX0_add_0 rfl (lv_at hl 0 rfl) ?_
      refine lv_iload_n hx hb dX0_add_1 rfl (lv_at hl 1 rfl) ?_
      refine fz_callX (As := [.int (nI i)]) (rest := []) ⟨hx, hb, hml, hown, hts⟩ (mX0_isElement l (nI i)) (cwV 1 hts (lw_V q68 q70 qs3 q18 q71) rfl rfl rfl cd_X0_isElement ⟨Nat.le_of_ble_eq_true rfl, Nat.le_of_ble_eq_true rfl⟩) hP hK rfl hl.1 rfl (Nat.le_of_ble_eq_true rfl) dX0_add_2 ⟨Nat.zero_le _, Nat.zero_le _⟩ (fun r_ hr_ => ?_)
      have hr_ : r_ = (nI 1) := by rw [hr_, ea]; rfl
      subst hr_
      refine lv_if_eq (tgt := 25) hx hb dX0_add_5 (by decide) (fun c_ => False.elim ((fun z => absurd z (by decide)) c_)) (fun _ => ?_)
      refine lv_aload_n hx hb dX0_add_8 rfl (lv_at hl 0 rfl) ?_
      refine lv_iload_n hx hb dX0_add_9 rfl (lv_at hl 2 rfl) ?_
      refine fz_callX (As := [.int b]) (rest := []) ⟨hx, hb, hml, hown, hts⟩ (mX0_isElement l b) (cwV 1 hts (lw_V q68 q70 qs3 q18 q71) rfl rfl rfl cd_X0_isElement ⟨Nat.le_of_ble_eq_true rfl, Nat.le_of_ble_eq_true rfl⟩) hP hK rfl hl.1 rfl (Nat.le_of_ble_eq_true rfl) dX0_add_10 ⟨Nat.zero_le _, Nat.zero_le _⟩ (fun r_ hr_ => ?_)
      have hr_ : r_ = (nI 0) := by rw [hr_, eb]; rfl
      subst hr_
      refine lv_if_eq (tgt := 25) hx hb dX0_add_13 (by decide) (fun _ => ?_) (fun c_ => False.elim ((fun z => z rfl) c_))
      refine lv_iconst (v := -1) hx hb dX0_add_25 (by decide) ?_
      exact W.iret (v := (-1)) hx hb hr (fun t ht hW => ⟨_, rfl, (by rw [fz_Aadd, ea, eb]; rfl), ht⟩) (fun _ z => absurd z List.not_mem_nil) dX0_add_26
    | true =>
      obtain ⟨j, hj, rfl⟩ := fz_el_of (by omega) eb
      refine lv_aload_n hx hb dX0_add_0 rfl (lv_at hl 0 rfl) ?_
      refine lv_iload_n hx hb dX0_add_1 rfl (lv_at hl 1 rfl) ?_
      refine fz_callX (As := [.int (nI i)]) (rest := []) ⟨hx, hb, hml, hown, hts⟩ (mX0_isElement l (nI i)) (cwV 1 hts (lw_V q68 q70 qs3 q18 q71) rfl rfl rfl cd_X0_isElement ⟨Nat.le_of_ble_eq_true rfl, Nat.le_of_ble_eq_true rfl⟩) hP hK rfl hl.1 rfl (Nat.le_of_ble_eq_true rfl) dX0_add_2 ⟨Nat.zero_le _, Nat.zero_le _⟩ (fun r_ hr_ => ?_)
      have hr_ : r_ = (nI 1) := by rw [hr_, ea]; rfl
      subst hr_
      refine lv_if_eq (tgt := 25) hx hb dX0_add_5 (by decide) (fun c_ => False.elim ((fun z => absurd z (by decide)) c_)) (fun _ => ?_)
      refine lv_aload_n hx hb dX0_add_8 rfl (lv_at hl 0 rfl) ?_
      refine lv_iload_n hx hb dX0_add_9 rfl (lv_at hl 2 rfl) ?_
      refine fz_callX (As := [.int (nI j)]) (rest := []) ⟨hx, hb, hml, hown, hts⟩ (mX0_isElement l (nI j)) (cwV 1 hts (lw_V q68 q70 qs3 q18 q71) rfl rfl rfl cd_X0_isElement ⟨Nat.le_of_ble_eq_true rfl, Nat.le_of_ble_eq_true rfl⟩) hP hK rfl hl.1 rfl (Nat.le_of_ble_eq_true rfl) dX0_add_10 ⟨Nat.zero_le _, Nat.zero_le _⟩ (fun r_ hr_ => ?_)
      have hr_ : r_ = (nI 1) := by rw [hr_, eb]; rfl
      subst hr_
      refine lv_if_eq (tgt := 25) hx hb dX0_add_13 (by decide) (fun c_ => False.elim ((fun z => absurd z (by decide)) c_)) (fun _ => ?_)
      refine lv_aload_n hx hb dX0_add_16 rfl (lv_at hl 0 rfl) ?_
      refine lv_iload_n hx hb dX0_add_17 rfl (lv_at hl 1 rfl) ?_
      refine lv_iload_n hx hb dX0_add_18 rfl (lv_at hl 2 rfl) ?_
      refine fz_callX (As := [.int (nI i), .int (nI j)]) (rest := []) ⟨hx, hb, hml, hown, hts⟩ (mX0_sumOf l hm (by omega) (by omega)) (cwV 2 hts (lw_V q72 q74 qs4 q18 q75) rfl rfl rfl cd_X0_sumOf ⟨Nat.le_of_ble_eq_true rfl, Nat.le_of_ble_eq_true rfl⟩) hP hK rfl hl.1 rfl (Nat.le_of_ble_eq_true rfl) dX0_add_19 ⟨Nat.zero_le _, Nat.zero_le _⟩ (fun r_ hr_ => ?_)
      have hr_ : r_ = (nI (fz_sum p i j k)) := hr_
      subst hr_
      refine lv_goto (tgt := 26) hx hb dX0_add_22 (by decide) ?_
      exact W.iret (v := (nI (fz_sum p i j k))) hx hb hr (fun t ht hW => ⟨_, rfl, (by rw [fz_Aadd, ea, eb, nI_clamp (by omega), nI_clamp (by omega)]; rfl), ht⟩) (fun _ z => absurd z List.not_mem_nil) dX0_add_26
set_option maxHeartbeats 4000000 in
set_option maxRecDepth 100000 in
theorem mX0_multiply (l : Launch) {D : va_G} {h h1 h2 h3 : Nat} {d1 d2 d3 : ClassId} {q p k : Nat} {f1 f2 f3 : Nat → Int32} (hm : fz_Ok q p k) (hT : fz_XOk q f1 f2) (a b : Int32) : Met l yX0_multiply (ws_ yX0_multiply cX0_multiply 3 (some .int)) ({ frames := 1, cells := 0, slots := 0, locals := 22 }) (va_Pc [.ref h, .int a, .int b] (fz_BX D h h1 h2 h3 d1 d2 d3 q p k f1 f2 f3)) (vp_Si (fun r => r = fz_Amul q a b)) 0 0 (fun _ => False) := by
  obtain ⟨hp2, hp3, hk4, hk6, hq64, hq81, hpk⟩ := fz_facts hm
  refine Met.ofW (cc := cX0_multiply) (maxL := 3) (ret := (some .int)) (by decide) rfl ?_
  intro P e s m args below meth c s₁ B hml hv
  obtain ⟨rfl, hP, hK⟩ := hv
  have hx := B.exec
  have hb := B.bytes
  have hr := B.returns
  have hts := atoms_spec (ws := ws_ yX0_multiply cX0_multiply 3 (some .int)) B.pre
  have hts : ∀ w ∈ lw_all, w.before _ s = true := fun w h => hts w (List.mem_cons_of_mem _ h)
  have hown : s.vm.findClass RX0 = some m.cls := findClass_of_methodNamed B.named
  have hlocks := B.notSynchronized
  have hl := lv_entry ([.ref h, .int a, .int b]) (n := 3) (Nat.le_of_ble_eq_true rfl)
  rw [lg_entry_eq]
  generalize (lg_sl ([.ref h, .int a, .int b]) ++ List.replicate (3 - (lg_sl ([.ref h, .int a, .int b])).length) Slot.unset).toArray = ls at hl ⊢
  have hl : lv_has ls 3 [(0, .ref h), (1, .int a), (2, .int b)] := hl
  cases ea : fz_el q a with
  | false =>
    refine lv_aload_n hx hb dX0_multiply_0 rfl (lv_at hl 0 rfl) ?_
    refine lv_iload_n hx hb dX0_multiply_1 rfl (lv_at hl 1 rfl) ?_
    refine fz_callX (As := [.int a]) (rest := []) ⟨hx, hb, hml, hown, hts⟩ (mX0_isElement l a) (cwV 1 hts (lw_V q68 q70 qs3 q18 q71) rfl rfl rfl cd_X0_isElement ⟨Nat.le_of_ble_eq_true rfl, Nat.le_of_ble_eq_true rfl⟩) hP hK rfl hl.1 rfl (Nat.le_of_ble_eq_true rfl) dX0_multiply_2 ⟨Nat.zero_le _, Nat.zero_le _⟩ (fun r_ hr_ => ?_)
    have hr_ : r_ = (nI 0) := by rw [hr_, ea]; rfl
    subst hr_
    refine lv_if_eq (tgt := 25) hx hb dX0_multiply_5 (by decide) (fun _ => ?_) (fun c_ => False.elim ((fun z => z rfl) c_))
    refine lv_iconst (v := -1) hx hb dX0_multiply_25 (by decide) ?_
    exact W.iret (v := (-1)) hx hb hr (fun t ht hW => ⟨_, rfl, (by rw [fz_Amul, ea]; rfl), ht⟩) (fun _ z => absurd z List.not_mem_nil) dX0_multiply_26
  | true =>
    obtain ⟨i, hi, rfl⟩ := fz_el_of (by omega) ea
    cases eb : fz_el q b with
    | false =>
      refine lv_aload_n hx hb dX0_multiply_0 rfl (lv_at hl 0 rfl) ?_
      refine lv_iload_n hx hb dX0_multiply_1 rfl (lv_at hl 1 rfl) ?_
      refine fz_callX (As := [.int (nI i)]) (rest := []) ⟨hx, hb, hml, hown, hts⟩ (mX0_isElement l (nI i)) (cwV 1 hts (lw_V q68 q70 qs3 q18 q71) rfl rfl rfl cd_X0_isElement ⟨Nat.le_of_ble_eq_true rfl, Nat.le_of_ble_eq_true rfl⟩) hP hK rfl hl.1 rfl (Nat.le_of_ble_eq_true rfl) dX0_multiply_2 ⟨Nat.zero_le _, Nat.zero_le _⟩ (fun r_ hr_ => ?_)
      have hr_ : r_ = (nI 1) := by rw [hr_, ea]; rfl
      subst hr_
      refine lv_if_eq (tgt := 25) hx hb dX0_multiply_5 (by decide) (fun c_ => False.elim ((fun z => absurd z (by decide)) c_)) (fun _ => ?_)
      refine lv_aload_n hx hb dX0_multiply_8 rfl (lv_at hl 0 rfl) ?_
      refine lv_iload_n hx hb dX0_multiply_9 rfl (lv_at hl 2 rfl) ?_
      refine fz_callX (As := [.int b]) (rest := []) ⟨hx, hb, hml, hown, hts⟩ (mX0_isElement l b) (cwV 1 hts (lw_V q68 q70 qs3 q18 q71) rfl rfl rfl cd_X0_isElement ⟨Nat.le_of_ble_eq_true rfl, Nat.le_of_ble_eq_true rfl⟩) hP hK rfl hl.1 rfl (Nat.le_of_ble_eq_true rfl) dX0_multiply_10 ⟨Nat.zero_le _, Nat.zero_le _⟩ (fun r_ hr_ => ?_)
      have hr_ : r_ = (nI 0) := by rw [hr_, eb]; rfl
      subst hr_
      refine lv_if_eq (tgt := 25) hx hb dX0_multiply_13 (by decide) (fun _ => ?_) (fun c_ => False.elim ((fun z => z rfl) c_))
      refine lv_iconst (v := -1) hx hb dX0_multiply_25 (by decide) ?_
      exact W.iret (v := (-1)) hx hb hr (fun t ht hW => ⟨_, rfl, (by rw [fz_Amul, ea, eb]; rfl), ht⟩) (fun _ z => absurd z List.not_mem_nil) dX0_multiply_26
    | true =>
      obtain ⟨j, hj, rfl⟩ := fz_el_of (by omega) eb
      refine lv_aload_n hx hb dX0_multiply_0 rfl (lv_at hl 0 rfl) ?_
      refine lv_iload_n hx hb dX0_multiply_1 rfl (lv_at hl 1 rfl) ?_
      refine fz_callX (As := [.int (nI i)]) (rest := []) ⟨hx, hb, hml, hown, hts⟩ (mX0_isElement l (nI i)) (cwV 1 hts (lw_V q68 q70 qs3 q18 q71) rfl rfl rfl cd_X0_isElement ⟨Nat.le_of_ble_eq_true rfl, Nat.le_of_ble_eq_true rfl⟩) hP hK rfl hl.1 rfl (Nat.le_of_ble_eq_true rfl) dX0_multiply_2 ⟨Nat.zero_le _, Nat.zero_le _⟩ (fun r_ hr_ => ?_)
      have hr_ : r_ = (nI 1) := by rw [hr_, ea]; rfl
      subst hr_
      refine lv_if_eq (tgt := 25) hx hb dX0_multiply_5 (by decide) (fun c_ => False.elim ((fun z => absurd z (by decide)) c_)) (fun _ => ?_)
      refine lv_aload_n hx hb dX0_multiply_8 rfl (lv_at hl 0 rfl) ?_
      refine lv_iload_n hx hb dX0_multiply_9 rfl (lv_at hl 2 rfl) ?_
      refine fz_callX (As := [.int (nI j)]) (rest := []) ⟨hx, hb, hml, hown, hts⟩ (mX0_isElement l (nI j)) (cwV 1 hts (lw_V q68 q70 qs3 q18 q71) rfl rfl rfl cd_X0_isElement ⟨Nat.le_of_ble_eq_true rfl, Nat.le_of_ble_eq_true rfl⟩) hP hK rfl hl.1 rfl (Nat.le_of_ble_eq_true rfl) dX0_multiply_10 ⟨Nat.zero_le _, Nat.zero_le _⟩ (fun r_ hr_ => ?_)
      have hr_ : r_ = (nI 1) := by rw [hr_, eb]; rfl
      subst hr_
      refine lv_if_eq (tgt := 25) hx hb dX0_multiply_13 (by decide) (fun c_ => False.elim ((fun z => absurd z (by decide)) c_)) (fun _ => ?_)
      refine lv_aload_n hx hb dX0_multiply_16 rfl (lv_at hl 0 rfl) ?_
      refine lv_iload_n hx hb dX0_multiply_17 rfl (lv_at hl 1 rfl) ?_
      refine lv_iload_n hx hb dX0_multiply_18 rfl (lv_at hl 2 rfl) ?_
      refine fz_callX (As := [.int (nI i), .int (nI j)]) (rest := []) ⟨hx, hb, hml, hown, hts⟩ (mX0_productOf l hm hT hi hj) (cwV 2 hts (lw_V q80 q82 qs5 q18 q83) rfl rfl rfl cd_X0_productOf ⟨Nat.le_of_ble_eq_true rfl, Nat.le_of_ble_eq_true rfl⟩) hP hK rfl hl.1 rfl (Nat.le_of_ble_eq_true rfl) dX0_multiply_19 ⟨Nat.zero_le _, Nat.zero_le _⟩ (fun r_ hr_ => ?_)
      have hr_ : r_ = (nI (fz_mul q i j)) := hr_
      subst hr_
      refine lv_goto (tgt := 26) hx hb dX0_multiply_22 (by decide) ?_
      exact W.iret (v := (nI (fz_mul q i j))) hx hb hr (fun t ht hW => ⟨_, rfl, (by rw [fz_Amul, ea, eb, nI_clamp (by omega), nI_clamp (by omega)]; rfl), ht⟩) (fun _ z => absurd z List.not_mem_nil) dX0_multiply_26
set_option maxHeartbeats 4000000 in
set_option maxRecDepth 100000 in
theorem mX0_invert (l : Launch) {D : va_G} {h h1 h2 h3 : Nat} {d1 d2 d3 : ClassId} {q p k : Nat} {f1 f2 f3 : Nat → Int32} (hm : fz_Ok q p k) (hT : fz_XOk q f1 f2) (a : Int32) : Met l yX0_invert (ws_ yX0_invert cX0_invert 2 (some .int)) ({ frames := 1, cells := 0, slots := 0, locals := 21 }) (va_Pc [.ref h, .int a] (fz_BX D h h1 h2 h3 d1 d2 d3 q p k f1 f2 f3)) (vp_Si (fun r => r = fz_Ainv q a)) 0 0 (fun _ => False) := by
  obtain ⟨hp2, hp3, hk4, hk6, hq64, hq81, hpk⟩ := fz_facts hm
  refine Met.ofW (cc := cX0_invert) (maxL := 2) (ret := (some .int)) (by decide) rfl ?_
  intro P e s m args below meth c s₁ B hml hv
  obtain ⟨rfl, hP, hK⟩ := hv
  have hx := B.exec
  have hb := B.bytes
  have hr := B.returns
  have hts := atoms_spec (ws := ws_ yX0_invert cX0_invert 2 (some .int)) B.pre
  have hts : ∀ w ∈ lw_all, w.before _ s = true := fun w h => hts w (List.mem_cons_of_mem _ h)
  have hown : s.vm.findClass RX0 = some m.cls := findClass_of_methodNamed B.named
  have hlocks := B.notSynchronized
  have hl := lv_entry ([.ref h, .int a]) (n := 2) (Nat.le_of_ble_eq_true rfl)
  rw [lg_entry_eq]
  generalize (lg_sl ([.ref h, .int a]) ++ List.replicate (2 - (lg_sl ([.ref h, .int a])).length) Slot.unset).toArray = ls at hl ⊢
  have hl : lv_has ls 2 [(0, .ref h), (1, .int a)] := hl
  cases ea : fz_el q a with
  | false =>
    refine lv_aload_n hx hb dX0_invert_0 rfl (lv_at hl 0 rfl) ?_
    refine lv_iload_n hx hb dX0_invert_1 rfl (lv_at hl 1 rfl) ?_
    refine fz_callX (As := [.int a]) (rest := []) ⟨hx, hb, hml, hown, hts⟩ (mX0_isElement l a) (cwV 1 hts (lw_V q68 q70 qs3 q18 q71) rfl rfl rfl cd_X0_isElement ⟨Nat.le_of_ble_eq_true rfl, Nat.le_of_ble_eq_true rfl⟩) hP hK rfl hl.1 rfl (Nat.le_of_ble_eq_true rfl) dX0_invert_2 ⟨Nat.zero_le _, Nat.zero_le _⟩ (fun r_ hr_ => ?_)
    have hr_ : r_ = (nI 0) := by rw [hr_, ea]; rfl
    subst hr_
    refine lv_if_eq (tgt := 33) hx hb dX0_invert_5 (by decide) (fun _ => ?_) (fun c_ => False.elim ((fun z => z rfl) c_))
    refine lv_iconst (v := -1) hx hb dX0_invert_33 (by decide) ?_
    exact W.iret (v := (-1)) hx hb hr (fun t ht hW => ⟨_, rfl, (by rw [fz_Ainv, ea]; rfl), ht⟩) (fun _ z => absurd z List.not_mem_nil) dX0_invert_34
  | true =>
    obtain ⟨i, hi, rfl⟩ := fz_el_of (by omega) ea
    refine lv_aload_n hx hb dX0_invert_0 rfl (lv_at hl 0 rfl) ?_
    refine lv_iload_n hx hb dX0_invert_1 rfl (lv_at hl 1 rfl) ?_
    refine fz_callX (As := [.int (nI i)]) (rest := []) ⟨hx, hb, hml, hown, hts⟩ (mX0_isElement l (nI i)) (cwV 1 hts (lw_V q68 q70 qs3 q18 q71) rfl rfl rfl cd_X0_isElement ⟨Nat.le_of_ble_eq_true rfl, Nat.le_of_ble_eq_true rfl⟩) hP hK rfl hl.1 rfl (Nat.le_of_ble_eq_true rfl) dX0_invert_2 ⟨Nat.zero_le _, Nat.zero_le _⟩ (fun r_ hr_ => ?_)
    have hr_ : r_ = (nI 1) := by rw [hr_, ea]; rfl
    subst hr_
    refine lv_if_eq (tgt := 33) hx hb dX0_invert_5 (by decide) (fun c_ => False.elim ((fun z => absurd z (by decide)) c_)) (fun _ => ?_)
    refine lv_iload_n hx hb dX0_invert_8 rfl (lv_at hl 1 rfl) ?_
    refine lv_if_eq (tgt := 33) hx hb dX0_invert_9 (by decide) (fun c_9 => ?_) (fun c_9 => ?_)
    · have h0 : i = 0 := (nI_eq (by omega) (by decide)).mp c_9
      refine lv_iconst (v := -1) hx hb dX0_invert_33 (by decide) ?_
      exact W.iret (v := (-1)) hx hb hr (fun t ht hW => ⟨_, rfl, (by rw [fz_Ainv, ea, nI_clamp (by omega), h0]; rfl), ht⟩) (fun _ z => absurd z List.not_mem_nil) dX0_invert_34
    · have h0 : i ≠ 0 := fun z => c_9 (by rw [z]; rfl)
      have e1 := fz_lg_ok hm h0 hi
      refine lv_aload_n hx hb dX0_invert_12 rfl (lv_at hl 0 rfl) ?_
      refine va_get (D := D) (ci := 0) (v := .ref h1) (C := RX0) (T := TX0) (N := 6) hx hb hts in_X0 hown hK hP 0 rfl rfl 3 (by decide) (hts _ q43) (fun _ h9 => h9) rfl dX0_invert_13 ?_
      refine lv_aload_n hx hb dX0_invert_16 rfl (lv_at hl 0 rfl) ?_
      refine va_get (D := D) (ci := 0) (v := .int (nI q)) (C := RX0) (T := TX0) (N := 6) hx hb hts in_X0 hown hK hP 0 rfl rfl 0 (by decide) (hts _ q40) (fun _ h9 => h9) rfl dX0_invert_17 ?_
      refine lv_iconst (v := nI 1) hx hb dX0_invert_20 (by decide) ?_
      refine nv_isub hx hb dX0_invert_21 (by omega) ?_
      refine lv_aload_n hx hb dX0_invert_22 rfl (lv_at hl 0 rfl) ?_
      refine va_get (D := D) (ci := 0) (v := .ref h2) (C := RX0) (T := TX0) (N := 6) hx hb hts in_X0 hown hK hP 0 rfl rfl 4 (by decide) (hts _ q44) (fun _ h9 => h9) rfl dX0_invert_23 ?_
      refine lv_iload_n hx hb dX0_invert_26 rfl (lv_at hl 1 rfl) ?_
      refine nv_ald hx hb hK hP 2 1 rfl rfl (by omega) (by decide) (hT.2 i h0 hi) dX0_invert_27 ?_
      refine nv_isub hx hb dX0_invert_28 (by omega) ?_
      refine nv_ald hx hb hK hP 1 0 rfl rfl (by omega) (by decide) (hT.1 _ (by omega)) dX0_invert_29 ?_
      refine lv_goto (tgt := 34) hx hb dX0_invert_30 (by decide) ?_
      exact W.iret (v := (nI (fz_pw q ((q - 1 - fz_lg q i) % (q - 1))))) hx hb hr (fun t ht hW => ⟨_, rfl, (by rw [fz_Ainv, ea, nI_clamp (by omega), fz_inv, fz_beq_f h0]; rfl), ht⟩) (fun _ z => absurd z List.not_mem_nil) dX0_invert_34
set_option maxHeartbeats 4000000 in
set_option maxRecDepth 100000 in
theorem mX0_power (l : Launch) {D : va_G} {h h1 h2 h3 : Nat} {d1 d2 d3 : ClassId} {q p k : Nat} {f1 f2 f3 : Nat → Int32} (hm : fz_Ok q p k) (hT : fz_XOk q f1 f2) (a n : Int32) : Met l yX0_power (ws_ yX0_power cX0_power 3 (some .int)) ({ frames := 1, cells := 0, slots := 0, locals := 22 }) (va_Pc [.ref h, .int a, .int n] (fz_BX D h h1 h2 h3 d1 d2 d3 q p k f1 f2 f3)) (vp_Si (fun r => r = fz_Apow q a n)) 0 0 (fun _ => False) := by
  obtain ⟨hp2, hp3, hk4, hk6, hq64, hq81, hpk⟩ := fz_facts hm
  refine Met.ofW (cc := cX0_power) (maxL := 3) (ret := (some .int)) (by decide) rfl ?_
  intro P e s m args below meth c s₁ B hml hv
  obtain ⟨rfl, hP, hK⟩ := hv
  have hx := B.exec
  have hb := B.bytes
  have hr := B.returns
  have hts := atoms_spec (ws := ws_ yX0_power cX0_power 3 (some .int)) B.pre
  have hts : ∀ w ∈ lw_all, w.before _ s = true := fun w h => hts w (List.mem_cons_of_mem _ h)
  have hown : s.vm.findClass RX0 = some m.cls := findClass_of_methodNamed B.named
  have hlocks := B.notSynchronized
  have hl := lv_entry ([.ref h, .int a, .int n]) (n := 3) (Nat.le_of_ble_eq_true rfl)
  rw [lg_entry_eq]
  generalize (lg_sl ([.ref h, .int a, .int n]) ++ List.replicate (3 - (lg_sl ([.ref h, .int a, .int n])).length) Slot.unset).toArray = ls at hl ⊢
  have hl : lv_has ls 3 [(0, .ref h), (1, .int a), (2, .int n)] := hl
  cases ea : fz_el q a with
  | false =>
    refine lv_aload_n hx hb dX0_power_0 rfl (lv_at hl 0 rfl) ?_
    refine lv_iload_n hx hb dX0_power_1 rfl (lv_at hl 1 rfl) ?_
    refine fz_callX (As := [.int a]) (rest := []) ⟨hx, hb, hml, hown, hts⟩ (mX0_isElement l a) (cwV 1 hts (lw_V q68 q70 qs3 q18 q71) rfl rfl rfl cd_X0_isElement ⟨Nat.le_of_ble_eq_true rfl, Nat.le_of_ble_eq_true rfl⟩) hP hK rfl hl.1 rfl (Nat.le_of_ble_eq_true rfl) dX0_power_2 ⟨Nat.zero_le _, Nat.zero_le _⟩ (fun r_ hr_ => ?_)
    have hr_ : r_ = (nI 0) := by rw [hr_, ea]; rfl
    subst hr_
    refine lv_if_eq (tgt := 27) hx hb dX0_power_5 (by decide) (fun _ => ?_) (fun c_ => False.elim ((fun z => z rfl) c_))
    refine lv_iconst (v := -1) hx hb dX0_power_27 (by decide) ?_
    exact W.iret (v := (-1)) hx hb hr (fun t ht hW => ⟨_, rfl, (by rw [fz_Apow, ea]; rfl), ht⟩) (fun _ z => absurd z List.not_mem_nil) dX0_power_28
  | true =>
    obtain ⟨i, hi, rfl⟩ := fz_el_of (by omega) ea
    cases en : fz_rg n with
    | false =>
      refine lv_aload_n hx hb dX0_power_0 rfl (lv_at hl 0 rfl) ?_
      refine lv_iload_n hx hb dX0_power_1 rfl (lv_at hl 1 rfl) ?_
      refine fz_callX (As := [.int (nI i)]) (rest := []) ⟨hx, hb, hml, hown, hts⟩ (mX0_isElement l (nI i)) (cwV 1 hts (lw_V q68 q70 qs3 q18 q71) rfl rfl rfl cd_X0_isElement ⟨Nat.le_of_ble_eq_true rfl, Nat.le_of_ble_eq_true rfl⟩) hP hK rfl hl.1 rfl (Nat.le_of_ble_eq_true rfl) dX0_power_2 ⟨Nat.zero_le _, Nat.zero_le _⟩ (fun r_ hr_ => ?_)
      have hr_ : r_ = (nI 1) := by rw [hr_, ea]; rfl
      subst hr_
      refine lv_if_eq (tgt := 27) hx hb dX0_power_5 (by decide) (fun c_ => False.elim ((fun z => absurd z (by decide)) c_)) (fun _ => ?_)
      refine lv_iload_n hx hb dX0_power_8 rfl (lv_at hl 2 rfl) ?_
      refine lv_if_lt (tgt := 27) hx hb dX0_power_9 (by decide) (fun c_9 => ?_) (fun c_9 => ?_)
      · refine lv_iconst (v := -1) hx hb dX0_power_27 (by decide) ?_
        exact W.iret (v := (-1)) hx hb hr (fun t ht hW => ⟨_, rfl, (by rw [fz_Apow, ea, en]; rfl), ht⟩) (fun _ z => absurd z List.not_mem_nil) dX0_power_28
      · refine lv_iload_n hx hb dX0_power_12 rfl (lv_at hl 2 rfl) ?_
        refine lv_ldc hx hb hown (hts _ q92) dX0_power_13 ?_
        refine fz_top (y := nI 1000000) rfl ?_
        refine lv_icmp_gt (tgt := 27) hx hb dX0_power_15 (by decide) (fun c_15 => ?_) (fun c_15 => ?_)
        · refine lv_iconst (v := -1) hx hb dX0_power_27 (by decide) ?_
          exact W.iret (v := (-1)) hx hb hr (fun t ht hW => ⟨_, rfl, (by rw [fz_Apow, ea, en]; rfl), ht⟩) (fun _ z => absurd z List.not_mem_nil) dX0_power_28
        · exact absurd (fz_rg_t c_9 (Int32.not_lt.mp c_15)) (by rw [en]; decide)
    | true =>
      obtain ⟨j, hj, rfl⟩ := fz_rg_of en
      refine lv_aload_n hx hb dX0_power_0 rfl (lv_at hl 0 rfl) ?_
      refine lv_iload_n hx hb dX0_power_1 rfl (lv_at hl 1 rfl) ?_
      refine fz_callX (As := [.int (nI i)]) (rest := []) ⟨hx, hb, hml, hown, hts⟩ (mX0_isElement l (nI i)) (cwV 1 hts (lw_V q68 q70 qs3 q18 q71) rfl rfl rfl cd_X0_isElement ⟨Nat.le_of_ble_eq_true rfl, Nat.le_of_ble_eq_true rfl⟩) hP hK rfl hl.1 rfl (Nat.le_of_ble_eq_true rfl) dX0_power_2 ⟨Nat.zero_le _, Nat.zero_le _⟩ (fun r_ hr_ => ?_)
      have hr_ : r_ = (nI 1) := by rw [hr_, ea]; rfl
      subst hr_
      refine lv_if_eq (tgt := 27) hx hb dX0_power_5 (by decide) (fun c_ => False.elim ((fun z => absurd z (by decide)) c_)) (fun _ => ?_)
      refine lv_iload_n hx hb dX0_power_8 rfl (lv_at hl 2 rfl) ?_
      refine lv_if_lt (tgt := 27) hx hb dX0_power_9 (by decide) (fun c_ => False.elim ((nI_pos (by omega)) c_)) (fun _ => ?_)
      refine lv_iload_n hx hb dX0_power_12 rfl (lv_at hl 2 rfl) ?_
      refine lv_ldc hx hb hown (hts _ q92) dX0_power_13 ?_
      refine fz_top (y := nI 1000000) rfl ?_
      refine lv_icmp_gt (tgt := 27) hx hb dX0_power_15 (by decide) (fun c_ => False.elim ((nI_nlt hj (by decide)) c_)) (fun _ => ?_)
      refine lv_aload_n hx hb dX0_power_18 rfl (lv_at hl 0 rfl) ?_
      refine lv_iload_n hx hb dX0_power_19 rfl (lv_at hl 1 rfl) ?_
      refine lv_iload_n hx hb dX0_power_20 rfl (lv_at hl 2 rfl) ?_
      refine fz_callX (As := [.int (nI i), .int (nI j)]) (rest := []) ⟨hx, hb, hml, hown, hts⟩ (mX0_powerOf l hm hT hi (by omega)) (cwV 2 hts (lw_V q93 q95 qs6 q18 q96) rfl rfl rfl cd_X0_powerOf ⟨Nat.le_of_ble_eq_true rfl, Nat.le_of_ble_eq_true rfl⟩) hP hK rfl hl.1 rfl (Nat.le_of_ble_eq_true rfl) dX0_power_21 ⟨Nat.zero_le _, Nat.zero_le _⟩ (fun r_ hr_ => ?_)
      have hr_ : r_ = (nI (fz_pow q i j)) := hr_
      subst hr_
      refine lv_goto (tgt := 28) hx hb dX0_power_24 (by decide) ?_
      exact W.iret (v := (nI (fz_pow q i j))) hx hb hr (fun t ht hW => ⟨_, rfl, (by rw [fz_Apow, ea, en, nI_clamp (by omega), nI_clamp (by omega)]; rfl), ht⟩) (fun _ z => absurd z List.not_mem_nil) dX0_power_28
set_option maxHeartbeats 4000000 in
set_option maxRecDepth 100000 in
theorem mX0_order (l : Launch) {D : va_G} {h h1 h2 h3 : Nat} {d1 d2 d3 : ClassId} {q p k : Nat} {f1 f2 f3 : Nat → Int32} (hm : fz_Ok q p k) (hT : fz_XOk q f1 f2) (a : Int32) : Met l yX0_order (ws_ yX0_order cX0_order 2 (some .int)) ({ frames := 1, cells := 0, slots := 0, locals := 25 }) (va_Pc [.ref h, .int a] (fz_BX D h h1 h2 h3 d1 d2 d3 q p k f1 f2 f3)) (vp_Si (fun r => r = fz_Aord q a)) 0 0 (fun _ => False) := by
  obtain ⟨hp2, hp3, hk4, hk6, hq64, hq81, hpk⟩ := fz_facts hm
  refine Met.ofW (cc := cX0_order) (maxL := 2) (ret := (some .int)) (by decide) rfl ?_
  intro P e s m args below meth c s₁ B hml hv
  obtain ⟨rfl, hP, hK⟩ := hv
  have hx := B.exec
  have hb := B.bytes
  have hr := B.returns
  have hts := atoms_spec (ws := ws_ yX0_order cX0_order 2 (some .int)) B.pre
  have hts : ∀ w ∈ lw_all, w.before _ s = true := fun w h => hts w (List.mem_cons_of_mem _ h)
  have hown : s.vm.findClass RX0 = some m.cls := findClass_of_methodNamed B.named
  have hlocks := B.notSynchronized
  have hl := lv_entry ([.ref h, .int a]) (n := 2) (Nat.le_of_ble_eq_true rfl)
  rw [lg_entry_eq]
  generalize (lg_sl ([.ref h, .int a]) ++ List.replicate (2 - (lg_sl ([.ref h, .int a])).length) Slot.unset).toArray = ls at hl ⊢
  have hl : lv_has ls 2 [(0, .ref h), (1, .int a)] := hl
  cases ea : fz_el q a with
  | false =>
    refine lv_aload_n hx hb dX0_order_0 rfl (lv_at hl 0 rfl) ?_
    refine lv_iload_n hx hb dX0_order_1 rfl (lv_at hl 1 rfl) ?_
    refine fz_callX (As := [.int a]) (rest := []) ⟨hx, hb, hml, hown, hts⟩ (mX0_isElement l a) (cwV 1 hts (lw_V q68 q70 qs3 q18 q71) rfl rfl rfl cd_X0_isElement ⟨Nat.le_of_ble_eq_true rfl, Nat.le_of_ble_eq_true rfl⟩) hP hK rfl hl.1 rfl (Nat.le_of_ble_eq_true rfl) dX0_order_2 ⟨Nat.zero_le _, Nat.zero_le _⟩ (fun r_ hr_ => ?_)
    have hr_ : r_ = (nI 0) := by rw [hr_, ea]; rfl
    subst hr_
    refine lv_if_eq (tgt := 12) hx hb dX0_order_5 (by decide) (fun _ => ?_) (fun c_ => False.elim ((fun z => z rfl) c_))
    refine lv_iconst (v := -1) hx hb dX0_order_12 (by decide) ?_
    exact W.iret (v := (-1)) hx hb hr (fun t ht hW => ⟨_, rfl, (by rw [fz_Aord, ea]; rfl), ht⟩) (fun _ z => absurd z List.not_mem_nil) dX0_order_13
  | true =>
    obtain ⟨i, hi, rfl⟩ := fz_el_of (by omega) ea
    refine lv_aload_n hx hb dX0_order_0 rfl (lv_at hl 0 rfl) ?_
    refine lv_iload_n hx hb dX0_order_1 rfl (lv_at hl 1 rfl) ?_
    refine fz_callX (As := [.int (nI i)]) (rest := []) ⟨hx, hb, hml, hown, hts⟩ (mX0_isElement l (nI i)) (cwV 1 hts (lw_V q68 q70 qs3 q18 q71) rfl rfl rfl cd_X0_isElement ⟨Nat.le_of_ble_eq_true rfl, Nat.le_of_ble_eq_true rfl⟩) hP hK rfl hl.1 rfl (Nat.le_of_ble_eq_true rfl) dX0_order_2 ⟨Nat.zero_le _, Nat.zero_le _⟩ (fun r_ hr_ => ?_)
    have hr_ : r_ = (nI 1) := by rw [hr_, ea]; rfl
    subst hr_
    refine lv_if_eq (tgt := 12) hx hb dX0_order_5 (by decide) (fun c_ => False.elim ((fun z => absurd z (by decide)) c_)) (fun _ => ?_)
    refine lv_iload_n hx hb dX0_order_8 rfl (lv_at hl 1 rfl) ?_
    refine lv_if_ne (tgt := 14) hx hb dX0_order_9 (by decide) (fun c_9 => ?_) (fun c_9 => ?_)
    · have h0 : i ≠ 0 := fun z => c_9 (by rw [z]; rfl)
      have e1 := fz_lg_ok hm h0 hi
      have hg := fz_gcd hm (fz_lg q i)
      refine lv_aload_n hx hb dX0_order_14 rfl (lv_at hl 0 rfl) ?_
      refine va_get (D := D) (ci := 0) (v := .int (nI q)) (C := RX0) (T := TX0) (N := 6) hx hb hts in_X0 hown hK hP 0 rfl rfl 0 (by decide) (hts _ q40) (fun _ h9 => h9) rfl dX0_order_15 ?_
      refine lv_iconst (v := nI 1) hx hb dX0_order_18 (by decide) ?_
      refine nv_isub hx hb dX0_order_19 (by omega) ?_
      refine lv_aload_n hx hb dX0_order_20 rfl (lv_at hl 0 rfl) ?_
      refine va_get (D := D) (ci := 0) (v := .ref h2) (C := RX0) (T := TX0) (N := 6) hx hb hts in_X0 hown hK hP 0 rfl rfl 4 (by decide) (hts _ q44) (fun _ h9 => h9) rfl dX0_order_21 ?_
      refine lv_iload_n hx hb dX0_order_24 rfl (lv_at hl 1 rfl) ?_
      refine nv_ald hx hb hK hP 2 1 rfl rfl (by omega) (by decide) (hT.2 i h0 hi) dX0_order_25 ?_
      refine lv_aload_n hx hb dX0_order_26 rfl (lv_at hl 0 rfl) ?_
      refine va_get (D := D) (ci := 0) (v := .int (nI q)) (C := RX0) (T := TX0) (N := 6) hx hb hts in_X0 hown hK hP 0 rfl rfl 0 (by decide) (hts _ q40) (fun _ h9 => h9) rfl dX0_order_27 ?_
      refine lv_iconst (v := nI 1) hx hb dX0_order_30 (by decide) ?_
      refine nv_isub hx hb dX0_order_31 (by omega) ?_
      refine fz_callS (As := [.int (nI (fz_lg q i)), .int (nI (q - 1))]) (rest := [.int (nI (q - 1))]) ⟨hx, hb, hml, hown, hts⟩ (mX0_divisor l (x := fz_lg q i) (y := q - 1) (by omega) (by omega)) (va_cwS 2 hts (lw_S q101 q102 q18 q103) rfl rfl rfl (by decide +kernel) ⟨Nat.le_of_ble_eq_true rfl, Nat.le_of_ble_eq_true rfl⟩) rfl hl.1 rfl (Nat.le_of_ble_eq_true rfl) dX0_order_32 ⟨Nat.zero_le _, Nat.zero_le _⟩ (fun r_ hr_ => ?_)
      have hr_ : r_ = (nI (Nat.gcd (fz_lg q i) (q - 1))) := by rw [hr_, (fz_dv_small hm (by omega)).1]
      subst hr_
      refine nv_idiv hx hb dX0_order_35 (by omega) (by omega) (by omega) ?_
      exact W.iret (v := (nI ((q - 1) / (Nat.gcd (fz_lg q i) (q - 1))))) hx hb hr (fun t ht hW => ⟨_, rfl, (by rw [fz_Aord, ea, fz_nz (by omega) h0, nI_clamp (by omega)]; rfl), ht⟩) (fun _ z => absurd z List.not_mem_nil) dX0_order_36
    · have h0 : i = 0 := (nI_eq (by omega) (by decide)).mp c_9
      refine lv_iconst (v := -1) hx hb dX0_order_12 (by decide) ?_
      exact W.iret (v := (-1)) hx hb hr (fun t ht hW => ⟨_, rfl, (by rw [fz_Aord, ea, h0]; rfl), ht⟩) (fun _ z => absurd z List.not_mem_nil) dX0_order_13
set_option maxHeartbeats 4000000 in
set_option maxRecDepth 100000 in
theorem mX0_root (l : Launch) {D : va_G} {h h1 h2 h3 : Nat} {d1 d2 d3 : ClassId} {q p k : Nat} {f1 f2 f3 : Nat → Int32} (hm : fz_Ok q p k) (hT : fz_XOk q f1 f2) (a : Int32) : Met l yX0_root (ws_ yX0_root cX0_root 5 (some .int)) ({ frames := 1, cells := 0, slots := 0, locals := 21 }) (va_Pc [.ref h, .int a] (fz_BX D h h1 h2 h3 d1 d2 d3 q p k f1 f2 f3)) (vp_Si (fun r => r = fz_Aroot q a)) 0 0 (fun _ => False) := by
  obtain ⟨hp2, hp3, hk4, hk6, hq64, hq81, hpk⟩ := fz_facts hm
  refine Met.ofW (cc := cX0_root) (maxL := 5) (ret := (some .int)) (by decide) rfl ?_
  intro P e s m args below meth c s₁ B hml hv
  obtain ⟨rfl, hP, hK⟩ := hv
  have hx := B.exec
  have hb := B.bytes
  have hr := B.returns
  have hts := atoms_spec (ws := ws_ yX0_root cX0_root 5 (some .int)) B.pre
  have hts : ∀ w ∈ lw_all, w.before _ s = true := fun w h => hts w (List.mem_cons_of_mem _ h)
  have hown : s.vm.findClass RX0 = some m.cls := findClass_of_methodNamed B.named
  have hlocks := B.notSynchronized
  have hl := lv_entry ([.ref h, .int a]) (n := 5) (Nat.le_of_ble_eq_true rfl)
  rw [lg_entry_eq]
  generalize (lg_sl ([.ref h, .int a]) ++ List.replicate (5 - (lg_sl ([.ref h, .int a])).length) Slot.unset).toArray = ls at hl ⊢
  have hl : lv_has ls 5 [(0, .ref h), (1, .int a)] := hl
  cases ea : fz_el q a with
  | false =>
    refine lv_aload_n hx hb dX0_root_0 rfl (lv_at hl 0 rfl) ?_
    refine lv_iload_n hx hb dX0_root_1 rfl (lv_at hl 1 rfl) ?_
    refine fz_callX (As := [.int a]) (rest := []) ⟨hx, hb, hml, hown, hts⟩ (mX0_isElement l a) (cwV 1 hts (lw_V q68 q70 qs3 q18 q71) rfl rfl rfl cd_X0_isElement ⟨Nat.le_of_ble_eq_true rfl, Nat.le_of_ble_eq_true rfl⟩) hP hK rfl hl.1 rfl (Nat.le_of_ble_eq_true rfl) dX0_root_2 ⟨Nat.zero_le _, Nat.zero_le _⟩ (fun r_ hr_ => ?_)
    have hr_ : r_ = (nI 0) := by rw [hr_, ea]; rfl
    subst hr_
    refine lv_if_ne (tgt := 10) hx hb dX0_root_5 (by decide) (fun c_ => False.elim ((fun z => z rfl) c_)) (fun _ => ?_)
    refine lv_iconst (v := -1) hx hb dX0_root_8 (by decide) ?_
    exact W.iret (v := (-1)) hx hb hr (fun t ht hW => ⟨_, rfl, (by rw [fz_Aroot, ea]; rfl), ht⟩) (fun _ z => absurd z List.not_mem_nil) dX0_root_9
  | true =>
    obtain ⟨i, hi, rfl⟩ := fz_el_of (by omega) ea
    rcases id hm with ⟨rfl, rfl, rfl⟩ | ⟨rfl, rfl, rfl⟩
    · refine lv_aload_n hx hb dX0_root_0 rfl (lv_at hl 0 rfl) ?_
      refine lv_iload_n hx hb dX0_root_1 rfl (lv_at hl 1 rfl) ?_
      refine fz_callX (As := [.int (nI i)]) (rest := []) ⟨hx, hb, hml, hown, hts⟩ (mX0_isElement l (nI i)) (cwV 1 hts (lw_V q68 q70 qs3 q18 q71) rfl rfl rfl cd_X0_isElement ⟨Nat.le_of_ble_eq_true rfl, Nat.le_of_ble_eq_true rfl⟩) hP hK rfl hl.1 rfl (Nat.le_of_ble_eq_true rfl) dX0_root_2 ⟨Nat.zero_le _, Nat.zero_le _⟩ (fun r_ hr_ => ?_)
      have hr_ : r_ = (nI 1) := by rw [hr_, ea]; rfl
      subst hr_
      refine lv_if_ne (tgt := 10) hx hb dX0_root_5 (by decide) (fun _ => ?_) (fun c_ => False.elim ((fun z => absurd z (by decide)) c_))
      refine lv_iload_n hx hb dX0_root_10 rfl (lv_at hl 1 rfl) ?_
      refine lv_if_ne (tgt := 16) hx hb dX0_root_11 (by decide) (fun c_11 => ?_) (fun c_11 => ?_)
      · have h0 : i ≠ 0 := fun z => c_11 (by rw [z]; rfl)
        have e1 := fz_lg_ok hm h0 hi
        refine lv_aload_n hx hb dX0_root_16 rfl (lv_at hl 0 rfl) ?_
        refine va_get (D := D) (ci := 0) (v := .ref h2) (C := RX0) (T := TX0) (N := 6) hx hb hts in_X0 hown hK hP 0 rfl rfl 4 (by decide) (hts _ q44) (fun _ h9 => h9) rfl dX0_root_17 ?_
        refine lv_iload_n hx hb dX0_root_20 rfl (lv_at hl 1 rfl) ?_
        refine nv_ald hx hb hK hP 2 1 rfl rfl (by omega) (by decide) (hT.2 i h0 hi) dX0_root_21 ?_
        refine lv_istore_n (lv' := [(2, .int (nI (fz_lg 64 i))), (0, .ref h), (1, .int (nI i))]) hx hb dX0_root_22 rfl hl (by decide) rfl (fun ls hl => ?_)
        refine lv_aload_n hx hb dX0_root_23 rfl (lv_at hl 1 rfl) ?_
        refine va_get (D := D) (ci := 0) (v := .int (nI 2)) (C := RX0) (T := TX0) (N := 6) hx hb hts in_X0 hown hK hP 0 rfl rfl 1 (by decide) (hts _ q41) (fun _ h9 => h9) rfl dX0_root_24 ?_
        refine lv_iconst (v := nI 2) hx hb dX0_root_27 (by decide) ?_
        refine lv_icmp_ne (tgt := 44) hx hb dX0_root_28 (by decide) (fun c_ => False.elim ((fun z => z rfl) c_)) (fun _ => ?_)
        refine lv_aload_n hx hb dX0_root_31 rfl (lv_at hl 1 rfl) ?_
        refine va_get (D := D) (ci := 0) (v := .ref h1) (C := RX0) (T := TX0) (N := 6) hx hb hts in_X0 hown hK hP 0 rfl rfl 3 (by decide) (hts _ q43) (fun _ h9 => h9) rfl dX0_root_32 ?_
        refine lv_iload_n hx hb dX0_root_35 rfl (lv_at hl 0 rfl) ?_
        refine lv_bipush (v := nI 32) hx hb dX0_root_36 (by decide) ?_
        refine nv_imul hx hb dX0_root_38 ?_
        refine lv_bipush (v := nI 63) hx hb dX0_root_39 (by decide) ?_
        refine nv_irem hx hb dX0_root_41 (by omega) (by omega) (by omega) ?_
        refine nv_ald hx hb hK hP 1 0 rfl rfl (by omega) (by decide) (by rw [hT.1 _ (by omega), Nat.mod_eq_of_lt (by omega)]) dX0_root_42 ?_
        exact W.iret (v := (nI (fz_pw 64 (fz_lg 64 i * 32 % 63)))) hx hb hr (fun t ht hW => ⟨_, rfl, (by rw [fz_Aroot, ea, nI_clamp (by omega), fz_root, fz_beq_f h0]; rfl), ht⟩) (fun _ z => absurd z List.not_mem_nil) dX0_root_43
      · have h0 : i = 0 := (nI_eq (by omega) (by decide)).mp c_11
        refine lv_iconst (v := nI 0) hx hb dX0_root_14 (by decide) ?_
        exact W.iret (v := (nI 0)) hx hb hr (fun t ht hW => ⟨_, rfl, (by rw [fz_Aroot, ea, nI_clamp (by omega), h0]; rfl), ht⟩) (fun _ z => absurd z List.not_mem_nil) dX0_root_15
    · refine lv_aload_n hx hb dX0_root_0 rfl (lv_at hl 0 rfl) ?_
      refine lv_iload_n hx hb dX0_root_1 rfl (lv_at hl 1 rfl) ?_
      refine fz_callX (As := [.int (nI i)]) (rest := []) ⟨hx, hb, hml, hown, hts⟩ (mX0_isElement l (nI i)) (cwV 1 hts (lw_V q68 q70 qs3 q18 q71) rfl rfl rfl cd_X0_isElement ⟨Nat.le_of_ble_eq_true rfl, Nat.le_of_ble_eq_true rfl⟩) hP hK rfl hl.1 rfl (Nat.le_of_ble_eq_true rfl) dX0_root_2 ⟨Nat.zero_le _, Nat.zero_le _⟩ (fun r_ hr_ => ?_)
      have hr_ : r_ = (nI 1) := by rw [hr_, ea]; rfl
      subst hr_
      refine lv_if_ne (tgt := 10) hx hb dX0_root_5 (by decide) (fun _ => ?_) (fun c_ => False.elim ((fun z => absurd z (by decide)) c_))
      refine lv_iload_n hx hb dX0_root_10 rfl (lv_at hl 1 rfl) ?_
      refine lv_if_ne (tgt := 16) hx hb dX0_root_11 (by decide) (fun c_11 => ?_) (fun c_11 => ?_)
      · have h0 : i ≠ 0 := fun z => c_11 (by rw [z]; rfl)
        have e1 := fz_lg_ok hm h0 hi
        refine lv_aload_n hx hb dX0_root_16 rfl (lv_at hl 0 rfl) ?_
        refine va_get (D := D) (ci := 0) (v := .ref h2) (C := RX0) (T := TX0) (N := 6) hx hb hts in_X0 hown hK hP 0 rfl rfl 4 (by decide) (hts _ q44) (fun _ h9 => h9) rfl dX0_root_17 ?_
        refine lv_iload_n hx hb dX0_root_20 rfl (lv_at hl 1 rfl) ?_
        refine nv_ald hx hb hK hP 2 1 rfl rfl (by omega) (by decide) (hT.2 i h0 hi) dX0_root_21 ?_
        refine lv_istore_n (lv' := [(2, .int (nI (fz_lg 81 i))), (0, .ref h), (1, .int (nI i))]) hx hb dX0_root_22 rfl hl (by decide) rfl (fun ls hl => ?_)
        refine lv_aload_n hx hb dX0_root_23 rfl (lv_at hl 1 rfl) ?_
        refine va_get (D := D) (ci := 0) (v := .int (nI 3)) (C := RX0) (T := TX0) (N := 6) hx hb hts in_X0 hown hK hP 0 rfl rfl 1 (by decide) (hts _ q41) (fun _ h9 => h9) rfl dX0_root_24 ?_
        refine lv_iconst (v := nI 2) hx hb dX0_root_27 (by decide) ?_
        refine lv_icmp_ne (tgt := 44) hx hb dX0_root_28 (by decide) (fun _ => ?_) (fun c_ => False.elim ((fun z => absurd z (by decide)) c_))
        refine lv_iload_n hx hb dX0_root_44 rfl (lv_at hl 0 rfl) ?_
        refine lv_iconst (v := nI 1) hx hb dX0_root_45 (by decide) ?_
        refine lv_iand hx hb dX0_root_46 ?_
        refine fz_top (y := (nI (fz_lg 81 i % 2))) (pk_andN (by omega) 1 (by decide)) ?_
        refine lv_if_eq (tgt := 52) hx hb dX0_root_47 (by decide) (fun c_47 => ?_) (fun c_47 => ?_)
        · have ev : fz_lg 81 i % 2 = 0 := (nI_eq (by omega) (by decide)).mp c_47
          have w1 := fz_pw_ok hm (n := fz_lg 81 i / 2) (by omega)
          have w2 := fz_pw_ok hm (n := fz_lg 81 i / 2 + 40) (by omega)
          refine lv_aload_n hx hb dX0_root_52 rfl (lv_at hl 1 rfl) ?_
          refine va_get (D := D) (ci := 0) (v := .ref h1) (C := RX0) (T := TX0) (N := 6) hx hb hts in_X0 hown hK hP 0 rfl rfl 3 (by decide) (hts _ q43) (fun _ h9 => h9) rfl dX0_root_53 ?_
          refine lv_iload_n hx hb dX0_root_56 rfl (lv_at hl 0 rfl) ?_
          refine lv_iconst (v := nI 2) hx hb dX0_root_57 (by decide) ?_
          refine nv_idiv hx hb dX0_root_58 (by omega) (by omega) (by omega) ?_
          refine nv_ald hx hb hK hP 1 0 rfl rfl (by omega) (by decide) (by rw [hT.1 _ (by omega), Nat.mod_eq_of_lt (by omega)]) dX0_root_59 ?_
          refine lv_istore_n (lv' := [(3, .int (nI (fz_pw 81 (fz_lg 81 i / 2)))), (2, .int (nI (fz_lg 81 i))), (0, .ref h), (1, .int (nI i))]) hx hb dX0_root_60 rfl hl (by decide) rfl (fun ls hl => ?_)
          refine lv_aload_n hx hb dX0_root_61 rfl (lv_at hl 2 rfl) ?_
          refine va_get (D := D) (ci := 0) (v := .ref h1) (C := RX0) (T := TX0) (N := 6) hx hb hts in_X0 hown hK hP 0 rfl rfl 3 (by decide) (hts _ q43) (fun _ h9 => h9) rfl dX0_root_62 ?_
          refine lv_iload_n hx hb dX0_root_65 rfl (lv_at hl 1 rfl) ?_
          refine lv_iconst (v := nI 2) hx hb dX0_root_66 (by decide) ?_
          refine nv_idiv hx hb dX0_root_67 (by omega) (by omega) (by omega) ?_
          refine lv_bipush (v := nI 40) hx hb dX0_root_68 (by decide) ?_
          refine nv_iadd hx hb dX0_root_70 ?_
          refine nv_ald hx hb hK hP 1 0 rfl rfl (by omega) (by decide) (by rw [hT.1 _ (by omega), Nat.mod_eq_of_lt (by omega)]) dX0_root_71 ?_
          refine lv_istore (lv' := [(4, .int (nI (fz_pw 81 (fz_lg 81 i / 2 + 40)))), (3, .int (nI (fz_pw 81 (fz_lg 81 i / 2)))), (2, .int (nI (fz_lg 81 i))), (0, .ref h), (1, .int (nI i))]) hx hb dX0_root_72 hl (by decide) rfl (fun ls hl => ?_)
          refine lv_iload_n hx hb dX0_root_74 rfl (lv_at hl 1 rfl) ?_
          refine lv_iload hx hb dX0_root_75 (lv_at hl 0 rfl) ?_
          refine lv_icmp_ge (tgt := 84) hx hb dX0_root_77 (by decide) (fun c_77 => ?_) (fun c_77 => ?_)
          · have cm := (nI_leI (by omega) (by omega)).mp c_77
            refine lv_iload hx hb dX0_root_84 (lv_at hl 0 rfl) ?_
            exact W.iret (v := (nI (fz_pw 81 (fz_lg 81 i / 2 + 40)))) hx hb hr (fun t ht hW => ⟨_, rfl, (by rw [fz_Aroot, ea, nI_clamp (by omega), fz_root, fz_beq_f h0, cond_false, show Nat.beq 81 64 = false from rfl, cond_false, fz_beq_t ev, cond_true, show Nat.min (fz_pw 81 (fz_lg 81 i / 2)) (fz_pw 81 (fz_lg 81 i / 2 + 40)) = _ from Nat.min_eq_right cm]; rfl), ht⟩) (fun _ z => absurd z List.not_mem_nil) dX0_root_86
          · have cm := Nat.not_le.mp (fun z => c_77 (nI_le z (by omega)))
            refine lv_iload_n hx hb dX0_root_80 rfl (lv_at hl 1 rfl) ?_
            refine lv_goto (tgt := 86) hx hb dX0_root_81 (by decide) ?_
            exact W.iret (v := (nI (fz_pw 81 (fz_lg 81 i / 2)))) hx hb hr (fun t ht hW => ⟨_, rfl, (by rw [fz_Aroot, ea, nI_clamp (by omega), fz_root, fz_beq_f h0, cond_false, show Nat.beq 81 64 = false from rfl, cond_false, fz_beq_t ev, cond_true, show Nat.min (fz_pw 81 (fz_lg 81 i / 2)) (fz_pw 81 (fz_lg 81 i / 2 + 40)) = _ from Nat.min_eq_left (Nat.le_of_lt cm)]; rfl), ht⟩) (fun _ z => absurd z List.not_mem_nil) dX0_root_86
        · have ev : fz_lg 81 i % 2 ≠ 0 := fun z => c_47 (by rw [z]; rfl)
          refine lv_iconst (v := -1) hx hb dX0_root_50 (by decide) ?_
          exact W.iret (v := (-1)) hx hb hr (fun t ht hW => ⟨_, rfl, (by rw [fz_Aroot, ea, nI_clamp (by omega), fz_root, fz_beq_f h0, cond_false, show Nat.beq 81 64 = false from rfl, cond_false, fz_beq_f ev]; rfl), ht⟩) (fun _ z => absurd z List.not_mem_nil) dX0_root_51
      · have h0 : i = 0 := (nI_eq (by omega) (by decide)).mp c_11
        refine lv_iconst (v := nI 0) hx hb dX0_root_14 (by decide) ?_
        exact W.iret (v := (nI 0)) hx hb hr (fun t ht hW => ⟨_, rfl, (by rw [fz_Aroot, ea, nI_clamp (by omega), h0]; rfl), ht⟩) (fun _ z => absurd z List.not_mem_nil) dX0_root_15
set_option maxHeartbeats 4000000 in
set_option maxRecDepth 100000 in
theorem mX0_roots (l : Launch) {D : va_G} {h h1 h2 h3 : Nat} {d1 d2 d3 : ClassId} {q p k : Nat} {f1 f2 f3 : Nat → Int32} (hm : fz_Ok q p k) (hT : fz_XOk q f1 f2) (a n : Int32) : Met l yX0_roots (ws_ yX0_roots cX0_roots 4 (some .int)) ({ frames := 1, cells := 0, slots := 0, locals := 25 }) (va_Pc [.ref h, .int a, .int n] (fz_BX D h h1 h2 h3 d1 d2 d3 q p k f1 f2 f3)) (vp_Si (fun r => r = fz_Arts q a n)) 0 0 (fun _ => False) := by
  obtain ⟨hp2, hp3, hk4, hk6, hq64, hq81, hpk⟩ := fz_facts hm
  refine Met.ofW (cc := cX0_roots) (maxL := 4) (ret := (some .int)) (by decide) rfl ?_
  intro P e s m args below meth c s₁ B hml hv
  obtain ⟨rfl, hP, hK⟩ := hv
  have hx := B.exec
  have hb := B.bytes
  have hr := B.returns
  have hts := atoms_spec (ws := ws_ yX0_roots cX0_roots 4 (some .int)) B.pre
  have hts : ∀ w ∈ lw_all, w.before _ s = true := fun w h => hts w (List.mem_cons_of_mem _ h)
  have hown : s.vm.findClass RX0 = some m.cls := findClass_of_methodNamed B.named
  have hlocks := B.notSynchronized
  have hl := lv_entry ([.ref h, .int a, .int n]) (n := 4) (Nat.le_of_ble_eq_true rfl)
  rw [lg_entry_eq]
  generalize (lg_sl ([.ref h, .int a, .int n]) ++ List.replicate (4 - (lg_sl ([.ref h, .int a, .int n])).length) Slot.unset).toArray = ls at hl ⊢
  have hl : lv_has ls 4 [(0, .ref h), (1, .int a), (2, .int n)] := hl
  cases ea : fz_el q a with
  | false =>
    refine lv_aload_n hx hb dX0_roots_0 rfl (lv_at hl 0 rfl) ?_
    refine lv_iload_n hx hb dX0_roots_1 rfl (lv_at hl 1 rfl) ?_
    refine fz_callX (As := [.int a]) (rest := []) ⟨hx, hb, hml, hown, hts⟩ (mX0_isElement l a) (cwV 1 hts (lw_V q68 q70 qs3 q18 q71) rfl rfl rfl cd_X0_isElement ⟨Nat.le_of_ble_eq_true rfl, Nat.le_of_ble_eq_true rfl⟩) hP hK rfl hl.1 rfl (Nat.le_of_ble_eq_true rfl) dX0_roots_2 ⟨Nat.zero_le _, Nat.zero_le _⟩ (fun r_ hr_ => ?_)
    have hr_ : r_ = (nI 0) := by rw [hr_, ea]; rfl
    subst hr_
    refine lv_if_eq (tgt := 19) hx hb dX0_roots_5 (by decide) (fun _ => ?_) (fun c_ => False.elim ((fun z => z rfl) c_))
    refine lv_iconst (v := -1) hx hb dX0_roots_19 (by decide) ?_
    exact W.iret (v := (-1)) hx hb hr (fun t ht hW => ⟨_, rfl, (by rw [fz_Arts, ea]; rfl), ht⟩) (fun _ z => absurd z List.not_mem_nil) dX0_roots_20
  | true =>
    obtain ⟨i, hi, rfl⟩ := fz_el_of (by omega) ea
    cases en : fz_rg1 n with
    | false =>
      refine lv_aload_n hx hb dX0_roots_0 rfl (lv_at hl 0 rfl) ?_
      refine lv_iload_n hx hb dX0_roots_1 rfl (lv_at hl 1 rfl) ?_
      refine fz_callX (As := [.int (nI i)]) (rest := []) ⟨hx, hb, hml, hown, hts⟩ (mX0_isElement l (nI i)) (cwV 1 hts (lw_V q68 q70 qs3 q18 q71) rfl rfl rfl cd_X0_isElement ⟨Nat.le_of_ble_eq_true rfl, Nat.le_of_ble_eq_true rfl⟩) hP hK rfl hl.1 rfl (Nat.le_of_ble_eq_true rfl) dX0_roots_2 ⟨Nat.zero_le _, Nat.zero_le _⟩ (fun r_ hr_ => ?_)
      have hr_ : r_ = (nI 1) := by rw [hr_, ea]; rfl
      subst hr_
      refine lv_if_eq (tgt := 19) hx hb dX0_roots_5 (by decide) (fun c_ => False.elim ((fun z => absurd z (by decide)) c_)) (fun _ => ?_)
      refine lv_iload_n hx hb dX0_roots_8 rfl (lv_at hl 2 rfl) ?_
      refine lv_iconst (v := nI 1) hx hb dX0_roots_9 (by decide) ?_
      refine lv_icmp_lt (tgt := 19) hx hb dX0_roots_10 (by decide) (fun c_10 => ?_) (fun c_10 => ?_)
      · refine lv_iconst (v := -1) hx hb dX0_roots_19 (by decide) ?_
        exact W.iret (v := (-1)) hx hb hr (fun t ht hW => ⟨_, rfl, (by rw [fz_Arts, ea, en]; rfl), ht⟩) (fun _ z => absurd z List.not_mem_nil) dX0_roots_20
      · refine lv_iload_n hx hb dX0_roots_13 rfl (lv_at hl 2 rfl) ?_
        refine lv_ldc hx hb hown (hts _ q92) dX0_roots_14 ?_
        refine fz_top (y := nI 1000000) rfl ?_
        refine lv_icmp_le (tgt := 21) hx hb dX0_roots_16 (by decide) (fun c_16 => ?_) (fun c_16 => ?_)
        · exact absurd (fz_rg1_t c_10 c_16) (by rw [en]; decide)
        · refine lv_iconst (v := -1) hx hb dX0_roots_19 (by decide) ?_
          exact W.iret (v := (-1)) hx hb hr (fun t ht hW => ⟨_, rfl, (by rw [fz_Arts, ea, en]; rfl), ht⟩) (fun _ z => absurd z List.not_mem_nil) dX0_roots_20
    | true =>
      obtain ⟨j, hj1, hj, rfl⟩ := fz_rg1_of en
      refine lv_aload_n hx hb dX0_roots_0 rfl (lv_at hl 0 rfl) ?_
      refine lv_iload_n hx hb dX0_roots_1 rfl (lv_at hl 1 rfl) ?_
      refine fz_callX (As := [.int (nI i)]) (rest := []) ⟨hx, hb, hml, hown, hts⟩ (mX0_isElement l (nI i)) (cwV 1 hts (lw_V q68 q70 qs3 q18 q71) rfl rfl rfl cd_X0_isElement ⟨Nat.le_of_ble_eq_true rfl, Nat.le_of_ble_eq_true rfl⟩) hP hK rfl hl.1 rfl (Nat.le_of_ble_eq_true rfl) dX0_roots_2 ⟨Nat.zero_le _, Nat.zero_le _⟩ (fun r_ hr_ => ?_)
      have hr_ : r_ = (nI 1) := by rw [hr_, ea]; rfl
      subst hr_
      refine lv_if_eq (tgt := 19) hx hb dX0_roots_5 (by decide) (fun c_ => False.elim ((fun z => absurd z (by decide)) c_)) (fun _ => ?_)
      refine lv_iload_n hx hb dX0_roots_8 rfl (lv_at hl 2 rfl) ?_
      refine lv_iconst (v := nI 1) hx hb dX0_roots_9 (by decide) ?_
      refine lv_icmp_lt (tgt := 19) hx hb dX0_roots_10 (by decide) (fun c_ => False.elim ((nI_nlt hj1 (by omega)) c_)) (fun _ => ?_)
      refine lv_iload_n hx hb dX0_roots_13 rfl (lv_at hl 2 rfl) ?_
      refine lv_ldc hx hb hown (hts _ q92) dX0_roots_14 ?_
      refine fz_top (y := nI 1000000) rfl ?_
      refine lv_icmp_le (tgt := 21) hx hb dX0_roots_16 (by decide) (fun _ => ?_) (fun c_ => False.elim ((fun z => z (nI_le hj (by decide))) c_))
      refine lv_iload_n hx hb dX0_roots_21 rfl (lv_at hl 1 rfl) ?_
      refine lv_if_ne (tgt := 27) hx hb dX0_roots_22 (by decide) (fun c_22 => ?_) (fun c_22 => ?_)
      · have h0 : i ≠ 0 := fun z => c_22 (by rw [z]; rfl)
        have e1 := fz_lg_ok hm h0 hi
        have hg := fz_gcd hm (j % (q - 1))
        refine lv_iload_n hx hb dX0_roots_27 rfl (lv_at hl 2 rfl) ?_
        refine lv_aload_n hx hb dX0_roots_28 rfl (lv_at hl 0 rfl) ?_
        refine va_get (D := D) (ci := 0) (v := .int (nI q)) (C := RX0) (T := TX0) (N := 6) hx hb hts in_X0 hown hK hP 0 rfl rfl 0 (by decide) (hts _ q40) (fun _ h9 => h9) rfl dX0_roots_29 ?_
        refine lv_iconst (v := nI 1) hx hb dX0_roots_32 (by decide) ?_
        refine nv_isub hx hb dX0_roots_33 (by omega) ?_
        refine fz_callS (As := [.int (nI j), .int (nI (q - 1))]) (rest := []) ⟨hx, hb, hml, hown, hts⟩ (mX0_divisor l (x := j) (y := q - 1) (by omega) (by omega)) (va_cwS 2 hts (lw_S q101 q102 q18 q103) rfl rfl rfl (by decide +kernel) ⟨Nat.le_of_ble_eq_true rfl, Nat.le_of_ble_eq_true rfl⟩) rfl hl.1 rfl (Nat.le_of_ble_eq_true rfl) dX0_roots_34 ⟨Nat.zero_le _, Nat.zero_le _⟩ (fun r_ hr_ => ?_)
        have hr_ : r_ = (nI (Nat.gcd (j % (q - 1)) (q - 1))) := by rw [hr_, fz_dv_ok hm]
        subst hr_
        refine lv_istore_n (lv' := [(3, .int (nI (Nat.gcd (j % (q - 1)) (q - 1)))), (0, .ref h), (1, .int (nI i)), (2, .int (nI j))]) hx hb dX0_roots_37 rfl hl (by decide) rfl (fun ls hl => ?_)
        refine lv_aload_n hx hb dX0_roots_38 rfl (lv_at hl 1 rfl) ?_
        refine va_get (D := D) (ci := 0) (v := .ref h2) (C := RX0) (T := TX0) (N := 6) hx hb hts in_X0 hown hK hP 0 rfl rfl 4 (by decide) (hts _ q44) (fun _ h9 => h9) rfl dX0_roots_39 ?_
        refine lv_iload_n hx hb dX0_roots_42 rfl (lv_at hl 2 rfl) ?_
        refine nv_ald hx hb hK hP 2 1 rfl rfl (by omega) (by decide) (hT.2 i h0 hi) dX0_roots_43 ?_
        refine lv_iload_n hx hb dX0_roots_44 rfl (lv_at hl 0 rfl) ?_
        refine nv_irem hx hb dX0_roots_45 (by omega) (by omega) (by omega) ?_
        refine lv_if_ne (tgt := 53) hx hb dX0_roots_46 (by decide) (fun c_46 => ?_) (fun c_46 => ?_)
        · have ev : fz_lg q i % Nat.gcd (j % (q - 1)) (q - 1) ≠ 0 := fun z => c_46 (by rw [z]; rfl)
          refine lv_iconst (v := nI 0) hx hb dX0_roots_53 (by decide) ?_
          exact W.iret (v := (nI 0)) hx hb hr (fun t ht hW => ⟨_, rfl, (by rw [fz_Arts, ea, en, nI_clamp (by omega), nI_clamp (by omega), fz_rv, fz_beq_f h0, cond_false, fz_beq_f ev]; rfl), ht⟩) (fun _ z => absurd z List.not_mem_nil) dX0_roots_54
        · have hmd : fz_lg q i % Nat.gcd (j % (q - 1)) (q - 1) < Nat.gcd (j % (q - 1)) (q - 1) := Nat.mod_lt _ hg.1
          have ev : fz_lg q i % Nat.gcd (j % (q - 1)) (q - 1) = 0 := (nI_eq (by omega) (by decide)).mp c_46
          refine lv_iload_n hx hb dX0_roots_49 rfl (lv_at hl 0 rfl) ?_
          refine lv_goto (tgt := 54) hx hb dX0_roots_50 (by decide) ?_
          exact W.iret (v := (nI (Nat.gcd (j % (q - 1)) (q - 1)))) hx hb hr (fun t ht hW => ⟨_, rfl, (by rw [fz_Arts, ea, en, nI_clamp (by omega), nI_clamp (by omega), fz_rv, fz_beq_f h0, cond_false, fz_beq_t ev]; rfl), ht⟩) (fun _ z => absurd z List.not_mem_nil) dX0_roots_54
      · have h0 : i = 0 := (nI_eq (by omega) (by decide)).mp c_22
        refine lv_iconst (v := nI 1) hx hb dX0_roots_25 (by decide) ?_
        exact W.iret (v := (nI 1)) hx hb hr (fun t ht hW => ⟨_, rfl, (by rw [fz_Arts, ea, en, nI_clamp (by omega), nI_clamp (by omega), fz_rv, h0]; rfl), ht⟩) (fun _ z => absurd z List.not_mem_nil) dX0_roots_26
set_option maxHeartbeats 4000000 in
set_option maxRecDepth 100000 in
theorem mX0_trace (l : Launch) {D : va_G} {h h1 h2 h3 : Nat} {d1 d2 d3 : ClassId} {q p k : Nat} {f1 f2 f3 : Nat → Int32} (hm : fz_Ok q p k) (hT : fz_XOk q f1 f2) (a z : Int32) : Met l yX0_trace (ws_ yX0_trace cX0_trace 6 (some .int)) ({ frames := 1, cells := 0, slots := 0, locals := 27 }) (va_Pc [.ref h, .int a, .int z] (fz_BX D h h1 h2 h3 d1 d2 d3 q p k f1 f2 f3)) (vp_Si (fun r => r = fz_Atr q p k a z)) 0 0 (fun _ => False) := by
  obtain ⟨hp2, hp3, hk4, hk6, hq64, hq81, hpk⟩ := fz_facts hm
  refine Met.ofW (cc := cX0_trace) (maxL := 6) (ret := (some .int)) (by decide) rfl ?_
  intro P e s m args below meth c s₁ B hml hv
  obtain ⟨rfl, hP, hK⟩ := hv
  have hx := B.exec
  have hb := B.bytes
  have hr := B.returns
  have hts := atoms_spec (ws := ws_ yX0_trace cX0_trace 6 (some .int)) B.pre
  have hts : ∀ w ∈ lw_all, w.before _ s = true := fun w h => hts w (List.mem_cons_of_mem _ h)
  have hown : s.vm.findClass RX0 = some m.cls := findClass_of_methodNamed B.named
  have hlocks := B.notSynchronized
  have hl := lv_entry ([.ref h, .int a, .int z]) (n := 6) (Nat.le_of_ble_eq_true rfl)
  rw [lg_entry_eq]
  generalize (lg_sl ([.ref h, .int a, .int z]) ++ List.replicate (6 - (lg_sl ([.ref h, .int a, .int z])).length) Slot.unset).toArray = ls at hl ⊢
  have hl : lv_has ls 6 [(0, .ref h), (1, .int a), (2, .int z)] := hl
  cases ea : fz_el q a with
  | false =>
    refine lv_aload_n hx hb dX0_trace_0 rfl (lv_at hl 0 rfl) ?_
    refine lv_iload_n hx hb dX0_trace_1 rfl (lv_at hl 1 rfl) ?_
    refine fz_callX (As := [.int a]) (rest := []) ⟨hx, hb, hml, hown, hts⟩ (mX0_isElement l a) (cwV 1 hts (lw_V q68 q70 qs3 q18 q71) rfl rfl rfl cd_X0_isElement ⟨Nat.le_of_ble_eq_true rfl, Nat.le_of_ble_eq_true rfl⟩) hP hK rfl hl.1 rfl (Nat.le_of_ble_eq_true rfl) dX0_trace_2 ⟨Nat.zero_le _, Nat.zero_le _⟩ (fun r_ hr_ => ?_)
    have hr_ : r_ = (nI 0) := by rw [hr_, ea]; rfl
    subst hr_
    refine lv_if_eq (tgt := 16) hx hb dX0_trace_5 (by decide) (fun _ => ?_) (fun c_ => False.elim ((fun z => z rfl) c_))
    refine lv_iconst (v := -1) hx hb dX0_trace_16 (by decide) ?_
    exact W.iret (v := (-1)) hx hb hr (fun t ht hW => ⟨_, rfl, (by rw [fz_Atr, ea]; rfl), ht⟩) (fun _ z => absurd z List.not_mem_nil) dX0_trace_17
  | true =>
    obtain ⟨i, hi, rfl⟩ := fz_el_of (by omega) ea
    by_cases hz : fz_si q z = 0
    · refine lv_aload_n hx hb dX0_trace_0 rfl (lv_at hl 0 rfl) ?_
      refine lv_iload_n hx hb dX0_trace_1 rfl (lv_at hl 1 rfl) ?_
      refine fz_callX (As := [.int (nI i)]) (rest := []) ⟨hx, hb, hml, hown, hts⟩ (mX0_isElement l (nI i)) (cwV 1 hts (lw_V q68 q70 qs3 q18 q71) rfl rfl rfl cd_X0_isElement ⟨Nat.le_of_ble_eq_true rfl, Nat.le_of_ble_eq_true rfl⟩) hP hK rfl hl.1 rfl (Nat.le_of_ble_eq_true rfl) dX0_trace_2 ⟨Nat.zero_le _, Nat.zero_le _⟩ (fun r_ hr_ => ?_)
      have hr_ : r_ = (nI 1) := by rw [hr_, ea]; rfl
      subst hr_
      refine lv_if_eq (tgt := 16) hx hb dX0_trace_5 (by decide) (fun c_ => False.elim ((fun z => absurd z (by decide)) c_)) (fun _ => ?_)
      refine lv_aload_n hx hb dX0_trace_8 rfl (lv_at hl 0 rfl) ?_
      refine lv_iload_n hx hb dX0_trace_9 rfl (lv_at hl 2 rfl) ?_
      refine fz_callX (As := [.int z]) (rest := []) ⟨hx, hb, hml, hown, hts⟩ (mX0_isField l hm z) (cwV 1 hts (lw_V q116 q118 qs7 q18 q119) rfl rfl rfl cd_X0_isField ⟨Nat.le_of_ble_eq_true rfl, Nat.le_of_ble_eq_true rfl⟩) hP hK rfl hl.1 rfl (Nat.le_of_ble_eq_true rfl) dX0_trace_10 ⟨Nat.zero_le _, Nat.zero_le _⟩ (fun r_ hr_ => ?_)
      have hr_ : r_ = (nI 0) := by rw [hr_, fz_beq_t hz]; rfl
      subst hr_
      refine lv_if_ne (tgt := 18) hx hb dX0_trace_13 (by decide) (fun c_ => False.elim ((fun z => z rfl) c_)) (fun _ => ?_)
      refine lv_iconst (v := -1) hx hb dX0_trace_16 (by decide) ?_
      exact W.iret (v := (-1)) hx hb hr (fun t ht hW => ⟨_, rfl, (by rw [fz_Atr, ea, fz_beq_t hz]; rfl), ht⟩) (fun _ z => absurd z List.not_mem_nil) dX0_trace_17
    · obtain ⟨w, rfl, hw, hw81, hpw, hw6, hwst⟩ := fz_si_of hm hz
      refine lv_aload_n hx hb dX0_trace_0 rfl (lv_at hl 0 rfl) ?_
      refine lv_iload_n hx hb dX0_trace_1 rfl (lv_at hl 1 rfl) ?_
      refine fz_callX (As := [.int (nI i)]) (rest := []) ⟨hx, hb, hml, hown, hts⟩ (mX0_isElement l (nI i)) (cwV 1 hts (lw_V q68 q70 qs3 q18 q71) rfl rfl rfl cd_X0_isElement ⟨Nat.le_of_ble_eq_true rfl, Nat.le_of_ble_eq_true rfl⟩) hP hK rfl hl.1 rfl (Nat.le_of_ble_eq_true rfl) dX0_trace_2 ⟨Nat.zero_le _, Nat.zero_le _⟩ (fun r_ hr_ => ?_)
      have hr_ : r_ = (nI 1) := by rw [hr_, ea]; rfl
      subst hr_
      refine lv_if_eq (tgt := 16) hx hb dX0_trace_5 (by decide) (fun c_ => False.elim ((fun z => absurd z (by decide)) c_)) (fun _ => ?_)
      refine lv_aload_n hx hb dX0_trace_8 rfl (lv_at hl 0 rfl) ?_
      refine lv_iload_n hx hb dX0_trace_9 rfl (lv_at hl 2 rfl) ?_
      refine fz_callX (As := [.int (nI w)]) (rest := []) ⟨hx, hb, hml, hown, hts⟩ (mX0_isField l hm (nI w)) (cwV 1 hts (lw_V q116 q118 qs7 q18 q119) rfl rfl rfl cd_X0_isField ⟨Nat.le_of_ble_eq_true rfl, Nat.le_of_ble_eq_true rfl⟩) hP hK rfl hl.1 rfl (Nat.le_of_ble_eq_true rfl) dX0_trace_10 ⟨Nat.zero_le _, Nat.zero_le _⟩ (fun r_ hr_ => ?_)
      have hr_ : r_ = (nI 1) := by rw [hr_, fz_beq_f hz]; rfl
      subst hr_
      refine lv_if_ne (tgt := 18) hx hb dX0_trace_13 (by decide) (fun _ => ?_) (fun c_ => False.elim ((fun z => absurd z (by decide)) c_))
      refine lv_iconst (v := nI 0) hx hb dX0_trace_18 (by decide) ?_
      refine lv_istore_n (lv' := [(3, .int (nI 0)), (0, .ref h), (1, .int (nI i)), (2, .int (nI w))]) hx hb dX0_trace_19 rfl hl (by decide) rfl (fun ls hl => ?_)
      refine lv_iload_n hx hb dX0_trace_20 rfl (lv_at hl 2 rfl) ?_
      refine lv_istore (lv' := [(4, .int (nI i)), (3, .int (nI 0)), (0, .ref h), (1, .int (nI i)), (2, .int (nI w))]) hx hb dX0_trace_21 hl (by decide) rfl (fun ls hl => ?_)
      refine lv_iload_n hx hb dX0_trace_23 rfl (lv_at hl 4 rfl) ?_
      refine lv_istore (lv' := [(5, .int (nI w)), (4, .int (nI i)), (3, .int (nI 0)), (0, .ref h), (1, .int (nI i)), (2, .int (nI w))]) hx hb dX0_trace_24 hl (by decide) rfl (fun ls hl => ?_)
      have hl : lv_has ls 6 [(5, .int (nI (w ^ (0 + 1)))), (3, .int (nI (fz_ts q p k i w 0))), (4, .int (nI (fz_tt q i w 0))), (2, .int (nI w)), (0, .ref h)] := by rw [Nat.zero_add, Nat.pow_one]; exact lv_sub hl [0, 2, 1, 5, 3] rfl
      refine fz_loop (fz_si q (nI w)) (fun j ls => lv_has ls 6 [(5, .int (nI (w ^ (j + 1)))), (3, .int (nI (fz_ts q p k i w j))), (4, .int (nI (fz_tt q i w j))), (2, .int (nI w)), (0, .ref h)]) (fun ls hl => ?_) (fun j hj ih ls hl => ?_) 0 (Nat.zero_le _) ls hl
      · have hw2 : w ^ (fz_si q (nI w) + 1) = q * w := by rw [Nat.pow_succ, hpw]
        have hw3 : q * w ≤ 81 * 81 := Nat.mul_le_mul hq81 hw81
        have hw4 : q * 2 ≤ q * w := Nat.mul_le_mul_left q hw
        have hbig : q < w ^ (fz_si q (nI w) + 1) := by omega
        refine lv_iload hx hb dX0_trace_26 (lv_at hl 0 rfl) ?_
        refine lv_aload_n hx hb dX0_trace_28 rfl (lv_at hl 4 rfl) ?_
        refine va_get (D := D) (ci := 0) (v := .int (nI q)) (C := RX0) (T := TX0) (N := 6) hx hb hts in_X0 hown hK hP 0 rfl rfl 0 (by decide) (hts _ q40) (fun _ h9 => h9) rfl dX0_trace_29 ?_
        refine lv_icmp_gt (tgt := 61) hx hb dX0_trace_32 (by decide) (fun _ => ?_) (fun c_ => False.elim ((fun z => z (nI_lt hbig (by omega))) c_))
        refine lv_iload_n hx hb dX0_trace_61 rfl (lv_at hl 1 rfl) ?_
        exact W.iret (v := (nI (fz_ts q p k i w ((fz_si q (nI w)))))) hx hb hr (fun t ht hW => ⟨_, rfl, (by rw [fz_Atr, ea, fz_beq_f hz, nI_clamp (by omega), nI_clamp (by omega)]; rfl), ht⟩) (fun _ z => absurd z List.not_mem_nil) dX0_trace_62
      · have hle : w ^ (j + 1) ≤ q := by rw [← hpw]; exact Nat.pow_le_pow_right (by omega) hj
        have t1 := fz_tt_lt hm hi w j
        have t2 := fz_ts_lt hm i w j
        refine lv_iload hx hb dX0_trace_26 (lv_at hl 0 rfl) ?_
        refine lv_aload_n hx hb dX0_trace_28 rfl (lv_at hl 4 rfl) ?_
        refine va_get (D := D) (ci := 0) (v := .int (nI q)) (C := RX0) (T := TX0) (N := 6) hx hb hts in_X0 hown hK hP 0 rfl rfl 0 (by decide) (hts _ q40) (fun _ h9 => h9) rfl dX0_trace_29 ?_
        refine lv_icmp_gt (tgt := 61) hx hb dX0_trace_32 (by decide) (fun c_ => False.elim ((nI_nlt hle (by omega)) c_)) (fun _ => ?_)
        refine lv_aload_n hx hb dX0_trace_35 rfl (lv_at hl 4 rfl) ?_
        refine lv_iload_n hx hb dX0_trace_36 rfl (lv_at hl 1 rfl) ?_
        refine lv_iload hx hb dX0_trace_37 (lv_at hl 2 rfl) ?_
        refine fz_callX (As := [.int (nI (fz_ts q p k i w j)), .int (nI (fz_tt q i w j))]) (rest := []) ⟨hx, hb, hml, hown, hts⟩ (mX0_sumOf l hm (a := fz_ts q p k i w j) (b := fz_tt q i w j) (by omega) (by omega)) (cwV 2 hts (lw_V q72 q74 qs4 q18 q75) rfl rfl rfl cd_X0_sumOf ⟨Nat.le_of_ble_eq_true rfl, Nat.le_of_ble_eq_true rfl⟩) hP hK rfl hl.1 rfl (Nat.le_of_ble_eq_true rfl) dX0_trace_39 ⟨Nat.zero_le _, Nat.zero_le _⟩ (fun r_ hr_ => ?_)
        have hr_ : r_ = (nI (fz_ts q p k i w (j + 1))) := hr_
        subst hr_
        refine lv_istore_n (lv' := [(3, .int (nI (fz_ts q p k i w (j + 1)))), (5, .int (nI (w ^ (j + 1)))), (4, .int (nI (fz_tt q i w j))), (2, .int (nI w)), (0, .ref h)]) hx hb dX0_trace_42 rfl hl (by decide) rfl (fun ls hl => ?_)
        refine lv_aload_n hx hb dX0_trace_43 rfl (lv_at hl 4 rfl) ?_
        refine lv_iload hx hb dX0_trace_44 (lv_at hl 2 rfl) ?_
        refine lv_iload_n hx hb dX0_trace_46 rfl (lv_at hl 3 rfl) ?_
        refine fz_callX (As := [.int (nI (fz_tt q i w j)), .int (nI w)]) (rest := []) ⟨hx, hb, hml, hown, hts⟩ (mX0_powerOf l hm hT (a := fz_tt q i w j) (n := w) (by omega) (by omega)) (cwV 2 hts (lw_V q93 q95 qs6 q18 q96) rfl rfl rfl cd_X0_powerOf ⟨Nat.le_of_ble_eq_true rfl, Nat.le_of_ble_eq_true rfl⟩) hP hK rfl hl.1 rfl (Nat.le_of_ble_eq_true rfl) dX0_trace_47 ⟨Nat.zero_le _, Nat.zero_le _⟩ (fun r_ hr_ => ?_)
        have hr_ : r_ = (nI (fz_tt q i w (j + 1))) := hr_
        subst hr_
        refine lv_istore (lv' := [(4, .int (nI (fz_tt q i w (j + 1)))), (3, .int (nI (fz_ts q p k i w (j + 1)))), (5, .int (nI (w ^ (j + 1)))), (2, .int (nI w)), (0, .ref h)]) hx hb dX0_trace_50 hl (by decide) rfl (fun ls hl => ?_)
        refine lv_iload hx hb dX0_trace_52 (lv_at hl 2 rfl) ?_
        refine lv_iload_n hx hb dX0_trace_54 rfl (lv_at hl 3 rfl) ?_
        refine nv_imul hx hb dX0_trace_55 ?_
        refine lv_istore (lv' := [(5, .int (nI ((w ^ (j + 1)) * w))), (4, .int (nI (fz_tt q i w (j + 1)))), (3, .int (nI (fz_ts q p k i w (j + 1)))), (2, .int (nI w)), (0, .ref h)]) hx hb dX0_trace_56 hl (by decide) rfl (fun ls hl => ?_)
        refine lv_goto (tgt := 26) hx hb dX0_trace_58 (by decide) ?_
        exact ih ls (lv_sub hl [0, 2, 1, 3, 4] rfl)
set_option maxHeartbeats 4000000 in
set_option maxRecDepth 100000 in
theorem mX0_home (l : Launch) {D : va_G} {h h1 h2 h3 : Nat} {d1 d2 d3 : ClassId} {q p k : Nat} {f1 f2 f3 : Nat → Int32} (hm : fz_Ok q p k) (hT : fz_XOk q f1 f2) (a : Int32) : Met l yX0_home (ws_ yX0_home cX0_home 3 (some .int)) ({ frames := 1, cells := 0, slots := 0, locals := 22 }) (va_Pc [.ref h, .int a] (fz_BX D h h1 h2 h3 d1 d2 d3 q p k f1 f2 f3)) (vp_Si (fun r => r = fz_Ahm q a)) 0 0 (fun _ => False) := by
  obtain ⟨hp2, hp3, hk4, hk6, hq64, hq81, hpk⟩ := fz_facts hm
  refine Met.ofW (cc := cX0_home) (maxL := 3) (ret := (some .int)) (by decide) rfl ?_
  intro P e s m args below meth c s₁ B hml hv
  obtain ⟨rfl, hP, hK⟩ := hv
  have hx := B.exec
  have hb := B.bytes
  have hr := B.returns
  have hts := atoms_spec (ws := ws_ yX0_home cX0_home 3 (some .int)) B.pre
  have hts : ∀ w ∈ lw_all, w.before _ s = true := fun w h => hts w (List.mem_cons_of_mem _ h)
  have hown : s.vm.findClass RX0 = some m.cls := findClass_of_methodNamed B.named
  have hlocks := B.notSynchronized
  have hl := lv_entry ([.ref h, .int a]) (n := 3) (Nat.le_of_ble_eq_true rfl)
  rw [lg_entry_eq]
  generalize (lg_sl ([.ref h, .int a]) ++ List.replicate (3 - (lg_sl ([.ref h, .int a])).length) Slot.unset).toArray = ls at hl ⊢
  have hl : lv_has ls 3 [(0, .ref h), (1, .int a)] := hl
  cases ea : fz_el q a with
  | false =>
    refine lv_aload_n hx hb dX0_home_0 rfl (lv_at hl 0 rfl) ?_
    refine lv_iload_n hx hb dX0_home_1 rfl (lv_at hl 1 rfl) ?_
    refine fz_callX (As := [.int a]) (rest := []) ⟨hx, hb, hml, hown, hts⟩ (mX0_isElement l a) (cwV 1 hts (lw_V q68 q70 qs3 q18 q71) rfl rfl rfl cd_X0_isElement ⟨Nat.le_of_ble_eq_true rfl, Nat.le_of_ble_eq_true rfl⟩) hP hK rfl hl.1 rfl (Nat.le_of_ble_eq_true rfl) dX0_home_2 ⟨Nat.zero_le _, Nat.zero_le _⟩ (fun r_ hr_ => ?_)
    have hr_ : r_ = (nI 0) := by rw [hr_, ea]; rfl
    subst hr_
    refine lv_if_ne (tgt := 10) hx hb dX0_home_5 (by decide) (fun c_ => False.elim ((fun z => z rfl) c_)) (fun _ => ?_)
    refine lv_iconst (v := -1) hx hb dX0_home_8 (by decide) ?_
    exact W.iret (v := (-1)) hx hb hr (fun t ht hW => ⟨_, rfl, (by rw [fz_Ahm, ea]; rfl), ht⟩) (fun _ z => absurd z List.not_mem_nil) dX0_home_9
  | true =>
    obtain ⟨i, hi, rfl⟩ := fz_el_of (by omega) ea
    refine lv_aload_n hx hb dX0_home_0 rfl (lv_at hl 0 rfl) ?_
    refine lv_iload_n hx hb dX0_home_1 rfl (lv_at hl 1 rfl) ?_
    refine fz_callX (As := [.int (nI i)]) (rest := []) ⟨hx, hb, hml, hown, hts⟩ (mX0_isElement l (nI i)) (cwV 1 hts (lw_V q68 q70 qs3 q18 q71) rfl rfl rfl cd_X0_isElement ⟨Nat.le_of_ble_eq_true rfl, Nat.le_of_ble_eq_true rfl⟩) hP hK rfl hl.1 rfl (Nat.le_of_ble_eq_true rfl) dX0_home_2 ⟨Nat.zero_le _, Nat.zero_le _⟩ (fun r_ hr_ => ?_)
    have hr_ : r_ = (nI 1) := by rw [hr_, ea]; rfl
    subst hr_
    refine lv_if_ne (tgt := 10) hx hb dX0_home_5 (by decide) (fun _ => ?_) (fun c_ => False.elim ((fun z => absurd z (by decide)) c_))
    refine lv_aload_n hx hb dX0_home_10 rfl (lv_at hl 0 rfl) ?_
    refine va_get (D := D) (ci := 0) (v := .int (nI p)) (C := RX0) (T := TX0) (N := 6) hx hb hts in_X0 hown hK hP 0 rfl rfl 1 (by decide) (hts _ q41) (fun _ h9 => h9) rfl dX0_home_11 ?_
    refine lv_istore_n (lv' := [(2, .int (nI p)), (0, .ref h), (1, .int (nI i))]) hx hb dX0_home_14 rfl hl (by decide) rfl (fun ls hl => ?_)
    have hl : lv_has ls 3 [(2, .int (nI (p ^ 1))), (1, .int (nI i)), (0, .ref h)] := by rw [Nat.pow_one]; exact lv_sub hl [0, 2, 1] rfl
    have hI0 : fz_fnd (fz_hp q i) (q - 2) 2 = fz_fnd (fz_hp q i) (q - p ^ 1) (p ^ 1) := by
      refine fz_fnd_skip (by rw [Nat.pow_one]; exact hp2) (by rw [Nat.pow_one]; omega) (fun x z1 z2 => ?_)
      rw [Nat.pow_one] at z2
      rcases hm with ⟨rfl, rfl, rfl⟩ | ⟨rfl, rfl, rfl⟩
      · omega
      · rw [show x = 2 by omega]; rfl
    refine fz_loop k (fun j ls => 1 ≤ j ∧ fz_fnd (fz_hp q i) (q - 2) 2 = fz_fnd (fz_hp q i) (q - p ^ j) (p ^ j) ∧ lv_has ls 3 [(2, .int (nI (p ^ j))), (1, .int (nI i)), (0, .ref h)]) (fun ls hI => ?_) (fun j hj ih ls hI => ?_) 1 (by omega) ls ⟨Nat.le_refl 1, hI0, hl⟩
    · obtain ⟨-, hI, hl⟩ := hI
      refine lv_iload_n hx hb dX0_home_15 rfl (lv_at hl 0 rfl) ?_
      refine lv_aload_n hx hb dX0_home_16 rfl (lv_at hl 2 rfl) ?_
      refine va_get (D := D) (ci := 0) (v := .int (nI q)) (C := RX0) (T := TX0) (N := 6) hx hb hts in_X0 hown hK hP 0 rfl rfl 0 (by decide) (hts _ q40) (fun _ h9 => h9) rfl dX0_home_17 ?_
      refine lv_icmp_ge (tgt := 53) hx hb dX0_home_20 (by decide) (fun _ => ?_) (fun c_ => False.elim ((fun z => z (by rw [hpk]; exact Int32.le_refl _)) c_))
      refine lv_aload_n hx hb dX0_home_53 rfl (lv_at hl 2 rfl) ?_
      refine va_get (D := D) (ci := 0) (v := .int (nI q)) (C := RX0) (T := TX0) (N := 6) hx hb hts in_X0 hown hK hP 0 rfl rfl 0 (by decide) (hts _ q40) (fun _ h9 => h9) rfl dX0_home_54 ?_
      exact W.iret (v := (nI q)) hx hb hr (fun t ht hW => ⟨_, rfl, (by rw [fz_Ahm, ea, nI_clamp (by omega), fz_home, hI, hpk, Nat.sub_self]; rfl), ht⟩) (fun _ z => absurd z List.not_mem_nil) dX0_home_57
    · obtain ⟨hj1, hI, hl⟩ := hI
      have hjk : p ^ (j + 1) ≤ p ^ k := Nat.pow_le_pow_right (by omega) hj
      have hjs : p ^ (j + 1) = p ^ j * p := Nat.pow_succ ..
      have hjp : 0 < p ^ j := Nat.pow_pos (by omega)
      have hjm : p ^ j * 2 ≤ p ^ j * p := Nat.mul_le_mul_left _ hp2
      have hjq : p ^ j < q := by omega
      have hsi := fz_si_n hm (show p ^ j < 2 ^ 31 by omega)
      have hnext : fz_hp q i (p ^ j) = false → fz_fnd (fz_hp q i) (q - 2) 2 = fz_fnd (fz_hp q i) (q - p ^ (j + 1)) (p ^ (j + 1)) := by
        intro hf
        rw [hI]
        refine fz_fnd_skip (by omega) (by omega) (fun x z1 z2 => ?_)
        by_cases e : x = p ^ j
        · rw [e]; exact hf
        · rw [fz_hp, fz_st_gap hm hj (by omega) z2]; rfl
      by_cases hs0 : fz_st q (p ^ j) = 0
      · refine lv_iload_n hx hb dX0_home_15 rfl (lv_at hl 0 rfl) ?_
        refine lv_aload_n hx hb dX0_home_16 rfl (lv_at hl 2 rfl) ?_
        refine va_get (D := D) (ci := 0) (v := .int (nI q)) (C := RX0) (T := TX0) (N := 6) hx hb hts in_X0 hown hK hP 0 rfl rfl 0 (by decide) (hts _ q40) (fun _ h9 => h9) rfl dX0_home_17 ?_
        refine lv_icmp_ge (tgt := 53) hx hb dX0_home_20 (by decide) (fun c_ => False.elim ((nI_ge hjq (by omega)) c_)) (fun _ => ?_)
        refine lv_aload_n hx hb dX0_home_23 rfl (lv_at hl 2 rfl) ?_
        refine lv_iload_n hx hb dX0_home_24 rfl (lv_at hl 0 rfl) ?_
        refine fz_callX (As := [.int (nI (p ^ j))]) (rest := []) ⟨hx, hb, hml, hown, hts⟩ (mX0_isField l hm (nI (p ^ j))) (cwV 1 hts (lw_V q116 q118 qs7 q18 q119) rfl rfl rfl cd_X0_isField ⟨Nat.le_of_ble_eq_true rfl, Nat.le_of_ble_eq_true rfl⟩) hP hK rfl hl.1 rfl (Nat.le_of_ble_eq_true rfl) dX0_home_25 ⟨Nat.zero_le _, Nat.zero_le _⟩ (fun r_ hr_ => ?_)
        have hr_ : r_ = (nI 0) := by rw [hr_, hsi, fz_beq_t hs0]; rfl
        subst hr_
        refine lv_if_eq (tgt := 43) hx hb dX0_home_28 (by decide) (fun _ => ?_) (fun c_ => False.elim ((fun z => z rfl) c_))
        refine lv_iload_n hx hb dX0_home_43 rfl (lv_at hl 0 rfl) ?_
        refine lv_aload_n hx hb dX0_home_44 rfl (lv_at hl 2 rfl) ?_
        refine va_get (D := D) (ci := 0) (v := .int (nI p)) (C := RX0) (T := TX0) (N := 6) hx hb hts in_X0 hown hK hP 0 rfl rfl 1 (by decide) (hts _ q41) (fun _ h9 => h9) rfl dX0_home_45 ?_
        refine nv_imul hx hb dX0_home_48 ?_
        refine lv_istore_n (lv' := [(2, .int (nI ((p ^ j) * p))), (1, .int (nI i)), (0, .ref h)]) hx hb dX0_home_49 rfl hl (by decide) rfl (fun ls hl => ?_)
        refine lv_goto (tgt := 15) hx hb dX0_home_50 (by decide) ?_
        exact ih ls ⟨by omega, hnext (by rw [fz_hp, hs0]; rfl), lv_sub hl [0, 1, 2] rfl⟩
      · refine lv_iload_n hx hb dX0_home_15 rfl (lv_at hl 0 rfl) ?_
        refine lv_aload_n hx hb dX0_home_16 rfl (lv_at hl 2 rfl) ?_
        refine va_get (D := D) (ci := 0) (v := .int (nI q)) (C := RX0) (T := TX0) (N := 6) hx hb hts in_X0 hown hK hP 0 rfl rfl 0 (by decide) (hts _ q40) (fun _ h9 => h9) rfl dX0_home_17 ?_
        refine lv_icmp_ge (tgt := 53) hx hb dX0_home_20 (by decide) (fun c_ => False.elim ((nI_ge hjq (by omega)) c_)) (fun _ => ?_)
        refine lv_aload_n hx hb dX0_home_23 rfl (lv_at hl 2 rfl) ?_
        refine lv_iload_n hx hb dX0_home_24 rfl (lv_at hl 0 rfl) ?_
        refine fz_callX (As := [.int (nI (p ^ j))]) (rest := []) ⟨hx, hb, hml, hown, hts⟩ (mX0_isField l hm (nI (p ^ j))) (cwV 1 hts (lw_V q116 q118 qs7 q18 q119) rfl rfl rfl cd_X0_isField ⟨Nat.le_of_ble_eq_true rfl, Nat.le_of_ble_eq_true rfl⟩) hP hK rfl hl.1 rfl (Nat.le_of_ble_eq_true rfl) dX0_home_25 ⟨Nat.zero_le _, Nat.zero_le _⟩ (fun r_ hr_ => ?_)
        have hr_ : r_ = (nI 1) := by rw [hr_, hsi, fz_beq_f hs0]; rfl
        subst hr_
        refine lv_if_eq (tgt := 43) hx hb dX0_home_28 (by decide) (fun c_ => False.elim ((fun z => absurd z (by decide)) c_)) (fun _ => ?_)
        refine lv_aload_n hx hb dX0_home_31 rfl (lv_at hl 2 rfl) ?_
        refine lv_iload_n hx hb dX0_home_32 rfl (lv_at hl 1 rfl) ?_
        refine lv_iload_n hx hb dX0_home_33 rfl (lv_at hl 0 rfl) ?_
        refine fz_callX (As := [.int (nI i), .int (nI (p ^ j))]) (rest := []) ⟨hx, hb, hml, hown, hts⟩ (mX0_powerOf l hm hT hi (by omega)) (cwV 2 hts (lw_V q93 q95 qs6 q18 q96) rfl rfl rfl cd_X0_powerOf ⟨Nat.le_of_ble_eq_true rfl, Nat.le_of_ble_eq_true rfl⟩) hP hK rfl hl.1 rfl (Nat.le_of_ble_eq_true rfl) dX0_home_34 ⟨Nat.zero_le _, Nat.zero_le _⟩ (fun r_ hr_ => ?_)
        have hr_ : r_ = (nI (fz_pow q i (p ^ j))) := hr_
        subst hr_
        refine lv_iload_n hx hb dX0_home_37 rfl (lv_at hl 1 rfl) ?_
        refine lv_icmp_ne (tgt := 43) hx hb dX0_home_38 (by decide) (fun c_38 => ?_) (fun c_38 => ?_)
        · have hne : fz_pow q i (p ^ j) ≠ i := fun z => c_38 (by rw [z])
          refine lv_iload_n hx hb dX0_home_43 rfl (lv_at hl 0 rfl) ?_
          refine lv_aload_n hx hb dX0_home_44 rfl (lv_at hl 2 rfl) ?_
          refine va_get (D := D) (ci := 0) (v := .int (nI p)) (C := RX0) (T := TX0) (N := 6) hx hb hts in_X0 hown hK hP 0 rfl rfl 1 (by decide) (hts _ q41) (fun _ h9 => h9) rfl dX0_home_45 ?_
          refine nv_imul hx hb dX0_home_48 ?_
          refine lv_istore_n (lv' := [(2, .int (nI ((p ^ j) * p))), (1, .int (nI i)), (0, .ref h)]) hx hb dX0_home_49 rfl hl (by decide) rfl (fun ls hl => ?_)
          refine lv_goto (tgt := 15) hx hb dX0_home_50 (by decide) ?_
          exact ih ls ⟨by omega, hnext (by rw [fz_hp, fz_beq_f hne, Bool.and_false]), lv_sub hl [0, 1, 2] rfl⟩
        · have heq : fz_pow q i (p ^ j) = i := (nI_eq (by have := fz_pow_lt hm i (p ^ j); omega) (by omega)).mp c_38
          refine lv_iload_n hx hb dX0_home_41 rfl (lv_at hl 0 rfl) ?_
          exact W.iret (v := (nI (p ^ j))) hx hb hr (fun t ht hW => ⟨_, rfl, (by rw [fz_Ahm, ea, nI_clamp (by omega), fz_home, hI, fz_fnd_hit hjq (by rw [fz_hp, fz_beq_t heq, Bool.and_true]; exact Nat.ble_eq_true_of_le (Nat.pos_of_ne_zero hs0))]; rfl), ht⟩) (fun _ z => absurd z List.not_mem_nil) dX0_home_42
set_option maxHeartbeats 4000000 in
set_option maxRecDepth 100000 in
theorem mX0_logarithm (l : Launch) {D : va_G} {h h1 h2 h3 : Nat} {d1 d2 d3 : ClassId} {q p k : Nat} {f1 f2 f3 : Nat → Int32} (hm : fz_Ok q p k) (hT : fz_XOk q f1 f2) (g a : Int32) : Met l yX0_logarithm (ws_ yX0_logarithm cX0_logarithm 6 (some .int)) ({ frames := 1, cells := 0, slots := 0, locals := 29 }) (va_Pc [.ref h, .int g, .int a] (fz_BX D h h1 h2 h3 d1 d2 d3 q p k f1 f2 f3)) (vp_Si (fun r => r = fz_Alog q g a)) 0 0 (fun _ => False) := by
  obtain ⟨hp2, hp3, hk4, hk6, hq64, hq81, hpk⟩ := fz_facts hm
  refine Met.ofW (cc := cX0_logarithm) (maxL := 6) (ret := (some .int)) (by decide) rfl ?_
  intro P e s m args below meth c s₁ B hml hv
  obtain ⟨rfl, hP, hK⟩ := hv
  have hx := B.exec
  have hb := B.bytes
  have hr := B.returns
  have hts := atoms_spec (ws := ws_ yX0_logarithm cX0_logarithm 6 (some .int)) B.pre
  have hts : ∀ w ∈ lw_all, w.before _ s = true := fun w h => hts w (List.mem_cons_of_mem _ h)
  have hown : s.vm.findClass RX0 = some m.cls := findClass_of_methodNamed B.named
  have hlocks := B.notSynchronized
  have hl := lv_entry ([.ref h, .int g, .int a]) (n := 6) (Nat.le_of_ble_eq_true rfl)
  rw [lg_entry_eq]
  generalize (lg_sl ([.ref h, .int g, .int a]) ++ List.replicate (6 - (lg_sl ([.ref h, .int g, .int a])).length) Slot.unset).toArray = ls at hl ⊢
  have hl : lv_has ls 6 [(0, .ref h), (1, .int g), (2, .int a)] := hl
  cases eg : fz_el q g with
  | false =>
    refine lv_aload_n hx hb dX0_logarithm_0 rfl (lv_at hl 0 rfl) ?_
    refine lv_iload_n hx hb dX0_logarithm_1 rfl (lv_at hl 1 rfl) ?_
    refine fz_callX (As := [.int g]) (rest := []) ⟨hx, hb, hml, hown, hts⟩ (mX0_isElement l g) (cwV 1 hts (lw_V q68 q70 qs3 q18 q71) rfl rfl rfl cd_X0_isElement ⟨Nat.le_of_ble_eq_true rfl, Nat.le_of_ble_eq_true rfl⟩) hP hK rfl hl.1 rfl (Nat.le_of_ble_eq_true rfl) dX0_logarithm_2 ⟨Nat.zero_le _, Nat.zero_le _⟩ (fun r_ hr_ => ?_)
    have hr_ : r_ = (nI 0) := by rw [hr_, eg]; rfl
    subst hr_
    refine lv_if_eq (tgt := 24) hx hb dX0_logarithm_5 (by decide) (fun _ => ?_) (fun c_ => False.elim ((fun z => z rfl) c_))
    refine lv_iconst (v := -1) hx hb dX0_logarithm_24 (by decide) ?_
    exact W.iret (v := (-1)) hx hb hr (fun t ht hW => ⟨_, rfl, (by rw [fz_Alog, eg]; rfl), ht⟩) (fun _ z => absurd z List.not_mem_nil) dX0_logarithm_25
  | true =>
    obtain ⟨i, hi, rfl⟩ := fz_el_of (by omega) eg
    cases ea : fz_el q a with
    | false =>
      refine lv_aload_n hx hb dX0_logarithm_0 rfl (lv_at hl 0 rfl) ?_
      refine lv_iload_n hx hb dX0_logarithm_1 rfl (lv_at hl 1 rfl) ?_
      refine fz_callX (As := [.int (nI i)]) (rest := []) ⟨hx, hb, hml, hown, hts⟩ (mX0_isElement l (nI i)) (cwV 1 hts (lw_V q68 q70 qs3 q18 q71) rfl rfl rfl cd_X0_isElement ⟨Nat.le_of_ble_eq_true rfl, Nat.le_of_ble_eq_true rfl⟩) hP hK rfl hl.1 rfl (Nat.le_of_ble_eq_true rfl) dX0_logarithm_2 ⟨Nat.zero_le _, Nat.zero_le _⟩ (fun r_ hr_ => ?_)
      have hr_ : r_ = (nI 1) := by rw [hr_, eg]; rfl
      subst hr_
      refine lv_if_eq (tgt := 24) hx hb dX0_logarithm_5 (by decide) (fun c_ => False.elim ((fun z => absurd z (by decide)) c_)) (fun _ => ?_)
      refine lv_aload_n hx hb dX0_logarithm_8 rfl (lv_at hl 0 rfl) ?_
      refine lv_iload_n hx hb dX0_logarithm_9 rfl (lv_at hl 2 rfl) ?_
      refine fz_callX (As := [.int a]) (rest := []) ⟨hx, hb, hml, hown, hts⟩ (mX0_isElement l a) (cwV 1 hts (lw_V q68 q70 qs3 q18 q71) rfl rfl rfl cd_X0_isElement ⟨Nat.le_of_ble_eq_true rfl, Nat.le_of_ble_eq_true rfl⟩) hP hK rfl hl.1 rfl (Nat.le_of_ble_eq_true rfl) dX0_logarithm_10 ⟨Nat.zero_le _, Nat.zero_le _⟩ (fun r_ hr_ => ?_)
      have hr_ : r_ = (nI 0) := by rw [hr_, ea]; rfl
      subst hr_
      refine lv_if_eq (tgt := 24) hx hb dX0_logarithm_13 (by decide) (fun _ => ?_) (fun c_ => False.elim ((fun z => z rfl) c_))
      refine lv_iconst (v := -1) hx hb dX0_logarithm_24 (by decide) ?_
      exact W.iret (v := (-1)) hx hb hr (fun t ht hW => ⟨_, rfl, (by rw [fz_Alog, eg, ea]; rfl), ht⟩) (fun _ z => absurd z List.not_mem_nil) dX0_logarithm_25
    | true =>
      obtain ⟨j, hj, rfl⟩ := fz_el_of (by omega) ea
      refine lv_aload_n hx hb dX0_logarithm_0 rfl (lv_at hl 0 rfl) ?_
      refine lv_iload_n hx hb dX0_logarithm_1 rfl (lv_at hl 1 rfl) ?_
      refine fz_callX (As := [.int (nI i)]) (rest := []) ⟨hx, hb, hml, hown, hts⟩ (mX0_isElement l (nI i)) (cwV 1 hts (lw_V q68 q70 qs3 q18 q71) rfl rfl rfl cd_X0_isElement ⟨Nat.le_of_ble_eq_true rfl, Nat.le_of_ble_eq_true rfl⟩) hP hK rfl hl.1 rfl (Nat.le_of_ble_eq_true rfl) dX0_logarithm_2 ⟨Nat.zero_le _, Nat.zero_le _⟩ (fun r_ hr_ => ?_)
      have hr_ : r_ = (nI 1) := by rw [hr_, eg]; rfl
      subst hr_
      refine lv_if_eq (tgt := 24) hx hb dX0_logarithm_5 (by decide) (fun c_ => False.elim ((fun z => absurd z (by decide)) c_)) (fun _ => ?_)
      refine lv_aload_n hx hb dX0_logarithm_8 rfl (lv_at hl 0 rfl) ?_
      refine lv_iload_n hx hb dX0_logarithm_9 rfl (lv_at hl 2 rfl) ?_
      refine fz_callX (As := [.int (nI j)]) (rest := []) ⟨hx, hb, hml, hown, hts⟩ (mX0_isElement l (nI j)) (cwV 1 hts (lw_V q68 q70 qs3 q18 q71) rfl rfl rfl cd_X0_isElement ⟨Nat.le_of_ble_eq_true rfl, Nat.le_of_ble_eq_true rfl⟩) hP hK rfl hl.1 rfl (Nat.le_of_ble_eq_true rfl) dX0_logarithm_10 ⟨Nat.zero_le _, Nat.zero_le _⟩ (fun r_ hr_ => ?_)
      have hr_ : r_ = (nI 1) := by rw [hr_, ea]; rfl
      subst hr_
      refine lv_if_eq (tgt := 24) hx hb dX0_logarithm_13 (by decide) (fun c_ => False.elim ((fun z => absurd z (by decide)) c_)) (fun _ => ?_)
      refine lv_iload_n hx hb dX0_logarithm_16 rfl (lv_at hl 1 rfl) ?_
      refine lv_if_eq (tgt := 24) hx hb dX0_logarithm_17 (by decide) (fun c_17 => ?_) (fun c_17 => ?_)
      · have h0 : i = 0 := (nI_eq (by omega) (by decide)).mp c_17
        refine lv_iconst (v := -1) hx hb dX0_logarithm_24 (by decide) ?_
        exact W.iret (v := (-1)) hx hb hr (fun t ht hW => ⟨_, rfl, (by rw [fz_Alog, eg, ea, h0]; rfl), ht⟩) (fun _ z => absurd z List.not_mem_nil) dX0_logarithm_25
      · have h0 : i ≠ 0 := fun z => c_17 (by rw [z]; rfl)
        refine lv_iload_n hx hb dX0_logarithm_20 rfl (lv_at hl 2 rfl) ?_
        refine lv_if_ne (tgt := 26) hx hb dX0_logarithm_21 (by decide) (fun c_21 => ?_) (fun c_21 => ?_)
        · have h1 : j ≠ 0 := fun z => c_21 (by rw [z]; rfl)
          have e1 := fz_lg_ok hm h0 hi
          have e2 := fz_lg_ok hm h1 hj
          have hg := fz_gcd hm (fz_lg q i)
          have hgp : 0 < (q - 1) / Nat.gcd (fz_lg q i) (q - 1) := Nat.div_pos hg.2 hg.1
          have hgl : (q - 1) / Nat.gcd (fz_lg q i) (q - 1) ≤ q - 1 := Nat.div_le_self _ _
          have him := fz_im_ok hm e1.1
          have hdl : fz_lg q j / Nat.gcd (fz_lg q i) (q - 1) ≤ fz_lg q j := Nat.div_le_self _ _
          have hmx : fz_lg q j / Nat.gcd (fz_lg q i) (q - 1) * fz_iv (fz_lg q i / Nat.gcd (fz_lg q i) (q - 1)) ((q - 1) / Nat.gcd (fz_lg q i) (q - 1)) ≤ 80 * 80 := Nat.mul_le_mul (by omega) (by omega)
          refine lv_aload_n hx hb dX0_logarithm_26 rfl (lv_at hl 0 rfl) ?_
          refine va_get (D := D) (ci := 0) (v := .ref h2) (C := RX0) (T := TX0) (N := 6) hx hb hts in_X0 hown hK hP 0 rfl rfl 4 (by decide) (hts _ q44) (fun _ h9 => h9) rfl dX0_logarithm_27 ?_
          refine lv_iload_n hx hb dX0_logarithm_30 rfl (lv_at hl 1 rfl) ?_
          refine nv_ald hx hb hK hP 2 1 rfl rfl (by omega) (by decide) (hT.2 i h0 hi) dX0_logarithm_31 ?_
          refine lv_aload_n hx hb dX0_logarithm_32 rfl (lv_at hl 0 rfl) ?_
          refine va_get (D := D) (ci := 0) (v := .int (nI q)) (C := RX0) (T := TX0) (N := 6) hx hb hts in_X0 hown hK hP 0 rfl rfl 0 (by decide) (hts _ q40) (fun _ h9 => h9) rfl dX0_logarithm_33 ?_
          refine lv_iconst (v := nI 1) hx hb dX0_logarithm_36 (by decide) ?_
          refine nv_isub hx hb dX0_logarithm_37 (by omega) ?_
          refine fz_callS (As := [.int (nI (fz_lg q i)), .int (nI (q - 1))]) (rest := []) ⟨hx, hb, hml, hown, hts⟩ (mX0_divisor l (x := fz_lg q i) (y := q - 1) (by omega) (by omega)) (va_cwS 2 hts (lw_S q101 q102 q18 q103) rfl rfl rfl (by decide +kernel) ⟨Nat.le_of_ble_eq_true rfl, Nat.le_of_ble_eq_true rfl⟩) rfl hl.1 rfl (Nat.le_of_ble_eq_true rfl) dX0_logarithm_38 ⟨Nat.zero_le _, Nat.zero_le _⟩ (fun r_ hr_ => ?_)
          have hr_ : r_ = (nI (Nat.gcd (fz_lg q i) (q - 1))) := by rw [hr_, (fz_dv_small hm (by omega)).1]
          subst hr_
          refine lv_istore_n (lv' := [(3, .int (nI (Nat.gcd (fz_lg q i) (q - 1)))), (0, .ref h), (1, .int (nI i)), (2, .int (nI j))]) hx hb dX0_logarithm_41 rfl hl (by decide) rfl (fun ls hl => ?_)
          refine lv_aload_n hx hb dX0_logarithm_42 rfl (lv_at hl 1 rfl) ?_
          refine va_get (D := D) (ci := 0) (v := .ref h2) (C := RX0) (T := TX0) (N := 6) hx hb hts in_X0 hown hK hP 0 rfl rfl 4 (by decide) (hts _ q44) (fun _ h9 => h9) rfl dX0_logarithm_43 ?_
          refine lv_iload_n hx hb dX0_logarithm_46 rfl (lv_at hl 3 rfl) ?_
          refine nv_ald hx hb hK hP 2 1 rfl rfl (by omega) (by decide) (hT.2 j h1 hj) dX0_logarithm_47 ?_
          refine lv_iload_n hx hb dX0_logarithm_48 rfl (lv_at hl 0 rfl) ?_
          refine nv_irem hx hb dX0_logarithm_49 (by omega) (by omega) (by omega) ?_
          refine lv_if_eq (tgt := 55) hx hb dX0_logarithm_50 (by decide) (fun c_50 => ?_) (fun c_50 => ?_)
          · have hmd : fz_lg q j % Nat.gcd (fz_lg q i) (q - 1) < Nat.gcd (fz_lg q i) (q - 1) := Nat.mod_lt _ hg.1
            have ev : fz_lg q j % Nat.gcd (fz_lg q i) (q - 1) = 0 := (nI_eq (by omega) (by decide)).mp c_50
            refine lv_aload_n hx hb dX0_logarithm_55 rfl (lv_at hl 1 rfl) ?_
            refine va_get (D := D) (ci := 0) (v := .int (nI q)) (C := RX0) (T := TX0) (N := 6) hx hb hts in_X0 hown hK hP 0 rfl rfl 0 (by decide) (hts _ q40) (fun _ h9 => h9) rfl dX0_logarithm_56 ?_
            refine lv_iconst (v := nI 1) hx hb dX0_logarithm_59 (by decide) ?_
            refine nv_isub hx hb dX0_logarithm_60 (by omega) ?_
            refine lv_iload_n hx hb dX0_logarithm_61 rfl (lv_at hl 0 rfl) ?_
            refine nv_idiv hx hb dX0_logarithm_62 (by omega) (by omega) (by omega) ?_
            refine lv_istore (lv' := [(4, .int (nI ((q - 1) / (Nat.gcd (fz_lg q i) (q - 1))))), (3, .int (nI (Nat.gcd (fz_lg q i) (q - 1)))), (0, .ref h), (1, .int (nI i)), (2, .int (nI j))]) hx hb dX0_logarithm_63 hl (by decide) rfl (fun ls hl => ?_)
            refine lv_aload_n hx hb dX0_logarithm_65 rfl (lv_at hl 2 rfl) ?_
            refine va_get (D := D) (ci := 0) (v := .ref h2) (C := RX0) (T := TX0) (N := 6) hx hb hts in_X0 hown hK hP 0 rfl rfl 4 (by decide) (hts _ q44) (fun _ h9 => h9) rfl dX0_logarithm_66 ?_
            refine lv_iload_n hx hb dX0_logarithm_69 rfl (lv_at hl 3 rfl) ?_
            refine nv_ald hx hb hK hP 2 1 rfl rfl (by omega) (by decide) (hT.2 i h0 hi) dX0_logarithm_70 ?_
            refine lv_iload_n hx hb dX0_logarithm_71 rfl (lv_at hl 1 rfl) ?_
            refine nv_idiv hx hb dX0_logarithm_72 (by omega) (by omega) (by omega) ?_
            refine lv_iload hx hb dX0_logarithm_73 (lv_at hl 0 rfl) ?_
            refine fz_callS (As := [.int (nI ((fz_lg q i) / (Nat.gcd (fz_lg q i) (q - 1)))), .int (nI ((q - 1) / (Nat.gcd (fz_lg q i) (q - 1))))]) (rest := []) ⟨hx, hb, hml, hown, hts⟩ (mX0_inverseModulo l (x := nI (fz_lg q i / Nat.gcd (fz_lg q i) (q - 1))) (y := nI ((q - 1) / Nat.gcd (fz_lg q i) (q - 1))) (nI_ne0 hgp (by omega))) (va_cwS 2 hts (lw_S q128 q129 q18 q130) rfl rfl rfl (by decide +kernel) ⟨Nat.le_of_ble_eq_true rfl, Nat.le_of_ble_eq_true rfl⟩) rfl hl.1 rfl (Nat.le_of_ble_eq_true rfl) dX0_logarithm_75 ⟨Nat.zero_le _, Nat.zero_le _⟩ (fun r_ hr_ => ?_)
            have hr_ : r_ = (nI (fz_iv (fz_lg q i / Nat.gcd (fz_lg q i) (q - 1)) ((q - 1) / Nat.gcd (fz_lg q i) (q - 1)))) := by rw [hr_, him.1]
            subst hr_
            refine lv_istore (lv' := [(5, .int (nI (fz_iv (fz_lg q i / Nat.gcd (fz_lg q i) (q - 1)) ((q - 1) / Nat.gcd (fz_lg q i) (q - 1))))), (4, .int (nI ((q - 1) / (Nat.gcd (fz_lg q i) (q - 1))))), (3, .int (nI (Nat.gcd (fz_lg q i) (q - 1)))), (0, .ref h), (1, .int (nI i)), (2, .int (nI j))]) hx hb dX0_logarithm_78 hl (by decide) rfl (fun ls hl => ?_)
            refine lv_aload_n hx hb dX0_logarithm_80 rfl (lv_at hl 3 rfl) ?_
            refine va_get (D := D) (ci := 0) (v := .ref h2) (C := RX0) (T := TX0) (N := 6) hx hb hts in_X0 hown hK hP 0 rfl rfl 4 (by decide) (hts _ q44) (fun _ h9 => h9) rfl dX0_logarithm_81 ?_
            refine lv_iload_n hx hb dX0_logarithm_84 rfl (lv_at hl 5 rfl) ?_
            refine nv_ald hx hb hK hP 2 1 rfl rfl (by omega) (by decide) (hT.2 j h1 hj) dX0_logarithm_85 ?_
            refine lv_iload_n hx hb dX0_logarithm_86 rfl (lv_at hl 2 rfl) ?_
            refine nv_idiv hx hb dX0_logarithm_87 (by omega) (by omega) (by omega) ?_
            refine lv_iload hx hb dX0_logarithm_88 (lv_at hl 0 rfl) ?_
            refine nv_imul hx hb dX0_logarithm_90 ?_
            refine lv_iload hx hb dX0_logarithm_91 (lv_at hl 1 rfl) ?_
            refine nv_irem hx hb dX0_logarithm_93 (by omega) (by omega) (by omega) ?_
            exact W.iret (v := (nI ((((fz_lg q j) / (Nat.gcd (fz_lg q i) (q - 1))) * (fz_iv (fz_lg q i / Nat.gcd (fz_lg q i) (q - 1)) ((q - 1) / Nat.gcd (fz_lg q i) (q - 1)))) % ((q - 1) / (Nat.gcd (fz_lg q i) (q - 1)))))) hx hb hr (fun t ht hW => ⟨_, rfl, (by rw [fz_Alog, eg, ea, fz_nz (by omega) h0, fz_nz (by omega) h1, nI_clamp (by omega), nI_clamp (by omega), fz_lx, fz_beq_t ev]; rfl), ht⟩) (fun _ z => absurd z List.not_mem_nil) dX0_logarithm_94
          · have ev : fz_lg q j % Nat.gcd (fz_lg q i) (q - 1) ≠ 0 := fun z => c_50 (by rw [z]; rfl)
            refine lv_iconst (v := -1) hx hb dX0_logarithm_53 (by decide) ?_
            exact W.iret (v := (-1)) hx hb hr (fun t ht hW => ⟨_, rfl, (by rw [fz_Alog, eg, ea, fz_nz (by omega) h0, fz_nz (by omega) h1, nI_clamp (by omega), nI_clamp (by omega), fz_lx, fz_beq_f ev]; rfl), ht⟩) (fun _ z => absurd z List.not_mem_nil) dX0_logarithm_54
        · have h1 : j = 0 := (nI_eq (by omega) (by decide)).mp c_21
          refine lv_iconst (v := -1) hx hb dX0_logarithm_24 (by decide) ?_
          exact W.iret (v := (-1)) hx hb hr (fun t ht hW => ⟨_, rfl, (by rw [fz_Alog, eg, ea, fz_nz (by omega) h0, h1]; rfl), ht⟩) (fun _ z => absurd z List.not_mem_nil) dX0_logarithm_25
end
section
/-! PURE, 5: rows of digits in an array; the class's powers; the sizes after use -/
theorem fz_upd_cv {f : Nat → Int32} {N n c J : Nat} (h : ∀ j, j < J → f j = nI (fz_dg N j)) (hb : fz_dg N n + c < 1048576) : ∀ j, j < J → upd f n (nI (fz_dg N n + c)) j = nI (fz_dg (N + c * 1048576 ^ n) j) := by
  intro j hj
  rw [fz_dg_add j hb]
  by_cases e : j = n
  · rw [e, pk_us, if_pos rfl]
  · rw [pk_un e, if_neg e, h j hj, Nat.add_zero]
theorem fz_upd_ad {f : Nat → Int32} {N M n s J : Nat} (h : ∀ j, j < J → f j = nI (fz_dg N j)) (hb : fz_bd N M) (hM : 2 * M < 1048576) : ∀ j, j < J → upd f n (nI (fz_dg N n + fz_dg N s)) j = nI (fz_dg (fz_ad N n s) j) :=
  fz_upd_cv h (by have h1 := hb n; have h2 := hb s; omega)
/-- the same in an array that holds the digits' rests -/
theorem fz_updM {f : Nat → Int32} {p N n c J : Nat} (h : ∀ j, j < J → f j = nI (fz_dg N j % p)) (hb : fz_dg N n + c < 1048576) : ∀ j, j < J → upd f n (nI ((fz_dg N n % p + c) % p)) j = nI (fz_dg (N + c * 1048576 ^ n) j % p) := by
  intro j hj
  rw [fz_dg_add j hb]
  by_cases e : j = n
  · rw [e, pk_us, if_pos rfl, Nat.mod_add_mod]
  · rw [pk_un e, if_neg e, h j hj, Nat.add_zero]
theorem fz_updMad {f : Nat → Int32} {p N M n s J : Nat} (h : ∀ j, j < J → f j = nI (fz_dg N j % p)) (hb : fz_bd N M) (hM : 2 * M < 1048576) : ∀ j, j < J → upd f n (nI ((fz_dg N n % p + fz_dg N s % p) % p)) j = nI (fz_dg (fz_ad N n s) j % p) := by
  intro j hj
  have h3 := fz_updM (n := n) (c := fz_dg N s) h (by have h1 := hb n; have h2 := hb s; omega) j hj
  rw [← Nat.add_mod, ← Nat.mod_add_mod]
  exact h3
/-- a digit that is not touched -/
theorem fz_ad_ne {N M n s j : Nat} (hb : fz_bd N M) (hM : 2 * M < 1048576) (h : j ≠ n) : fz_dg (fz_ad N n s) j = fz_dg N j := by
  rw [fz_ad_dg j hb hM, if_neg h, Nat.add_zero]
theorem fz_hor_lt {p : Nat} (hp : 0 < p) (N k : Nat) : ∀ t, fz_hor p N k t < p ^ t
  | 0 => by simp [fz_hor]
  | t + 1 => by
    have h1 := fz_hor_lt hp N k t
    have h2 : fz_dg N (k - 1 - t) % p < p := Nat.mod_lt _ hp
    have h3 : (fz_hor p N k t + 1) * p ≤ p ^ t * p := Nat.mul_le_mul_right _ h1
    rw [Nat.add_mul, Nat.one_mul] at h3
    rw [fz_hor, Nat.pow_succ]
    omega
theorem fz_prX_lt {q p k : Nat} (hm : fz_Ok q p k) (a b : Nat) : fz_prX p k a b < q := by
  have hf := fz_facts hm
  have h := fz_hor_lt (show 0 < p by omega) (fz_rd k (2 * k - 1) (fz_pk p a k * fz_pk p b k) k) k k
  rw [fz_prX]; omega
theorem fz_zm {k t : Nat} (h : t < k) : nI (k - t) + Int32.ofInt (-1) = nI (k - 1 - t) := by
  rw [nv_dec (by omega), show k - t - 1 = k - 1 - t by omega]
theorem fz_wrap {q i : Nat} (hq : 1 ≤ q) : nI (q - 1 + i) - nI q + nI 1 = nI i := by
  have e : nI i + nI q = nI (q - 1 + i) + nI 1 := by rw [nI_add, nI_add, show i + q = q - 1 + i + 1 by omega]
  grind
/-- the powers of g, one after the other -/
def fz_sq (p k g : Nat) : Nat → Nat
  | 0 => 1
  | n + 1 => fz_prX p k (fz_sq p k g n) g
theorem fz_sq_lt {q p k : Nat} (hm : fz_Ok q p k) (g n : Nat) : fz_sq p k g n < q := by
  have hf := fz_facts hm
  cases n with
  | zero => rw [fz_sq]; omega
  | succ n => exact fz_prX_lt hm _ _
theorem fz_sq_pw {q p k : Nat} (hm : fz_Ok q p k) : ∀ n, n < q - 1 → fz_sq p k p n = fz_pw q n
  | 0, _ => (fz_pw_0 hm).symm
  | n + 1, h => by rw [fz_sq, fz_sq_pw hm n (by omega), fz_prX_ok hm (by omega), Nat.mod_eq_of_lt h]
/-- the elements below p don't make all -/
theorem fz_sq_no {q p k : Nat} (hm : fz_Ok q p k) {i : Nat} (hi : i < p - 1) : ∃ n, 0 < n ∧ n < q - 1 ∧ fz_sq p k (i + 1) n = 1 := by
  rcases hm with ⟨rfl, rfl, rfl⟩ | ⟨rfl, rfl, rfl⟩
  · obtain rfl : i = 0 := by omega
    exact ⟨1, by decide, by decide, by decide +kernel⟩
  · rcases (show i = 0 ∨ i = 1 by omega) with rfl | rfl
    · exact ⟨1, by decide, by decide, by decide +kernel⟩
    · exact ⟨2, by decide, by decide, by decide +kernel⟩
theorem fz_mk1 {sq : Nat → Nat} {u : Nat → Int32} {n : Nat} (h : ∀ j, j < n → u j = nI (sq j)) : ∀ j, j < n + 1 → upd u n (nI (sq n)) j = nI (sq j) := by
  intro j hj
  by_cases e : j = n
  · rw [e, pk_us]
  · rw [pk_un e, h j (by omega)]
theorem fz_mk2 {sq : Nat → Nat} {v : Nat → Int32} {n : Nat} (h : ∀ j, j < n → (∀ i, i < n → sq i = sq j → i = j) → v (sq j) = nI j) : ∀ j, j < n + 1 → (∀ i, i < n + 1 → sq i = sq j → i = j) → upd v (sq n) (nI n) (sq j) = nI j := by
  intro j hj hu
  by_cases e : sq j = sq n
  · have e2 := hu n (by omega) e.symm
    rw [e2, pk_us]
  · rw [pk_un e]
    have hjn : j ≠ n := fun z => e (by rw [z])
    exact h j (by omega) (fun i hi z => hu i (by omega) z)
/-- the two tables, when the powers of p have been noted and copied -/
theorem fz_tab {q p k : Nat} (hm : fz_Ok q p k) {u v : Nat → Int32} (h1 : ∀ n, n < 2 * (q - 1) → u n = nI (fz_pw q (n % (q - 1)))) (h2 : ∀ j, j < q - 1 → (∀ i, i < q - 1 → fz_sq p k p i = fz_sq p k p j → i = j) → v (fz_sq p k p j) = nI j) : fz_XOk q u v := by
  refine ⟨h1, fun a h0 ha => ?_⟩
  have e := fz_lg_ok hm h0 ha
  have h3 := h2 (fz_lg q a) e.1 (fun i hi z => by
    rw [fz_sq_pw hm i hi, fz_sq_pw hm _ e.1] at z
    rw [← (fz_pw_ok hm hi).2.2, z, (fz_pw_ok hm e.1).2.2])
  rw [fz_sq_pw hm _ e.1, e.2] at h3
  exact h3
/-! use: the sizes behind it, and its answer -/
def fz_uq (q : Nat) (a : Int32) : Nat := if a = nI 64 then 64 else if a = nI 81 then 81 else q
def fz_up (p : Nat) (a : Int32) : Nat := if a = nI 64 then 2 else if a = nI 81 then 3 else p
def fz_uk (k : Nat) (a : Int32) : Nat := if a = nI 64 then 6 else if a = nI 81 then 4 else k
def fz_ur (a : Int32) : Int32 := if a = nI 64 then nI 0 else if a = nI 81 then nI 0 else -1
theorem fz_u_ok {q p k : Nat} (hm : fz_Ok q p k) (a : Int32) : fz_Ok (fz_uq q a) (fz_up p a) (fz_uk k a) := by
  unfold fz_uq fz_up fz_uk
  by_cases h1 : a = nI 64
  · rw [if_pos h1, if_pos h1, if_pos h1]; exact Or.inl ⟨rfl, rfl, rfl⟩
  · rw [if_neg h1, if_neg h1, if_neg h1]
    by_cases h2 : a = nI 81
    · rw [if_pos h2, if_pos h2, if_pos h2]; exact Or.inr ⟨rfl, rfl, rfl⟩
    · rw [if_neg h2, if_neg h2, if_neg h2]; exact hm
end
section
/-! FieldTower: the methods that write: the product by coefficients -/
set_option maxHeartbeats 4000000 in
set_option maxRecDepth 100000 in
theorem mX0_productByCoefficients (l : Launch) {D : va_G} {h h1 h2 h3 : Nat} {d1 d2 d3 : ClassId} {q p k : Nat} {f1 f2 f3 : Nat → Int32} (hne : fz_nX h h1 h2 h3) (hm : fz_Ok q p k) {a b : Nat} (ha : a < 2 ^ 31) (hb1 : b < 2 ^ 31) : Met l yX0_productByCoefficients (ws_ yX0_productByCoefficients cX0_productByCoefficients 7 (some .int)) ({ frames := 0, cells := 0, slots := 0, locals := 0 }) (va_Pc [.ref h, .int (nI a), .int (nI b)] (fz_BX D h h1 h2 h3 d1 d2 d3 q p k f1 f2 f3)) (va_Qi (fun (r : Int32) (_ : Nat → Int32) => r = nI (fz_prX p k a b)) (fun g t => va_P D vwCl (fz_wX h h1 h2 h3 d1 d2 d3 q p k f1 f2 g) t.heap) (fz_AX h h1 h2 h3)) 0 0 (fz_AX h h1 h2 h3) := by
  obtain ⟨hp2, hp3, hk4, hk6, hq64, hq81, hpk⟩ := fz_facts hm
  refine Met.ofW (cc := cX0_productByCoefficients) (maxL := 7) (ret := (some .int)) (by decide) rfl ?_
  intro P e s m args below meth c s₁ B hml hv
  obtain ⟨rfl, hP, hK⟩ := hv
  have hx := B.exec
  have hb := B.bytes
  have hr := B.returns
  have hts := atoms_spec (ws := ws_ yX0_productByCoefficients cX0_productByCoefficients 7 (some .int)) B.pre
  have hts : ∀ w ∈ lw_all, w.before _ s = true := fun w h => hts w (List.mem_cons_of_mem _ h)
  have hown : s.vm.findClass RX0 = some m.cls := findClass_of_methodNamed B.named
  have hlocks := B.notSynchronized
  have hl := lv_entry ([.ref h, .int (nI a), .int (nI b)]) (n := 7) (Nat.le_of_ble_eq_true rfl)
  rw [lg_entry_eq]
  generalize (lg_sl ([.ref h, .int (nI a), .int (nI b)]) ++ List.replicate (7 - (lg_sl ([.ref h, .int (nI a), .int (nI b)])).length) Slot.unset).toArray = ls at hl ⊢
  have hl : lv_has ls 7 [(0, .ref h), (1, .int (nI a)), (2, .int (nI b))] := hl
  have hS : va_S (fz_AX h h1 h2 h3) s.heap s.heap [] := va_S.rf
  refine lv_iconst (v := nI 0) hx hb dX0_productByCoefficients_0 (by decide) ?_
  refine lv_istore_n (lv' := [(3, .int (nI 0)), (0, .ref h), (1, .int (nI a)), (2, .int (nI b))]) hx hb dX0_productByCoefficients_1 rfl hl (by decide) rfl (fun ls hl => ?_)
  refine fz_loopH (G := Nat → Int32) 12 (fun i g H locs ls => (∀ j, j < i → g j = nI 0) ∧ va_P D vwCl (fz_wX h h1 h2 h3 d1 d2 d3 q p k f1 f2 g) H ∧ va_S (fz_AX h h1 h2 h3) s.heap H locs ∧ lv_has ls 7 [(3, .int (nI i)), (0, .ref h), (1, .int (nI a)), (2, .int (nI b))]) (fun g H locs ls hI => ?_) (fun i hi ih g H locs ls hI => ?_) 0 (Nat.zero_le _) f3 _ _ ls ⟨fun j hj => absurd hj (Nat.not_lt_zero j), hP, hS, lv_sub hl [0, 1, 2, 3] rfl⟩
  · obtain ⟨hz, hP, hS, hl⟩ := hI
    refine lv_iload_n hx hb dX0_productByCoefficients_2 rfl (lv_at hl 0 rfl) ?_
    refine lv_bipush (v := nI 12) hx hb dX0_productByCoefficients_3 (by decide) ?_
    refine lv_icmp_ge (tgt := 21) hx hb dX0_productByCoefficients_5 (by decide) (fun _ => ?_) (fun c_ => False.elim ((fun z => z (nI_le (Nat.le_refl 12) (by omega))) c_))
    refine lv_iload_n hx hb dX0_productByCoefficients_21 rfl (lv_at hl 2 rfl) ?_
    refine lv_istore_n (lv' := [(3, .int (nI a)), (0, .ref h), (1, .int (nI a)), (2, .int (nI b))]) hx hb dX0_productByCoefficients_22 rfl hl (by decide) rfl (fun ls hl => ?_)
    refine lv_iconst (v := nI 0) hx hb dX0_productByCoefficients_23 (by decide) ?_
    refine lv_istore (lv' := [(4, .int (nI 0)), (3, .int (nI a)), (0, .ref h), (1, .int (nI a)), (2, .int (nI b))]) hx hb dX0_productByCoefficients_24 hl (by decide) rfl (fun ls hl => ?_)
    have hl : lv_has ls 7 [(4, .int (nI 0)), (3, .int (nI (a / p ^ 0))), (0, .ref h), (2, .int (nI b))] := by rw [Nat.pow_zero, Nat.div_one]; exact lv_sub hl [0, 1, 2, 4] rfl
    refine fz_loopH (G := Nat → Int32) k (fun i g H locs ls => (∀ j, j < 12 → g j = nI (fz_dg (fz_cv p k a b i 0) j)) ∧ fz_bd (fz_cv p k a b i 0) (4 * (k * i)) ∧ va_P D vwCl (fz_wX h h1 h2 h3 d1 d2 d3 q p k f1 f2 g) H ∧ va_S (fz_AX h h1 h2 h3) s.heap H locs ∧ lv_has ls 7 [(4, .int (nI i)), (3, .int (nI (a / p ^ i))), (0, .ref h), (2, .int (nI b))]) (fun g H locs ls hI => ?_) (fun i hi ih g H locs ls hI => ?_) 0 (Nat.zero_le _) g _ _ ls ⟨fun j hj => by rw [fz_cv_00, fz_dg_0]; exact hz j hj, by rw [fz_cv_00]; exact fz_bd_mono fz_bd_0 (Nat.zero_le _), hP, hS, hl⟩
    · obtain ⟨hg, hbd, hP, hS, hl⟩ := hI
      rw [fz_cv_end] at hg hbd
      refine lv_iload hx hb dX0_productByCoefficients_26 (lv_at hl 0 rfl) ?_
      refine lv_aload_n hx hb dX0_productByCoefficients_28 rfl (lv_at hl 2 rfl) ?_
      refine va_get (D := D) (ci := 0) (v := .int (nI k)) (C := RX0) (T := TX0) (N := 6) hx hb hts in_X0 hown hK hP 0 rfl rfl 2 (by decide) (hts _ q42) (fun _ h9 => h9) rfl dX0_productByCoefficients_29 ?_
      refine lv_icmp_ge (tgt := 105) hx hb dX0_productByCoefficients_32 (by decide) (fun _ => ?_) (fun c_ => False.elim ((fun z => z (nI_le (Nat.le_refl k) (by omega))) c_))
      refine lv_iconst (v := nI 2) hx hb dX0_productByCoefficients_105 (by decide) ?_
      refine lv_aload_n hx hb dX0_productByCoefficients_106 rfl (lv_at hl 2 rfl) ?_
      refine va_get (D := D) (ci := 0) (v := .int (nI k)) (C := RX0) (T := TX0) (N := 6) hx hb hts in_X0 hown hK hP 0 rfl rfl 2 (by decide) (hts _ q42) (fun _ h9 => h9) rfl dX0_productByCoefficients_107 ?_
      refine nv_imul hx hb dX0_productByCoefficients_110 ?_
      refine lv_iconst (v := nI 1) hx hb dX0_productByCoefficients_111 (by decide) ?_
      refine nv_isub hx hb dX0_productByCoefficients_112 (by omega) ?_
      refine lv_istore (lv' := [(4, .int (nI ((2 * k) - 1))), (3, .int (nI (a / p ^ k))), (0, .ref h), (2, .int (nI b))]) hx hb dX0_productByCoefficients_113 hl (by decide) rfl (fun ls hl => ?_)
      refine fz_loopH (G := Nat → Int32) k (fun t g H locs ls => (∀ j, j < 12 → g j = nI (fz_dg (fz_rd k (2 * k - 1) (fz_pk p a k * fz_pk p b k) t) j)) ∧ fz_bd (fz_rd k (2 * k - 1) (fz_pk p a k * fz_pk p b k) t) (144 * 4 ^ t) ∧ va_P D vwCl (fz_wX h h1 h2 h3 d1 d2 d3 q p k f1 f2 g) H ∧ va_S (fz_AX h h1 h2 h3) s.heap H locs ∧ lv_has ls 7 [(4, .int (nI (2 * k - 1 - t))), (0, .ref h)]) (fun g H locs ls hI => ?_) (fun t ht4 ih g H locs ls hI => ?_) 0 (Nat.zero_le _) g _ _ ls ⟨hg, fz_bd_mono hbd (by have z1 : k * k ≤ 6 * 6 := Nat.mul_le_mul hk6 hk6; omega), hP, hS, lv_sub hl [0, 2] rfl⟩
      · obtain ⟨hg, hbd, hP, hS, hl⟩ := hI
        refine lv_iload hx hb dX0_productByCoefficients_115 (lv_at hl 0 rfl) ?_
        refine lv_aload_n hx hb dX0_productByCoefficients_117 rfl (lv_at hl 1 rfl) ?_
        refine va_get (D := D) (ci := 0) (v := .int (nI k)) (C := RX0) (T := TX0) (N := 6) hx hb hts in_X0 hown hK hP 0 rfl rfl 2 (by decide) (hts _ q42) (fun _ h9 => h9) rfl dX0_productByCoefficients_118 ?_
        refine lv_icmp_lt (tgt := 176) hx hb dX0_productByCoefficients_121 (by decide) (fun _ => ?_) (fun c_ => False.elim ((fun z => z (nI_lt (show 2 * k - 1 - k < k by omega) (by omega))) c_))
        refine lv_iconst (v := nI 0) hx hb dX0_productByCoefficients_176 (by decide) ?_
        refine lv_istore (lv' := [(4, .int (nI 0)), (0, .ref h)]) hx hb dX0_productByCoefficients_177 hl (by decide) rfl (fun ls hl => ?_)
        refine lv_aload_n hx hb dX0_productByCoefficients_179 rfl (lv_at hl 1 rfl) ?_
        refine va_get (D := D) (ci := 0) (v := .int (nI k)) (C := RX0) (T := TX0) (N := 6) hx hb hts in_X0 hown hK hP 0 rfl rfl 2 (by decide) (hts _ q42) (fun _ h9 => h9) rfl dX0_productByCoefficients_180 ?_
        refine lv_iconst (v := nI 1) hx hb dX0_productByCoefficients_183 (by decide) ?_
        refine nv_isub hx hb dX0_productByCoefficients_184 (by omega) ?_
        refine lv_istore (lv' := [(5, .int (nI (k - 1))), (4, .int (nI 0)), (0, .ref h)]) hx hb dX0_productByCoefficients_185 hl (by decide) rfl (fun ls hl => ?_)
        have hl : lv_has ls 7 [(5, .int (nI (k - 0) + Int32.ofInt (-1))), (4, .int (nI (fz_hor p (fz_rd k (2 * k - 1) (fz_pk p a k * fz_pk p b k) k) k 0))), (0, .ref h)] := by rw [Nat.sub_zero, nv_dec (show 1 ≤ k by omega)]; exact lv_sub hl [0, 1, 2] rfl
        refine fz_loop k (fun t ls => lv_has ls 7 [(5, .int (nI (k - t) + Int32.ofInt (-1))), (4, .int (nI (fz_hor p (fz_rd k (2 * k - 1) (fz_pk p a k * fz_pk p b k) k) k t))), (0, .ref h)]) (fun ls hl => ?_) (fun t ht5 ih ls hl => ?_) 0 (Nat.zero_le _) ls hl
        · refine lv_iload hx hb dX0_productByCoefficients_187 (lv_at hl 0 rfl) ?_
          refine lv_if_lt (tgt := 220) hx hb dX0_productByCoefficients_189 (by decide) (fun _ => ?_) (fun c_ => False.elim ((fun z => z (by rw [Nat.sub_self]; decide)) c_))
          refine lv_iload hx hb dX0_productByCoefficients_220 (lv_at hl 1 rfl) ?_
          exact W.iret (v := (nI (fz_hor p (fz_rd k (2 * k - 1) (fz_pk p a k * fz_pk p b k) k) k k))) hx hb hr (fun t ht hW => ⟨⟨_, g, rfl, rfl, by show va_P _ _ _ t.heap; rw [ht]; exact hP⟩, hS.F ht⟩) hS.2.2 dX0_productByCoefficients_222
        · rw [fz_zm ht5] at hl
          refine lv_iload hx hb dX0_productByCoefficients_187 (lv_at hl 0 rfl) ?_
          refine lv_if_lt (tgt := 220) hx hb dX0_productByCoefficients_189 (by decide) (fun c_ => False.elim ((nI_pos (by omega)) c_)) (fun _ => ?_)
          refine lv_iload hx hb dX0_productByCoefficients_192 (lv_at hl 1 rfl) ?_
          refine lv_aload_n hx hb dX0_productByCoefficients_194 rfl (lv_at hl 2 rfl) ?_
          refine va_get (D := D) (ci := 0) (v := .int (nI p)) (C := RX0) (T := TX0) (N := 6) hx hb hts in_X0 hown hK hP 0 rfl rfl 1 (by decide) (hts _ q41) (fun _ h9 => h9) rfl dX0_productByCoefficients_195 ?_
          refine nv_imul hx hb dX0_productByCoefficients_198 ?_
          refine lv_aload_n hx hb dX0_productByCoefficients_199 rfl (lv_at hl 2 rfl) ?_
          refine va_get (D := D) (ci := 0) (v := .ref h3) (C := RX0) (T := TX0) (N := 6) hx hb hts in_X0 hown hK hP 0 rfl rfl 5 (by decide) (hts _ q45) (fun _ h9 => h9) rfl dX0_productByCoefficients_200 ?_
          refine lv_iload hx hb dX0_productByCoefficients_203 (lv_at hl 0 rfl) ?_
          refine nv_ald hx hb hK hP 3 2 rfl rfl (by omega) (by decide) (hg _ (by omega)) dX0_productByCoefficients_205 ?_
          refine lv_aload_n hx hb dX0_productByCoefficients_206 rfl (lv_at hl 2 rfl) ?_
          refine va_get (D := D) (ci := 0) (v := .int (nI p)) (C := RX0) (T := TX0) (N := 6) hx hb hts in_X0 hown hK hP 0 rfl rfl 1 (by decide) (hts _ q41) (fun _ h9 => h9) rfl dX0_productByCoefficients_207 ?_
          refine nv_irem hx hb dX0_productByCoefficients_210 (Nat.lt_trans (fz_dg_lt _ _) (by decide)) (by omega) (by omega) ?_
          refine nv_iadd hx hb dX0_productByCoefficients_211 ?_
          refine lv_istore (lv' := [(4, .int (nI (((fz_hor p (fz_rd k (2 * k - 1) (fz_pk p a k * fz_pk p b k) k) k t) * p) + ((fz_dg (fz_rd k (2 * k - 1) (fz_pk p a k * fz_pk p b k) k) (k - 1 - t)) % p)))), (5, .int (nI (k - 1 - t))), (0, .ref h)]) hx hb dX0_productByCoefficients_212 hl (by decide) rfl (fun ls hl => ?_)
          refine lv_iinc (v := (nI (k - (t + 1)) + Int32.ofInt (-1))) (lv' := [(5, .int (nI (k - (t + 1)) + Int32.ofInt (-1))), (4, .int (nI (((fz_hor p (fz_rd k (2 * k - 1) (fz_pk p a k * fz_pk p b k) k) k t) * p) + ((fz_dg (fz_rd k (2 * k - 1) (fz_pk p a k * fz_pk p b k) k) (k - 1 - t)) % p)))), (0, .ref h)]) hx hb dX0_productByCoefficients_214 hl (k := 1) rfl (by rw [show k - 1 - t = k - (t + 1) by omega]) (by decide) rfl (fun ls hl => ?_)
          refine lv_goto (tgt := 187) hx hb dX0_productByCoefficients_217 (by decide) ?_
          exact ih ls (lv_sub hl [0, 1, 2] rfl)
      · obtain ⟨hg, hbd, hP, hS, hl⟩ := hI
        have h4t : 4 ^ t ≤ 4 ^ 5 := Nat.pow_le_pow_right (by decide) (by omega)
        refine lv_iload hx hb dX0_productByCoefficients_115 (lv_at hl 0 rfl) ?_
        refine lv_aload_n hx hb dX0_productByCoefficients_117 rfl (lv_at hl 1 rfl) ?_
        refine va_get (D := D) (ci := 0) (v := .int (nI k)) (C := RX0) (T := TX0) (N := 6) hx hb hts in_X0 hown hK hP 0 rfl rfl 2 (by decide) (hts _ q42) (fun _ h9 => h9) rfl dX0_productByCoefficients_118 ?_
        refine lv_icmp_lt (tgt := 176) hx hb dX0_productByCoefficients_121 (by decide) (fun c_ => False.elim ((nI_nlt (show k ≤ 2 * k - 1 - t by omega) (by omega)) c_)) (fun _ => ?_)
        refine lv_aload_n hx hb dX0_productByCoefficients_124 rfl (lv_at hl 1 rfl) ?_
        refine va_get (D := D) (ci := 0) (v := .ref h3) (C := RX0) (T := TX0) (N := 6) hx hb hts in_X0 hown hK hP 0 rfl rfl 5 (by decide) (hts _ q45) (fun _ h9 => h9) rfl dX0_productByCoefficients_125 ?_
        refine lv_iload hx hb dX0_productByCoefficients_128 (lv_at hl 0 rfl) ?_
        refine lv_aload_n hx hb dX0_productByCoefficients_130 rfl (lv_at hl 1 rfl) ?_
        refine va_get (D := D) (ci := 0) (v := .int (nI k)) (C := RX0) (T := TX0) (N := 6) hx hb hts in_X0 hown hK hP 0 rfl rfl 2 (by decide) (hts _ q42) (fun _ h9 => h9) rfl dX0_productByCoefficients_131 ?_
        refine nv_isub hx hb dX0_productByCoefficients_134 (by omega) ?_
        refine lv_dup2_11 hx hb dX0_productByCoefficients_135 rfl rfl ?_
        refine nv_ald hx hb hK hP 3 2 rfl rfl (by omega) (by decide) (hg _ (by omega)) dX0_productByCoefficients_136 ?_
        refine lv_aload_n hx hb dX0_productByCoefficients_137 rfl (lv_at hl 1 rfl) ?_
        refine va_get (D := D) (ci := 0) (v := .ref h3) (C := RX0) (T := TX0) (N := 6) hx hb hts in_X0 hown hK hP 0 rfl rfl 5 (by decide) (hts _ q45) (fun _ h9 => h9) rfl dX0_productByCoefficients_138 ?_
        refine lv_iload hx hb dX0_productByCoefficients_141 (lv_at hl 0 rfl) ?_
        refine nv_ald hx hb hK hP 3 2 rfl rfl (by omega) (by decide) (hg _ (by omega)) dX0_productByCoefficients_143 ?_
        refine nv_iadd hx hb dX0_productByCoefficients_144 ?_
        refine nv_ast hx hb hK hP (fz_dX hne) hS 3 2 rfl rfl (by omega) (by decide) dX0_productByCoefficients_145 (fun H locs hP hS => ?_)
        have hP : va_P D vwCl (fz_wX h h1 h2 h3 d1 d2 d3 q p k f1 f2 ((upd g ((2 * k - 1 - t) - k) ((nI ((fz_dg (fz_rd k (2 * k - 1) (fz_pk p a k * fz_pk p b k) t) ((2 * k - 1 - t) - k)) + (fz_dg (fz_rd k (2 * k - 1) (fz_pk p a k * fz_pk p b k) t) (2 * k - 1 - t)))))))) H := hP
        have hg := fz_upd_ad (n := (2 * k - 1 - t) - k) (s := (2 * k - 1 - t)) hg hbd (by omega)
        have hbd1 := fz_ad_bd (n := (2 * k - 1 - t) - k) (s := (2 * k - 1 - t)) hbd (by omega)
        refine lv_aload_n hx hb dX0_productByCoefficients_146 rfl (lv_at hl 1 rfl) ?_
        refine va_get (D := D) (ci := 0) (v := .ref h3) (C := RX0) (T := TX0) (N := 6) hx hb hts in_X0 hown hK hP 0 rfl rfl 5 (by decide) (hts _ q45) (fun _ h9 => h9) rfl dX0_productByCoefficients_147 ?_
        refine lv_iload hx hb dX0_productByCoefficients_150 (lv_at hl 0 rfl) ?_
        refine lv_aload_n hx hb dX0_productByCoefficients_152 rfl (lv_at hl 1 rfl) ?_
        refine va_get (D := D) (ci := 0) (v := .int (nI k)) (C := RX0) (T := TX0) (N := 6) hx hb hts in_X0 hown hK hP 0 rfl rfl 2 (by decide) (hts _ q42) (fun _ h9 => h9) rfl dX0_productByCoefficients_153 ?_
        refine nv_isub hx hb dX0_productByCoefficients_156 (by omega) ?_
        refine lv_iconst (v := nI 1) hx hb dX0_productByCoefficients_157 (by decide) ?_
        refine nv_iadd hx hb dX0_productByCoefficients_158 ?_
        refine lv_dup2_11 hx hb dX0_productByCoefficients_159 rfl rfl ?_
        refine nv_ald hx hb hK hP 3 2 rfl rfl (by omega) (by decide) (hg _ (by omega)) dX0_productByCoefficients_160 ?_
        refine lv_aload_n hx hb dX0_productByCoefficients_161 rfl (lv_at hl 1 rfl) ?_
        refine va_get (D := D) (ci := 0) (v := .ref h3) (C := RX0) (T := TX0) (N := 6) hx hb hts in_X0 hown hK hP 0 rfl rfl 5 (by decide) (hts _ q45) (fun _ h9 => h9) rfl dX0_productByCoefficients_162 ?_
        refine lv_iload hx hb dX0_productByCoefficients_165 (lv_at hl 0 rfl) ?_
        refine nv_ald hx hb hK hP 3 2 rfl rfl (by omega) (by decide) (hg _ (by omega)) dX0_productByCoefficients_167 ?_
        refine nv_iadd hx hb dX0_productByCoefficients_168 ?_
        refine nv_ast hx hb hK hP (fz_dX hne) hS 3 2 rfl rfl (by omega) (by decide) dX0_productByCoefficients_169 (fun H locs hP hS => ?_)
        have hP : va_P D vwCl (fz_wX h h1 h2 h3 d1 d2 d3 q p k f1 f2 ((upd ((upd g ((2 * k - 1 - t) - k) ((nI ((fz_dg (fz_rd k (2 * k - 1) (fz_pk p a k * fz_pk p b k) t) ((2 * k - 1 - t) - k)) + (fz_dg (fz_rd k (2 * k - 1) (fz_pk p a k * fz_pk p b k) t) (2 * k - 1 - t))))))) (((2 * k - 1 - t) - k) + 1) ((nI ((fz_dg (fz_ad (fz_rd k (2 * k - 1) (fz_pk p a k * fz_pk p b k) t) ((2 * k - 1 - t) - k) (2 * k - 1 - t)) ((2 * k - 1 - t) - k + 1)) + (fz_dg (fz_ad (fz_rd k (2 * k - 1) (fz_pk p a k * fz_pk p b k) t) ((2 * k - 1 - t) - k) (2 * k - 1 - t)) (2 * k - 1 - t)))))))) H := hP
        have hg := fz_upd_ad (n := (2 * k - 1 - t) - k + 1) (s := (2 * k - 1 - t)) hg hbd1 (by omega)
        refine lv_iinc (v := (nI (2 * k - 1 - (t + 1)))) (lv' := [(4, .int (nI (2 * k - 1 - (t + 1)))), (0, .ref h)]) hx hb dX0_productByCoefficients_170 hl (k := 0) rfl (by rw [nv_dec (by omega)]; rfl) (by decide) rfl (fun ls hl => ?_)
        refine lv_goto (tgt := 115) hx hb dX0_productByCoefficients_173 (by decide) ?_
        exact ih _ H locs ls ⟨hg, by rw [Nat.pow_succ, show 144 * (4 ^ t * 4) = 4 * (144 * 4 ^ t) by omega]; exact fz_rs_bd hbd (by omega), hP, hS, lv_sub hl [0, 1] rfl⟩
    · obtain ⟨hg, hbd, hP, hS, hl⟩ := hI
      have hki : k * i + k ≤ 36 := by
          have z1 : k * (i + 1) ≤ 6 * 6 := Nat.mul_le_mul hk6 (by omega)
          rw [Nat.mul_add, Nat.mul_one] at z1
          omega
      refine lv_iload hx hb dX0_productByCoefficients_26 (lv_at hl 0 rfl) ?_
      refine lv_aload_n hx hb dX0_productByCoefficients_28 rfl (lv_at hl 2 rfl) ?_
      refine va_get (D := D) (ci := 0) (v := .int (nI k)) (C := RX0) (T := TX0) (N := 6) hx hb hts in_X0 hown hK hP 0 rfl rfl 2 (by decide) (hts _ q42) (fun _ h9 => h9) rfl dX0_productByCoefficients_29 ?_
      refine lv_icmp_ge (tgt := 105) hx hb dX0_productByCoefficients_32 (by decide) (fun c_ => False.elim ((nI_ge hi (by omega)) c_)) (fun _ => ?_)
      refine lv_iload_n hx hb dX0_productByCoefficients_35 rfl (lv_at hl 3 rfl) ?_
      refine lv_istore (lv' := [(5, .int (nI b)), (4, .int (nI i)), (3, .int (nI (a / p ^ i))), (0, .ref h), (2, .int (nI b))]) hx hb dX0_productByCoefficients_36 hl (by decide) rfl (fun ls hl => ?_)
      refine lv_iconst (v := nI 0) hx hb dX0_productByCoefficients_38 (by decide) ?_
      refine lv_istore (lv' := [(6, .int (nI 0)), (5, .int (nI b)), (4, .int (nI i)), (3, .int (nI (a / p ^ i))), (0, .ref h), (2, .int (nI b))]) hx hb dX0_productByCoefficients_39 hl (by decide) rfl (fun ls hl => ?_)
      have hl : lv_has ls 7 [(6, .int (nI 0)), (5, .int (nI (b / p ^ 0))), (4, .int (nI i)), (3, .int (nI (a / p ^ i))), (0, .ref h), (2, .int (nI b))] := by rw [Nat.pow_zero, Nat.div_one]; exact lv_sub hl [0, 1, 2, 3, 4, 5] rfl
      refine fz_loopH (G := Nat → Int32) k (fun j g H locs ls => (∀ m, m < 12 → g m = nI (fz_dg (fz_cv p k a b i j) m)) ∧ fz_bd (fz_cv p k a b i j) (4 * (k * i + j)) ∧ va_P D vwCl (fz_wX h h1 h2 h3 d1 d2 d3 q p k f1 f2 g) H ∧ va_S (fz_AX h h1 h2 h3) s.heap H locs ∧ lv_has ls 7 [(6, .int (nI j)), (5, .int (nI (b / p ^ j))), (4, .int (nI i)), (3, .int (nI (a / p ^ i))), (0, .ref h), (2, .int (nI b))]) (fun g H locs ls hI => ?_) (fun j hj ih2 g H locs ls hI => ?_) 0 (Nat.zero_le _) g _ _ ls ⟨hg, hbd, hP, hS, hl⟩
      · obtain ⟨hg, hbd, hP, hS, hl⟩ := hI
        have hxa : a / p ^ i < 2 ^ 31 := Nat.lt_of_le_of_lt (Nat.div_le_self _ _) ha
        refine lv_iload hx hb dX0_productByCoefficients_41 (lv_at hl 0 rfl) ?_
        refine lv_aload_n hx hb dX0_productByCoefficients_43 rfl (lv_at hl 4 rfl) ?_
        refine va_get (D := D) (ci := 0) (v := .int (nI k)) (C := RX0) (T := TX0) (N := 6) hx hb hts in_X0 hown hK hP 0 rfl rfl 2 (by decide) (hts _ q42) (fun _ h9 => h9) rfl dX0_productByCoefficients_44 ?_
        refine lv_icmp_ge (tgt := 92) hx hb dX0_productByCoefficients_47 (by decide) (fun _ => ?_) (fun c_ => False.elim ((fun z => z (nI_le (Nat.le_refl k) (by omega))) c_))
        refine lv_iload_n hx hb dX0_productByCoefficients_92 rfl (lv_at hl 3 rfl) ?_
        refine lv_aload_n hx hb dX0_productByCoefficients_93 rfl (lv_at hl 4 rfl) ?_
        refine va_get (D := D) (ci := 0) (v := .int (nI p)) (C := RX0) (T := TX0) (N := 6) hx hb hts in_X0 hown hK hP 0 rfl rfl 1 (by decide) (hts _ q41) (fun _ h9 => h9) rfl dX0_productByCoefficients_94 ?_
        refine nv_idiv hx hb dX0_productByCoefficients_97 hxa (by omega) (by omega) ?_
        refine lv_istore_n (lv' := [(3, .int (nI ((a / p ^ i) / p))), (6, .int (nI k)), (5, .int (nI (b / p ^ k))), (4, .int (nI i)), (0, .ref h), (2, .int (nI b))]) hx hb dX0_productByCoefficients_98 rfl hl (by decide) rfl (fun ls hl => ?_)
        refine lv_iinc (v := (nI (i + 1))) (lv' := [(4, .int (nI (i + 1))), (3, .int (nI ((a / p ^ i) / p))), (6, .int (nI k)), (5, .int (nI (b / p ^ k))), (0, .ref h), (2, .int (nI b))]) hx hb dX0_productByCoefficients_99 hl (k := 3) rfl (nv_inc _) (by decide) rfl (fun ls hl => ?_)
        refine lv_goto (tgt := 26) hx hb dX0_productByCoefficients_102 (by decide) ?_
        rw [fz_div_succ] at hl
        rw [fz_cv_next] at hg hbd
        exact ih _ H locs ls ⟨hg, by rw [Nat.mul_add, Nat.mul_one]; exact hbd, hP, hS, lv_sub hl [0, 1, 4, 5] rfl⟩
      · obtain ⟨hg, hbd, hP, hS, hl⟩ := hI
        have hxa : a / p ^ i < 2 ^ 31 := Nat.lt_of_le_of_lt (Nat.div_le_self _ _) ha
        have hxb : b / p ^ j < 2 ^ 31 := Nat.lt_of_le_of_lt (Nat.div_le_self _ _) hb1
        have hd4 := fz_dgt_mul hp2 hp3 a b i j
        have hdb := hbd (i + j)
        have hsm : fz_dg (fz_cv p k a b i j) (i + j) + fz_dgt p a i * fz_dgt p b j < 1048576 := by omega
        refine lv_iload hx hb dX0_productByCoefficients_41 (lv_at hl 0 rfl) ?_
        refine lv_aload_n hx hb dX0_productByCoefficients_43 rfl (lv_at hl 4 rfl) ?_
        refine va_get (D := D) (ci := 0) (v := .int (nI k)) (C := RX0) (T := TX0) (N := 6) hx hb hts in_X0 hown hK hP 0 rfl rfl 2 (by decide) (hts _ q42) (fun _ h9 => h9) rfl dX0_productByCoefficients_44 ?_
        refine lv_icmp_ge (tgt := 92) hx hb dX0_productByCoefficients_47 (by decide) (fun c_ => False.elim ((nI_ge hj (by omega)) c_)) (fun _ => ?_)
        refine lv_aload_n hx hb dX0_productByCoefficients_50 rfl (lv_at hl 4 rfl) ?_
        refine va_get (D := D) (ci := 0) (v := .ref h3) (C := RX0) (T := TX0) (N := 6) hx hb hts in_X0 hown hK hP 0 rfl rfl 5 (by decide) (hts _ q45) (fun _ h9 => h9) rfl dX0_productByCoefficients_51 ?_
        refine lv_iload hx hb dX0_productByCoefficients_54 (lv_at hl 2 rfl) ?_
        refine lv_iload hx hb dX0_productByCoefficients_56 (lv_at hl 0 rfl) ?_
        refine nv_iadd hx hb dX0_productByCoefficients_58 ?_
        refine lv_dup2_11 hx hb dX0_productByCoefficients_59 rfl rfl ?_
        refine nv_ald hx hb hK hP 3 2 rfl rfl (by omega) (by decide) (hg _ (by omega)) dX0_productByCoefficients_60 ?_
        refine lv_iload_n hx hb dX0_productByCoefficients_61 rfl (lv_at hl 3 rfl) ?_
        refine lv_aload_n hx hb dX0_productByCoefficients_62 rfl (lv_at hl 4 rfl) ?_
        refine va_get (D := D) (ci := 0) (v := .int (nI p)) (C := RX0) (T := TX0) (N := 6) hx hb hts in_X0 hown hK hP 0 rfl rfl 1 (by decide) (hts _ q41) (fun _ h9 => h9) rfl dX0_productByCoefficients_63 ?_
        refine nv_irem hx hb dX0_productByCoefficients_66 hxa (by omega) (by omega) ?_
        refine lv_iload hx hb dX0_productByCoefficients_67 (lv_at hl 1 rfl) ?_
        refine lv_aload_n hx hb dX0_productByCoefficients_69 rfl (lv_at hl 4 rfl) ?_
        refine va_get (D := D) (ci := 0) (v := .int (nI p)) (C := RX0) (T := TX0) (N := 6) hx hb hts in_X0 hown hK hP 0 rfl rfl 1 (by decide) (hts _ q41) (fun _ h9 => h9) rfl dX0_productByCoefficients_70 ?_
        refine nv_irem hx hb dX0_productByCoefficients_73 hxb (by omega) (by omega) ?_
        refine nv_imul hx hb dX0_productByCoefficients_74 ?_
        refine nv_iadd hx hb dX0_productByCoefficients_75 ?_
        refine nv_ast hx hb hK hP (fz_dX hne) hS 3 2 rfl rfl (by omega) (by decide) dX0_productByCoefficients_76 (fun H locs hP hS => ?_)
        have hP : va_P D vwCl (fz_wX h h1 h2 h3 d1 d2 d3 q p k f1 f2 ((upd g (i + j) ((nI ((fz_dg (fz_cv p k a b i j) (i + j)) + (((a / p ^ i) % p) * ((b / p ^ j) % p)))))))) H := hP
        refine lv_iload hx hb dX0_productByCoefficients_77 (lv_at hl 1 rfl) ?_
        refine lv_aload_n hx hb dX0_productByCoefficients_79 rfl (lv_at hl 4 rfl) ?_
        refine va_get (D := D) (ci := 0) (v := .int (nI p)) (C := RX0) (T := TX0) (N := 6) hx hb hts in_X0 hown hK hP 0 rfl rfl 1 (by decide) (hts _ q41) (fun _ h9 => h9) rfl dX0_productByCoefficients_80 ?_
        refine nv_idiv hx hb dX0_productByCoefficients_83 hxb (by omega) (by omega) ?_
        refine lv_istore (lv' := [(5, .int (nI ((b / p ^ j) / p))), (6, .int (nI j)), (4, .int (nI i)), (3, .int (nI (a / p ^ i))), (0, .ref h), (2, .int (nI b))]) hx hb dX0_productByCoefficients_84 hl (by decide) rfl (fun ls hl => ?_)
        refine lv_iinc (v := (nI (j + 1))) (lv' := [(6, .int (nI (j + 1))), (5, .int (nI ((b / p ^ j) / p))), (4, .int (nI i)), (3, .int (nI (a / p ^ i))), (0, .ref h), (2, .int (nI b))]) hx hb dX0_productByCoefficients_86 hl (k := 1) rfl (nv_inc _) (by decide) rfl (fun ls hl => ?_)
        refine lv_goto (tgt := 41) hx hb dX0_productByCoefficients_89 (by decide) ?_
        rw [fz_div_succ] at hl
        exact ih2 _ H locs ls ⟨by rw [fz_cv_step]; exact fz_upd_cv hg hsm, by rw [fz_cv_step]; exact fz_bd_mono (fz_bd_add hbd (by omega)) (by omega), hP, hS, lv_sub hl [0, 1, 2, 3, 4, 5] rfl⟩
  · obtain ⟨hz, hP, hS, hl⟩ := hI
    refine lv_iload_n hx hb dX0_productByCoefficients_2 rfl (lv_at hl 0 rfl) ?_
    refine lv_bipush (v := nI 12) hx hb dX0_productByCoefficients_3 (by decide) ?_
    refine lv_icmp_ge (tgt := 21) hx hb dX0_productByCoefficients_5 (by decide) (fun c_ => False.elim ((nI_ge hi (by omega)) c_)) (fun _ => ?_)
    refine lv_aload_n hx hb dX0_productByCoefficients_8 rfl (lv_at hl 1 rfl) ?_
    refine va_get (D := D) (ci := 0) (v := .ref h3) (C := RX0) (T := TX0) (N := 6) hx hb hts in_X0 hown hK hP 0 rfl rfl 5 (by decide) (hts _ q45) (fun _ h9 => h9) rfl dX0_productByCoefficients_9 ?_
    refine lv_iload_n hx hb dX0_productByCoefficients_12 rfl (lv_at hl 0 rfl) ?_
    refine lv_iconst (v := nI 0) hx hb dX0_productByCoefficients_13 (by decide) ?_
    refine nv_ast hx hb hK hP (fz_dX hne) hS 3 2 rfl rfl hi (by decide) dX0_productByCoefficients_14 (fun H locs hP hS => ?_)
    have hP : va_P D vwCl (fz_wX h h1 h2 h3 d1 d2 d3 q p k f1 f2 ((upd g i ((nI 0))))) H := hP
    refine lv_iinc (v := (nI (i + 1))) (lv' := [(3, .int (nI (i + 1))), (0, .ref h), (1, .int (nI a)), (2, .int (nI b))]) hx hb dX0_productByCoefficients_15 hl (k := 0) rfl (nv_inc _) (by decide) rfl (fun ls hl => ?_)
    refine lv_goto (tgt := 2) hx hb dX0_productByCoefficients_18 (by decide) ?_
    exact ih _ H locs ls ⟨fun j hj => by
        by_cases e : j = i
        · rw [e, pk_us]
        · rw [pk_un e]; exact hz j (by omega), hP, hS, lv_sub hl [0, 1, 2, 3] rfl⟩
end
section
/-! FieldTower: the methods that write: makesAll, build, use -/
set_option maxHeartbeats 4000000 in
set_option maxRecDepth 100000 in
theorem mX0_makesAll (l : Launch) {D : va_G} {h h1 h2 h3 : Nat} {d1 d2 d3 : ClassId} {q p k : Nat} {f1 f2 f3 : Nat → Int32} (hne : fz_nX h h1 h2 h3) (hm : fz_Ok q p k) {b : Nat} (hb1 : b < 2 ^ 31) : Met l yX0_makesAll (ws_ yX0_makesAll cX0_makesAll 4 (some .boolean)) ({ frames := 1, cells := 0, slots := 0, locals := 26 }) (va_Pc [.ref h, .int (nI b)] (fz_BX D h h1 h2 h3 d1 d2 d3 q p k f1 f2 f3)) (va_Qi (fun (r : Int32) (g : (Nat → Int32) × (Nat → Int32) × (Nat → Int32)) => (r = nI 0 ∧ ∃ n, 0 < n ∧ n < q - 1 ∧ fz_sq p k b n = 1) ∨ (r = nI 1 ∧ (∀ j, 0 < j → j < q - 1 → fz_sq p k b j ≠ 1) ∧ (∀ j, j < q - 1 → g.1 j = nI (fz_sq p k b j)) ∧ (∀ j, j < q - 1 → (∀ i, i < q - 1 → fz_sq p k b i = fz_sq p k b j → i = j) → g.2.1 (fz_sq p k b j) = nI j))) (fun g t => va_P D vwCl (fz_wX h h1 h2 h3 d1 d2 d3 q p k g.1 g.2.1 g.2.2) t.heap) (fz_AX h h1 h2 h3)) 0 0 (fz_AX h h1 h2 h3) := by
  obtain ⟨hp2, hp3, hk4, hk6, hq64, hq81, hpk⟩ := fz_facts hm
  refine Met.ofW (cc := cX0_makesAll) (maxL := 4) (ret := (some .boolean)) (by decide) rfl ?_
  intro P e s m args below meth c s₁ B hml hv
  obtain ⟨rfl, hP, hK⟩ := hv
  have hx := B.exec
  have hb := B.bytes
  have hr := B.returns
  have hts := atoms_spec (ws := ws_ yX0_makesAll cX0_makesAll 4 (some .boolean)) B.pre
  have hts : ∀ w ∈ lw_all, w.before _ s = true := fun w h => hts w (List.mem_cons_of_mem _ h)
  have hown : s.vm.findClass RX0 = some m.cls := findClass_of_methodNamed B.named
  have hlocks := B.notSynchronized
  have hl := lv_entry ([.ref h, .int (nI b)]) (n := 4) (Nat.le_of_ble_eq_true rfl)
  rw [lg_entry_eq]
  generalize (lg_sl ([.ref h, .int (nI b)]) ++ List.replicate (4 - (lg_sl ([.ref h, .int (nI b)])).length) Slot.unset).toArray = ls at hl ⊢
  have hl : lv_has ls 4 [(0, .ref h), (1, .int (nI b))] := hl
  have hS : va_S (fz_AX h h1 h2 h3) s.heap s.heap [] := va_S.rf
  refine lv_iconst (v := nI 1) hx hb dX0_makesAll_0 (by decide) ?_
  refine lv_istore_n (lv' := [(2, .int (nI 1)), (0, .ref h), (1, .int (nI b))]) hx hb dX0_makesAll_1 rfl hl (by decide) rfl (fun ls hl => ?_)
  refine lv_iconst (v := nI 0) hx hb dX0_makesAll_2 (by decide) ?_
  refine lv_istore_n (lv' := [(3, .int (nI 0)), (2, .int (nI 1)), (0, .ref h), (1, .int (nI b))]) hx hb dX0_makesAll_3 rfl hl (by decide) rfl (fun ls hl => ?_)
  refine fz_loopH (G := ((Nat → Int32) × (Nat → Int32) × (Nat → Int32))) (q - 1) (fun n g H locs ls => (∀ j, j < n → g.1 j = nI (fz_sq p k b j)) ∧ (∀ j, j < n → (∀ i, i < n → fz_sq p k b i = fz_sq p k b j → i = j) → g.2.1 (fz_sq p k b j) = nI j) ∧ (∀ j, 0 < j → j < n → fz_sq p k b j ≠ 1) ∧ va_P D vwCl (fz_wX h h1 h2 h3 d1 d2 d3 q p k g.1 g.2.1 g.2.2) H ∧ va_S (fz_AX h h1 h2 h3) s.heap H locs ∧ lv_has ls 4 [(3, .int (nI n)), (2, .int (nI (fz_sq p k b n))), (1, .int (nI b)), (0, .ref h)]) (fun g H locs ls hI => ?_) (fun n hn ih g H locs ls hI => ?_) 0 (Nat.zero_le _) (f1, f2, f3) _ _ ls ⟨fun j hj => absurd hj (Nat.not_lt_zero j), fun j hj => absurd hj (Nat.not_lt_zero j), fun j _ hj => absurd hj (Nat.not_lt_zero j), hP, hS, lv_sub hl [0, 1, 3, 2] rfl⟩
  · obtain ⟨u, v, w⟩ := g
    obtain ⟨hu, hv, hq1, hP, hS, hl⟩ := hI
    have hP : va_P D vwCl (fz_wX h h1 h2 h3 d1 d2 d3 q p k u v w) H := hP
    refine lv_iload_n hx hb dX0_makesAll_4 rfl (lv_at hl 0 rfl) ?_
    refine lv_aload_n hx hb dX0_makesAll_5 rfl (lv_at hl 3 rfl) ?_
    refine va_get (D := D) (ci := 0) (v := .int (nI q)) (C := RX0) (T := TX0) (N := 6) hx hb hts in_X0 hown hK hP 0 rfl rfl 0 (by decide) (hts _ q40) (fun _ h9 => h9) rfl dX0_makesAll_6 ?_
    refine lv_iconst (v := nI 1) hx hb dX0_makesAll_9 (by decide) ?_
    refine nv_isub hx hb dX0_makesAll_10 (by omega) ?_
    refine lv_icmp_ge (tgt := 52) hx hb dX0_makesAll_11 (by decide) (fun _ => ?_) (fun c_ => False.elim ((fun z => z (nI_le (Nat.le_refl (q - 1)) (by omega))) c_))
    refine lv_iconst (v := nI 1) hx hb dX0_makesAll_52 (by decide) ?_
    exact W.zret (v := (nI 1)) hx hb hr rfl (fun t ht hW => ⟨⟨_, (u, v, w), rfl, (Or.inr ⟨rfl, hq1, hu, hv⟩), by show va_P _ _ _ t.heap; rw [ht]; exact hP⟩, hS.F ht⟩) hS.2.2 dX0_makesAll_53
  · obtain ⟨u, v, w⟩ := g
    obtain ⟨hu, hv, hq1, hP, hS, hl⟩ := hI
    have hP : va_P D vwCl (fz_wX h h1 h2 h3 d1 d2 d3 q p k u v w) H := hP
    have hsq := fz_sq_lt hm b n
    by_cases hn0 : n = 0
    · refine lv_iload_n hx hb dX0_makesAll_4 rfl (lv_at hl 0 rfl) ?_
      refine lv_aload_n hx hb dX0_makesAll_5 rfl (lv_at hl 3 rfl) ?_
      refine va_get (D := D) (ci := 0) (v := .int (nI q)) (C := RX0) (T := TX0) (N := 6) hx hb hts in_X0 hown hK hP 0 rfl rfl 0 (by decide) (hts _ q40) (fun _ h9 => h9) rfl dX0_makesAll_6 ?_
      refine lv_iconst (v := nI 1) hx hb dX0_makesAll_9 (by decide) ?_
      refine nv_isub hx hb dX0_makesAll_10 (by omega) ?_
      refine lv_icmp_ge (tgt := 52) hx hb dX0_makesAll_11 (by decide) (fun c_ => False.elim ((nI_ge hn (by omega)) c_)) (fun _ => ?_)
      refine lv_iload_n hx hb dX0_makesAll_14 rfl (lv_at hl 0 rfl) ?_
      refine lv_if_le (tgt := 25) hx hb dX0_makesAll_15 (by decide) (fun _ => ?_) (fun c_ => False.elim ((fun z => z (by rw [hn0]; exact Int32.le_refl 0)) c_))
      refine lv_aload_n hx hb dX0_makesAll_25 rfl (lv_at hl 3 rfl) ?_
      refine va_get (D := D) (ci := 0) (v := .ref h1) (C := RX0) (T := TX0) (N := 6) hx hb hts in_X0 hown hK hP 0 rfl rfl 3 (by decide) (hts _ q43) (fun _ h9 => h9) rfl dX0_makesAll_26 ?_
      refine lv_iload_n hx hb dX0_makesAll_29 rfl (lv_at hl 0 rfl) ?_
      refine lv_iload_n hx hb dX0_makesAll_30 rfl (lv_at hl 1 rfl) ?_
      refine nv_ast hx hb hK hP (fz_dX hne) hS 1 0 rfl rfl (by omega) (by decide) dX0_makesAll_31 (fun H locs hP hS => ?_)
      have hP : va_P D vwCl (fz_wX h h1 h2 h3 d1 d2 d3 q p k ((upd u n ((nI (fz_sq p k b n))))) v w) H := hP
      refine lv_aload_n hx hb dX0_makesAll_32 rfl (lv_at hl 3 rfl) ?_
      refine va_get (D := D) (ci := 0) (v := .ref h2) (C := RX0) (T := TX0) (N := 6) hx hb hts in_X0 hown hK hP 0 rfl rfl 4 (by decide) (hts _ q44) (fun _ h9 => h9) rfl dX0_makesAll_33 ?_
      refine lv_iload_n hx hb dX0_makesAll_36 rfl (lv_at hl 1 rfl) ?_
      refine lv_iload_n hx hb dX0_makesAll_37 rfl (lv_at hl 0 rfl) ?_
      refine nv_ast hx hb hK hP (fz_dX hne) hS 2 1 rfl rfl (by omega) (by decide) dX0_makesAll_38 (fun H locs hP hS => ?_)
      have hP : va_P D vwCl (fz_wX h h1 h2 h3 d1 d2 d3 q p k ((upd u n ((nI (fz_sq p k b n))))) ((upd v (fz_sq p k b n) ((nI n)))) w) H := hP
      refine lv_aload_n hx hb dX0_makesAll_39 rfl (lv_at hl 3 rfl) ?_
      refine lv_iload_n hx hb dX0_makesAll_40 rfl (lv_at hl 1 rfl) ?_
      refine lv_iload_n hx hb dX0_makesAll_41 rfl (lv_at hl 2 rfl) ?_
      refine fz_callXm (As := [.int (nI (fz_sq p k b n)), .int (nI b)]) (rest := []) ⟨hx, hb, hml, hown, hts⟩ (mX0_productByCoefficients l hne hm (a := fz_sq p k b n) (b := b) (by omega) hb1) (cwV 2 hts (lw_V q36 q38 qs2 q18 q39) rfl rfl rfl cd_X0_productByCoefficients ⟨Nat.le_of_ble_eq_true rfl, Nat.le_of_ble_eq_true rfl⟩) hP hK hS (fun _ z => z) rfl hl.1 rfl (Nat.le_of_ble_eq_true rfl) dX0_makesAll_42 ⟨Nat.zero_le _, Nat.zero_le _⟩ (fun r_ g_ H locs hr_ hP _ hS => ?_)
      have hP : va_P D vwCl (fz_wX h h1 h2 h3 d1 d2 d3 q p k ((upd u n ((nI (fz_sq p k b n))))) ((upd v (fz_sq p k b n) ((nI n)))) g_) H := hP
      have hr_ : r_ = nI (fz_sq p k b (n + 1)) := hr_
      subst hr_
      refine lv_istore_n (lv' := [(2, .int (nI (fz_sq p k b (n + 1)))), (3, .int (nI n)), (1, .int (nI b)), (0, .ref h)]) hx hb dX0_makesAll_45 rfl hl (by decide) rfl (fun ls hl => ?_)
      refine lv_iinc (v := (nI (n + 1))) (lv' := [(3, .int (nI (n + 1))), (2, .int (nI (fz_sq p k b (n + 1)))), (1, .int (nI b)), (0, .ref h)]) hx hb dX0_makesAll_46 hl (k := 1) rfl (nv_inc _) (by decide) rfl (fun ls hl => ?_)
      refine lv_goto (tgt := 4) hx hb dX0_makesAll_49 (by decide) ?_
      exact ih (upd u n (nI (fz_sq p k b n)), upd v (fz_sq p k b n) (nI n), g_) H locs ls ⟨fz_mk1 (sq := fz_sq p k b) hu, fz_mk2 (sq := fz_sq p k b) hv, fun j z1 z2 => by
          by_cases e : j = n
          · omega
          · exact hq1 j z1 (by omega), hP, hS, lv_sub hl [0, 1, 2, 3] rfl⟩
    · by_cases hx1 : fz_sq p k b n = 1
      · refine lv_iload_n hx hb dX0_makesAll_4 rfl (lv_at hl 0 rfl) ?_
        refine lv_aload_n hx hb dX0_makesAll_5 rfl (lv_at hl 3 rfl) ?_
        refine va_get (D := D) (ci := 0) (v := .int (nI q)) (C := RX0) (T := TX0) (N := 6) hx hb hts in_X0 hown hK hP 0 rfl rfl 0 (by decide) (hts _ q40) (fun _ h9 => h9) rfl dX0_makesAll_6 ?_
        refine lv_iconst (v := nI 1) hx hb dX0_makesAll_9 (by decide) ?_
        refine nv_isub hx hb dX0_makesAll_10 (by omega) ?_
        refine lv_icmp_ge (tgt := 52) hx hb dX0_makesAll_11 (by decide) (fun c_ => False.elim ((nI_ge hn (by omega)) c_)) (fun _ => ?_)
        refine lv_iload_n hx hb dX0_makesAll_14 rfl (lv_at hl 0 rfl) ?_
        refine lv_if_le (tgt := 25) hx hb dX0_makesAll_15 (by decide) (fun c_ => False.elim ((nI_nle (by omega) (by omega)) c_)) (fun _ => ?_)
        refine lv_iload_n hx hb dX0_makesAll_18 rfl (lv_at hl 1 rfl) ?_
        refine lv_iconst (v := nI 1) hx hb dX0_makesAll_19 (by decide) ?_
        refine lv_icmp_ne (tgt := 25) hx hb dX0_makesAll_20 (by decide) (fun c_ => False.elim ((fun z => z (by rw [hx1])) c_)) (fun _ => ?_)
        refine lv_iconst (v := nI 0) hx hb dX0_makesAll_23 (by decide) ?_
        exact W.zret (v := (nI 0)) hx hb hr rfl (fun t ht hW => ⟨⟨_, (u, v, w), rfl, (Or.inl ⟨rfl, n, by omega, hn, hx1⟩), by show va_P _ _ _ t.heap; rw [ht]; exact hP⟩, hS.F ht⟩) hS.2.2 dX0_makesAll_24
      · refine lv_iload_n hx hb dX0_makesAll_4 rfl (lv_at hl 0 rfl) ?_
        refine lv_aload_n hx hb dX0_makesAll_5 rfl (lv_at hl 3 rfl) ?_
        refine va_get (D := D) (ci := 0) (v := .int (nI q)) (C := RX0) (T := TX0) (N := 6) hx hb hts in_X0 hown hK hP 0 rfl rfl 0 (by decide) (hts _ q40) (fun _ h9 => h9) rfl dX0_makesAll_6 ?_
        refine lv_iconst (v := nI 1) hx hb dX0_makesAll_9 (by decide) ?_
        refine nv_isub hx hb dX0_makesAll_10 (by omega) ?_
        refine lv_icmp_ge (tgt := 52) hx hb dX0_makesAll_11 (by decide) (fun c_ => False.elim ((nI_ge hn (by omega)) c_)) (fun _ => ?_)
        refine lv_iload_n hx hb dX0_makesAll_14 rfl (lv_at hl 0 rfl) ?_
        refine lv_if_le (tgt := 25) hx hb dX0_makesAll_15 (by decide) (fun c_ => False.elim ((nI_nle (by omega) (by omega)) c_)) (fun _ => ?_)
        refine lv_iload_n hx hb dX0_makesAll_18 rfl (lv_at hl 1 rfl) ?_
        refine lv_iconst (v := nI 1) hx hb dX0_makesAll_19 (by decide) ?_
        refine lv_icmp_ne (tgt := 25) hx hb dX0_makesAll_20 (by decide) (fun _ => ?_) (fun c_ => False.elim ((fun y => (hx1 ((nI_eq (by omega) (by decide)).mp y))) c_))
        refine lv_aload_n hx hb dX0_makesAll_25 rfl (lv_at hl 3 rfl) ?_
        refine va_get (D := D) (ci := 0) (v := .ref h1) (C := RX0) (T := TX0) (N := 6) hx hb hts in_X0 hown hK hP 0 rfl rfl 3 (by decide) (hts _ q43) (fun _ h9 => h9) rfl dX0_makesAll_26 ?_
        refine lv_iload_n hx hb dX0_makesAll_29 rfl (lv_at hl 0 rfl) ?_
        refine lv_iload_n hx hb dX0_makesAll_30 rfl (lv_at hl 1 rfl) ?_
        refine nv_ast hx hb hK hP (fz_dX hne) hS 1 0 rfl rfl (by omega) (by decide) dX0_makesAll_31 (fun H locs hP hS => ?_)
        have hP : va_P D vwCl (fz_wX h h1 h2 h3 d1 d2 d3 q p k ((upd u n ((nI (fz_sq p k b n))))) v w) H := hP
        refine lv_aload_n hx hb dX0_makesAll_32 rfl (lv_at hl 3 rfl) ?_
        refine va_get (D := D) (ci := 0) (v := .ref h2) (C := RX0) (T := TX0) (N := 6) hx hb hts in_X0 hown hK hP 0 rfl rfl 4 (by decide) (hts _ q44) (fun _ h9 => h9) rfl dX0_makesAll_33 ?_
        refine lv_iload_n hx hb dX0_makesAll_36 rfl (lv_at hl 1 rfl) ?_
        refine lv_iload_n hx hb dX0_makesAll_37 rfl (lv_at hl 0 rfl) ?_
        refine nv_ast hx hb hK hP (fz_dX hne) hS 2 1 rfl rfl (by omega) (by decide) dX0_makesAll_38 (fun H locs hP hS => ?_)
        have hP : va_P D vwCl (fz_wX h h1 h2 h3 d1 d2 d3 q p k ((upd u n ((nI (fz_sq p k b n))))) ((upd v (fz_sq p k b n) ((nI n)))) w) H := hP
        refine lv_aload_n hx hb dX0_makesAll_39 rfl (lv_at hl 3 rfl) ?_
        refine lv_iload_n hx hb dX0_makesAll_40 rfl (lv_at hl 1 rfl) ?_
        refine lv_iload_n hx hb dX0_makesAll_41 rfl (lv_at hl 2 rfl) ?_
        refine fz_callXm (As := [.int (nI (fz_sq p k b n)), .int (nI b)]) (rest := []) ⟨hx, hb, hml, hown, hts⟩ (mX0_productByCoefficients l hne hm (a := fz_sq p k b n) (b := b) (by omega) hb1) (cwV 2 hts (lw_V q36 q38 qs2 q18 q39) rfl rfl rfl cd_X0_productByCoefficients ⟨Nat.le_of_ble_eq_true rfl, Nat.le_of_ble_eq_true rfl⟩) hP hK hS (fun _ z => z) rfl hl.1 rfl (Nat.le_of_ble_eq_true rfl) dX0_makesAll_42 ⟨Nat.zero_le _, Nat.zero_le _⟩ (fun r_ g_ H locs hr_ hP _ hS => ?_)
        have hP : va_P D vwCl (fz_wX h h1 h2 h3 d1 d2 d3 q p k ((upd u n ((nI (fz_sq p k b n))))) ((upd v (fz_sq p k b n) ((nI n)))) g_) H := hP
        have hr_ : r_ = nI (fz_sq p k b (n + 1)) := hr_
        subst hr_
        refine lv_istore_n (lv' := [(2, .int (nI (fz_sq p k b (n + 1)))), (3, .int (nI n)), (1, .int (nI b)), (0, .ref h)]) hx hb dX0_makesAll_45 rfl hl (by decide) rfl (fun ls hl => ?_)
        refine lv_iinc (v := (nI (n + 1))) (lv' := [(3, .int (nI (n + 1))), (2, .int (nI (fz_sq p k b (n + 1)))), (1, .int (nI b)), (0, .ref h)]) hx hb dX0_makesAll_46 hl (k := 1) rfl (nv_inc _) (by decide) rfl (fun ls hl => ?_)
        refine lv_goto (tgt := 4) hx hb dX0_makesAll_49 (by decide) ?_
        exact ih (upd u n (nI (fz_sq p k b n)), upd v (fz_sq p k b n) (nI n), g_) H locs ls ⟨fz_mk1 (sq := fz_sq p k b) hu, fz_mk2 (sq := fz_sq p k b) hv, fun j z1 z2 => by
            by_cases e : j = n
            · rw [e]; exact hx1
            · exact hq1 j z1 (by omega), hP, hS, lv_sub hl [0, 1, 2, 3] rfl⟩
set_option maxHeartbeats 4000000 in
set_option maxRecDepth 100000 in
theorem mX0_build (l : Launch) {D : va_G} {h h1 h2 h3 : Nat} {d1 d2 d3 : ClassId} {q p k q0 p0 k0 : Nat} {f1 f2 f3 : Nat → Int32} (hne : fz_nX h h1 h2 h3) (hm : fz_Ok q p k) : Met l yX0_build (ws_ yX0_build cX0_build 6 none) ({ frames := 2, cells := 0, slots := 0, locals := 49 }) (va_Pc [.ref h, .int (nI q), .int (nI p), .int (nI k)] (fz_BX D h h1 h2 h3 d1 d2 d3 q0 p0 k0 f1 f2 f3)) (va_Qv (fun g : (Nat → Int32) × (Nat → Int32) × (Nat → Int32) => fz_XOk q g.1 g.2.1) (fun g t => va_P D vwCl (fz_wX h h1 h2 h3 d1 d2 d3 q p k g.1 g.2.1 g.2.2) t.heap) (fz_AX h h1 h2 h3)) 0 0 (fz_AX h h1 h2 h3) := by
  obtain ⟨hp2, hp3, hk4, hk6, hq64, hq81, hpk⟩ := fz_facts hm
  refine Met.ofW (cc := cX0_build) (maxL := 6) (ret := none) (by decide) rfl ?_
  intro P e s m args below meth c s₁ B hml hv
  obtain ⟨rfl, hP, hK⟩ := hv
  have hx := B.exec
  have hb := B.bytes
  have hr := B.returns
  have hts := atoms_spec (ws := ws_ yX0_build cX0_build 6 none) B.pre
  have hts : ∀ w ∈ lw_all, w.before _ s = true := fun w h => hts w (List.mem_cons_of_mem _ h)
  have hown : s.vm.findClass RX0 = some m.cls := findClass_of_methodNamed B.named
  have hlocks := B.notSynchronized
  have hl := lv_entry ([.ref h, .int (nI q), .int (nI p), .int (nI k)]) (n := 6) (Nat.le_of_ble_eq_true rfl)
  rw [lg_entry_eq]
  generalize (lg_sl ([.ref h, .int (nI q), .int (nI p), .int (nI k)]) ++ List.replicate (6 - (lg_sl ([.ref h, .int (nI q), .int (nI p), .int (nI k)])).length) Slot.unset).toArray = ls at hl ⊢
  have hl : lv_has ls 6 [(0, .ref h), (1, .int (nI q)), (2, .int (nI p)), (3, .int (nI k))] := hl
  have hS : va_S (fz_AX h h1 h2 h3) s.heap s.heap [] := va_S.rf
  refine lv_aload_n hx hb dX0_build_0 rfl (lv_at hl 0 rfl) ?_
  refine lv_iload_n hx hb dX0_build_1 rfl (lv_at hl 1 rfl) ?_
  refine va_put (D := D) (ci := 0) (v := .int (nI q)) (ty := .int) (C := RX0) (T := TX0) (N := 6) hx hb hts in_X0 tyX0 tyX0_ok nmX0 hown hK hP (fz_dX hne) hS 0 rfl rfl 0 (by decide) (hts _ q40) (fun _ h9 => h9) rfl (by decide +kernel) rfl rfl (Nat.le_of_ble_eq_true rfl) dX0_build_2 (fun H locs hP hD hS => ?_)
  have hP : va_P D vwCl (fz_wX h h1 h2 h3 d1 d2 d3 q p0 k0 f1 f2 f3) H := hP
  refine lv_aload_n hx hb dX0_build_5 rfl (lv_at hl 0 rfl) ?_
  refine lv_iload_n hx hb dX0_build_6 rfl (lv_at hl 2 rfl) ?_
  refine va_put (D := D) (ci := 0) (v := .int (nI p)) (ty := .int) (C := RX0) (T := TX0) (N := 6) hx hb hts in_X0 tyX0 tyX0_ok nmX0 hown hK hP (fz_dX hne) hS 0 rfl rfl 1 (by decide) (hts _ q41) (fun _ h9 => h9) rfl (by decide +kernel) rfl rfl (Nat.le_of_ble_eq_true rfl) dX0_build_7 (fun H locs hP hD hS => ?_)
  have hP : va_P D vwCl (fz_wX h h1 h2 h3 d1 d2 d3 q p k0 f1 f2 f3) H := hP
  refine lv_aload_n hx hb dX0_build_10 rfl (lv_at hl 0 rfl) ?_
  refine lv_iload_n hx hb dX0_build_11 rfl (lv_at hl 3 rfl) ?_
  refine va_put (D := D) (ci := 0) (v := .int (nI k)) (ty := .int) (C := RX0) (T := TX0) (N := 6) hx hb hts in_X0 tyX0 tyX0_ok nmX0 hown hK hP (fz_dX hne) hS 0 rfl rfl 2 (by decide) (hts _ q42) (fun _ h9 => h9) rfl (by decide +kernel) rfl rfl (Nat.le_of_ble_eq_true rfl) dX0_build_12 (fun H locs hP hD hS => ?_)
  have hP : va_P D vwCl (fz_wX h h1 h2 h3 d1 d2 d3 q p k f1 f2 f3) H := hP
  refine lv_iconst (v := nI 1) hx hb dX0_build_15 (by decide) ?_
  refine lv_istore (lv' := [(4, .int (nI 1)), (0, .ref h), (1, .int (nI q)), (2, .int (nI p)), (3, .int (nI k))]) hx hb dX0_build_16 hl (by decide) rfl (fun ls hl => ?_)
  refine lv_iconst (v := nI 0) hx hb dX0_build_18 (by decide) ?_
  refine lv_istore (lv' := [(5, .int (nI 0)), (4, .int (nI 1)), (0, .ref h), (1, .int (nI q)), (2, .int (nI p)), (3, .int (nI k))]) hx hb dX0_build_19 hl (by decide) rfl (fun ls hl => ?_)
  refine fz_loopH (G := ((Nat → Int32) × (Nat → Int32) × (Nat → Int32))) (p - 1) (fun i g H locs ls => va_P D vwCl (fz_wX h h1 h2 h3 d1 d2 d3 q p k g.1 g.2.1 g.2.2) H ∧ va_S (fz_AX h h1 h2 h3) s.heap H locs ∧ lv_has ls 6 [(5, .int (nI i)), (4, .int (nI (i + 1))), (0, .ref h)]) (fun g H locs ls hI => ?_) (fun i hi ih g H locs ls hI => ?_) 0 (Nat.zero_le _) (f1, f2, f3) _ _ ls ⟨hP, hS, lv_sub hl [0, 1, 2] rfl⟩
  · obtain ⟨u, v, w⟩ := g
    obtain ⟨hP, hS, hl⟩ := hI
    have hP : va_P D vwCl (fz_wX h h1 h2 h3 d1 d2 d3 q p k u v w) H := hP
    rw [show p - 1 + 1 = p by omega] at hl
    refine lv_iload hx hb dX0_build_21 (lv_at hl 0 rfl) ?_
    refine lv_bipush (v := nI 81) hx hb dX0_build_23 (by decide) ?_
    refine lv_icmp_ge (tgt := 46) hx hb dX0_build_25 (by decide) (fun c_ => False.elim ((nI_ge (show p - 1 < 81 by omega) (by decide)) c_)) (fun _ => ?_)
    refine lv_aload_n hx hb dX0_build_28 rfl (lv_at hl 2 rfl) ?_
    refine lv_iload hx hb dX0_build_29 (lv_at hl 1 rfl) ?_
    refine fz_callXm (As := [.int (nI p)]) (rest := []) ⟨hx, hb, hml, hown, hts⟩ (mX0_makesAll l hne hm (b := p) (by omega)) (cwV 1 hts (lw_V q32 q34 qs1 q18 q35) rfl rfl rfl cd_X0_makesAll ⟨Nat.le_of_ble_eq_true rfl, Nat.le_of_ble_eq_true rfl⟩) hP hK hS (fun _ z => z) rfl hl.1 rfl (Nat.le_of_ble_eq_true rfl) dX0_build_31 ⟨Nat.zero_le _, Nat.zero_le _⟩ (fun r_ g_ H locs hr_ hP _ hS => ?_)
    obtain ⟨g1, g2, g3⟩ := g_
    have hP : va_P D vwCl (fz_wX h h1 h2 h3 d1 d2 d3 q p k g1 g2 g3) H := hP
    have hno : ¬ ∃ n, 0 < n ∧ n < q - 1 ∧ fz_sq p k p n = 1 := fun ⟨n, z1, z2, z3⟩ => fz_pw_ne1 hm z1 z2 (by rw [← fz_sq_pw hm n z2]; exact z3)
    obtain ⟨-, hz⟩ | ⟨hr_, -, hu, hv⟩ := hr_
    · exact absurd hz hno
    subst hr_
    refine lv_if_ne (tgt := 46) hx hb dX0_build_34 (by decide) (fun _ => ?_) (fun c_ => False.elim ((fun z => absurd z (by decide)) c_))
    refine lv_aload_n hx hb dX0_build_46 rfl (lv_at hl 2 rfl) ?_
    refine va_get (D := D) (ci := 0) (v := .int (nI q)) (C := RX0) (T := TX0) (N := 6) hx hb hts in_X0 hown hK hP 0 rfl rfl 0 (by decide) (hts _ q40) (fun _ h9 => h9) rfl dX0_build_47 ?_
    refine lv_iconst (v := nI 1) hx hb dX0_build_50 (by decide) ?_
    refine nv_isub hx hb dX0_build_51 (by omega) ?_
    refine lv_istore (lv' := [(5, .int (nI (q - 1))), (4, .int (nI p)), (0, .ref h)]) hx hb dX0_build_52 hl (by decide) rfl (fun ls hl => ?_)
    have hu : ∀ j, j < q - 1 → g1 j = nI (fz_sq p k p j) := hu
    have hu0 : ∀ n, n < q - 1 → g1 n = nI (fz_pw q (n % (q - 1))) := fun n z => by rw [hu n z, fz_sq_pw hm n z, Nat.mod_eq_of_lt z]
    refine fz_loopH (G := Nat → Int32) (q - 1) (fun i u H locs ls => (∀ n, n < q - 1 + i → u n = nI (fz_pw q (n % (q - 1)))) ∧ va_P D vwCl (fz_wX h h1 h2 h3 d1 d2 d3 q p k u g2 g3) H ∧ va_S (fz_AX h h1 h2 h3) s.heap H locs ∧ lv_has ls 6 [(5, .int (nI (q - 1 + i))), (0, .ref h)]) (fun u H locs ls hI => ?_) (fun i hi ih u H locs ls hI => ?_) 0 (Nat.zero_le _) g1 _ _ ls ⟨hu0, hP, hS, lv_sub hl [0, 2] rfl⟩
    · obtain ⟨hu, hP, hS, hl⟩ := hI
      refine lv_iload hx hb dX0_build_54 (lv_at hl 0 rfl) ?_
      refine lv_iconst (v := nI 2) hx hb dX0_build_56 (by decide) ?_
      refine lv_aload_n hx hb dX0_build_57 rfl (lv_at hl 1 rfl) ?_
      refine va_get (D := D) (ci := 0) (v := .int (nI q)) (C := RX0) (T := TX0) (N := 6) hx hb hts in_X0 hown hK hP 0 rfl rfl 0 (by decide) (hts _ q40) (fun _ h9 => h9) rfl dX0_build_58 ?_
      refine nv_imul hx hb dX0_build_61 ?_
      refine lv_iconst (v := nI 2) hx hb dX0_build_62 (by decide) ?_
      refine nv_isub hx hb dX0_build_63 (by omega) ?_
      refine lv_icmp_ge (tgt := 94) hx hb dX0_build_64 (by decide) (fun _ => ?_) (fun c_ => False.elim ((fun z => z (nI_le (show 2 * q - 2 ≤ q - 1 + (q - 1) by omega) (by omega))) c_))
      exact W.vret hx hb hr (fun t ht hW => ⟨⟨(u, g2, g3), rfl, (fz_tab hm (fun n z => hu n (by omega)) hv), by show va_P _ _ _ t.heap; rw [ht]; exact hP⟩, hS.F ht⟩) hS.2.2 dX0_build_94
    · obtain ⟨hu, hP, hS, hl⟩ := hI
      refine lv_iload hx hb dX0_build_54 (lv_at hl 0 rfl) ?_
      refine lv_iconst (v := nI 2) hx hb dX0_build_56 (by decide) ?_
      refine lv_aload_n hx hb dX0_build_57 rfl (lv_at hl 1 rfl) ?_
      refine va_get (D := D) (ci := 0) (v := .int (nI q)) (C := RX0) (T := TX0) (N := 6) hx hb hts in_X0 hown hK hP 0 rfl rfl 0 (by decide) (hts _ q40) (fun _ h9 => h9) rfl dX0_build_58 ?_
      refine nv_imul hx hb dX0_build_61 ?_
      refine lv_iconst (v := nI 2) hx hb dX0_build_62 (by decide) ?_
      refine nv_isub hx hb dX0_build_63 (by omega) ?_
      refine lv_icmp_ge (tgt := 94) hx hb dX0_build_64 (by decide) (fun c_ => False.elim ((nI_ge (show q - 1 + i < 2 * q - 2 by omega) (by omega)) c_)) (fun _ => ?_)
      refine lv_aload_n hx hb dX0_build_67 rfl (lv_at hl 1 rfl) ?_
      refine va_get (D := D) (ci := 0) (v := .ref h1) (C := RX0) (T := TX0) (N := 6) hx hb hts in_X0 hown hK hP 0 rfl rfl 3 (by decide) (hts _ q43) (fun _ h9 => h9) rfl dX0_build_68 ?_
      refine lv_iload hx hb dX0_build_71 (lv_at hl 0 rfl) ?_
      refine lv_aload_n hx hb dX0_build_73 rfl (lv_at hl 1 rfl) ?_
      refine va_get (D := D) (ci := 0) (v := .ref h1) (C := RX0) (T := TX0) (N := 6) hx hb hts in_X0 hown hK hP 0 rfl rfl 3 (by decide) (hts _ q43) (fun _ h9 => h9) rfl dX0_build_74 ?_
      refine lv_iload hx hb dX0_build_77 (lv_at hl 0 rfl) ?_
      refine lv_aload_n hx hb dX0_build_79 rfl (lv_at hl 1 rfl) ?_
      refine va_get (D := D) (ci := 0) (v := .int (nI q)) (C := RX0) (T := TX0) (N := 6) hx hb hts in_X0 hown hK hP 0 rfl rfl 0 (by decide) (hts _ q40) (fun _ h9 => h9) rfl dX0_build_80 ?_
      refine lv_isub hx hb dX0_build_83 ?_
      refine lv_iconst (v := nI 1) hx hb dX0_build_84 (by decide) ?_
      refine lv_iadd hx hb dX0_build_85 ?_
      refine fz_top (y := (nI i)) (fz_wrap (by omega)) ?_
      refine nv_ald hx hb hK hP 1 0 rfl rfl (by omega) (by decide) (hu i (by omega)) dX0_build_86 ?_
      refine nv_ast hx hb hK hP (fz_dX hne) hS 1 0 rfl rfl (by omega) (by decide) dX0_build_87 (fun H locs hP hS => ?_)
      have hP : va_P D vwCl (fz_wX h h1 h2 h3 d1 d2 d3 q p k ((upd u (q - 1 + i) ((nI (fz_pw q (i % (q - 1))))))) g2 g3) H := hP
      refine lv_iinc (v := (nI (q - 1 + (i + 1)))) (lv' := [(5, .int (nI (q - 1 + (i + 1)))), (0, .ref h)]) hx hb dX0_build_88 hl (k := 0) rfl (nv_inc _) (by decide) rfl (fun ls hl => ?_)
      refine lv_goto (tgt := 54) hx hb dX0_build_91 (by decide) ?_
      exact ih _ H locs ls ⟨fun n z => by
          by_cases e : n = q - 1 + i
          · rw [e, pk_us, Nat.add_mod_left]
          · rw [pk_un e]; exact hu n (by omega), hP, hS, lv_sub hl [0, 1] rfl⟩
  · obtain ⟨u, v, w⟩ := g
    obtain ⟨hP, hS, hl⟩ := hI
    have hP : va_P D vwCl (fz_wX h h1 h2 h3 d1 d2 d3 q p k u v w) H := hP
    refine lv_iload hx hb dX0_build_21 (lv_at hl 0 rfl) ?_
    refine lv_bipush (v := nI 81) hx hb dX0_build_23 (by decide) ?_
    refine lv_icmp_ge (tgt := 46) hx hb dX0_build_25 (by decide) (fun c_ => False.elim ((nI_ge (show i < 81 by omega) (by decide)) c_)) (fun _ => ?_)
    refine lv_aload_n hx hb dX0_build_28 rfl (lv_at hl 2 rfl) ?_
    refine lv_iload hx hb dX0_build_29 (lv_at hl 1 rfl) ?_
    refine fz_callXm (As := [.int (nI (i + 1))]) (rest := []) ⟨hx, hb, hml, hown, hts⟩ (mX0_makesAll l hne hm (b := i + 1) (by omega)) (cwV 1 hts (lw_V q32 q34 qs1 q18 q35) rfl rfl rfl cd_X0_makesAll ⟨Nat.le_of_ble_eq_true rfl, Nat.le_of_ble_eq_true rfl⟩) hP hK hS (fun _ z => z) rfl hl.1 rfl (Nat.le_of_ble_eq_true rfl) dX0_build_31 ⟨Nat.zero_le _, Nat.zero_le _⟩ (fun r_ g_ H locs hr_ hP _ hS => ?_)
    obtain ⟨g1, g2, g3⟩ := g_
    have hP : va_P D vwCl (fz_wX h h1 h2 h3 d1 d2 d3 q p k g1 g2 g3) H := hP
    obtain ⟨n0, z1, z2, z3⟩ := fz_sq_no hm hi
    have hr_ : r_ = nI 0 := by
        rcases hr_ with ⟨z, -⟩ | ⟨-, hz, -⟩
        · exact z
        · exact absurd z3 (hz n0 z1 z2)
    subst hr_
    refine lv_if_ne (tgt := 46) hx hb dX0_build_34 (by decide) (fun c_ => False.elim ((fun z => z rfl) c_)) (fun _ => ?_)
    refine lv_iinc (v := (nI (i + 1 + 1))) (lv' := [(4, .int (nI (i + 1 + 1))), (5, .int (nI i)), (0, .ref h)]) hx hb dX0_build_37 hl (k := 1) rfl (nv_inc _) (by decide) rfl (fun ls hl => ?_)
    refine lv_iinc (v := (nI (i + 1))) (lv' := [(5, .int (nI (i + 1))), (4, .int (nI (i + 1 + 1))), (0, .ref h)]) hx hb dX0_build_40 hl (k := 1) rfl (nv_inc _) (by decide) rfl (fun ls hl => ?_)
    refine lv_goto (tgt := 21) hx hb dX0_build_43 (by decide) ?_
    exact ih (g1, g2, g3) H locs ls ⟨hP, hS, lv_sub hl [0, 1, 2] rfl⟩
set_option maxHeartbeats 4000000 in
set_option maxRecDepth 100000 in
theorem mX0_use (l : Launch) {D : va_G} {h h1 h2 h3 : Nat} {d1 d2 d3 : ClassId} {q p k : Nat} {f1 f2 f3 : Nat → Int32} (hne : fz_nX h h1 h2 h3) (hT : fz_XOk q f1 f2) (a : Int32) : Met l yX0_use (ws_ yX0_use cX0_use 2 (some .int)) ({ frames := 3, cells := 0, slots := 0, locals := 74 }) (va_Pc [.ref h, .int a] (fz_BX D h h1 h2 h3 d1 d2 d3 q p k f1 f2 f3)) (va_Qi (fun (r : Int32) (g : (Nat → Int32) × (Nat → Int32) × (Nat → Int32)) => r = fz_ur a ∧ fz_XOk (fz_uq q a) g.1 g.2.1) (fun g t => va_P D vwCl (fz_wX h h1 h2 h3 d1 d2 d3 (fz_uq q a) (fz_up p a) (fz_uk k a) g.1 g.2.1 g.2.2) t.heap) (fz_AX h h1 h2 h3)) 0 0 (fz_AX h h1 h2 h3) := by
  refine Met.ofW (cc := cX0_use) (maxL := 2) (ret := (some .int)) (by decide) rfl ?_
  intro P e s m args below meth c s₁ B hml hv
  obtain ⟨rfl, hP, hK⟩ := hv
  have hx := B.exec
  have hb := B.bytes
  have hr := B.returns
  have hts := atoms_spec (ws := ws_ yX0_use cX0_use 2 (some .int)) B.pre
  have hts : ∀ w ∈ lw_all, w.before _ s = true := fun w h => hts w (List.mem_cons_of_mem _ h)
  have hown : s.vm.findClass RX0 = some m.cls := findClass_of_methodNamed B.named
  have hlocks := B.notSynchronized
  have hl := lv_entry ([.ref h, .int a]) (n := 2) (Nat.le_of_ble_eq_true rfl)
  rw [lg_entry_eq]
  generalize (lg_sl ([.ref h, .int a]) ++ List.replicate (2 - (lg_sl ([.ref h, .int a])).length) Slot.unset).toArray = ls at hl ⊢
  have hl : lv_has ls 2 [(0, .ref h), (1, .int a)] := hl
  have hS : va_S (fz_AX h h1 h2 h3) s.heap s.heap [] := va_S.rf
  by_cases ea : a = nI 64
  · subst ea
    have e1 : fz_uq q (nI 64) = 64 := by rw [fz_uq]; rfl
    have e2 : fz_up p (nI 64) = 2 := by rw [fz_up]; rfl
    have e3 : fz_uk k (nI 64) = 6 := by rw [fz_uk]; rfl
    refine lv_iload_n hx hb dX0_use_0 rfl (lv_at hl 1 rfl) ?_
    refine lv_bipush (v := nI 64) hx hb dX0_use_1 (by decide) ?_
    refine lv_icmp_eq (tgt := 14) hx hb dX0_use_3 (by decide) (fun _ => ?_) (fun c_ => False.elim ((fun z => z rfl) c_))
    refine lv_aload_n hx hb dX0_use_14 rfl (lv_at hl 0 rfl) ?_
    refine lv_iload_n hx hb dX0_use_15 rfl (lv_at hl 1 rfl) ?_
    refine lv_iload_n hx hb dX0_use_16 rfl (lv_at hl 1 rfl) ?_
    refine lv_bipush (v := nI 64) hx hb dX0_use_17 (by decide) ?_
    refine lv_icmp_ne (tgt := 26) hx hb dX0_use_19 (by decide) (fun c_ => False.elim ((fun z => z rfl) c_)) (fun _ => ?_)
    refine lv_iconst (v := nI 2) hx hb dX0_use_22 (by decide) ?_
    refine lv_goto (tgt := 27) hx hb dX0_use_23 (by decide) ?_
    refine lv_iload_n hx hb dX0_use_27 rfl (lv_at hl 1 rfl) ?_
    refine lv_bipush (v := nI 64) hx hb dX0_use_28 (by decide) ?_
    refine lv_icmp_ne (tgt := 38) hx hb dX0_use_30 (by decide) (fun c_ => False.elim ((fun z => z rfl) c_)) (fun _ => ?_)
    refine lv_bipush (v := nI 6) hx hb dX0_use_33 (by decide) ?_
    refine lv_goto (tgt := 39) hx hb dX0_use_35 (by decide) ?_
    refine fz_callXv (As := [.int (nI 64), .int (nI 2), .int (nI 6)]) (rest := []) ⟨hx, hb, hml, hown, hts⟩ (mX0_build l (q := 64) (p := 2) (k := 6) hne (Or.inl ⟨rfl, rfl, rfl⟩)) (cwV 3 hts (lw_V q28 q30 qs0 q18 q31) rfl rfl rfl cd_X0_build ⟨Nat.le_of_ble_eq_true rfl, Nat.le_of_ble_eq_true rfl⟩) hP hK hS (fun _ z => z) rfl hl.1 rfl (Nat.le_of_ble_eq_true rfl) dX0_use_39 ⟨Nat.zero_le _, Nat.zero_le _⟩ (fun g_ H locs hr_ hP _ hS => ?_)
    obtain ⟨g1, g2, g3⟩ := g_
    have hP : va_P D vwCl (fz_wX h h1 h2 h3 d1 d2 d3 64 2 6 g1 g2 g3) H := hP
    refine lv_iconst (v := nI 0) hx hb dX0_use_42 (by decide) ?_
    have hP : va_P D vwCl (fz_wX h h1 h2 h3 d1 d2 d3 (fz_uq q (nI 64)) (fz_up p (nI 64)) (fz_uk k (nI 64)) g1 g2 g3) H := by rw [e1, e2, e3]; exact hP
    exact W.iret (v := (nI 0)) hx hb hr (fun t ht hW => ⟨⟨_, (g1, g2, g3), rfl, ⟨rfl, by rw [e1]; exact hr_⟩, by show va_P _ _ _ t.heap; rw [ht]; exact hP⟩, hS.F ht⟩) hS.2.2 dX0_use_43
  by_cases eb : a = nI 81
  · subst eb
    have e1 : fz_uq q (nI 81) = 81 := by rw [fz_uq]; rfl
    have e2 : fz_up p (nI 81) = 3 := by rw [fz_up]; rfl
    have e3 : fz_uk k (nI 81) = 4 := by rw [fz_uk]; rfl
    refine lv_iload_n hx hb dX0_use_0 rfl (lv_at hl 1 rfl) ?_
    refine lv_bipush (v := nI 64) hx hb dX0_use_1 (by decide) ?_
    refine lv_icmp_eq (tgt := 14) hx hb dX0_use_3 (by decide) (fun c_ => False.elim ((fun z => absurd z (by decide)) c_)) (fun _ => ?_)
    refine lv_iload_n hx hb dX0_use_6 rfl (lv_at hl 1 rfl) ?_
    refine lv_bipush (v := nI 81) hx hb dX0_use_7 (by decide) ?_
    refine lv_icmp_eq (tgt := 14) hx hb dX0_use_9 (by decide) (fun _ => ?_) (fun c_ => False.elim ((fun z => z rfl) c_))
    refine lv_aload_n hx hb dX0_use_14 rfl (lv_at hl 0 rfl) ?_
    refine lv_iload_n hx hb dX0_use_15 rfl (lv_at hl 1 rfl) ?_
    refine lv_iload_n hx hb dX0_use_16 rfl (lv_at hl 1 rfl) ?_
    refine lv_bipush (v := nI 64) hx hb dX0_use_17 (by decide) ?_
    refine lv_icmp_ne (tgt := 26) hx hb dX0_use_19 (by decide) (fun _ => ?_) (fun c_ => False.elim ((fun z => absurd z (by decide)) c_))
    refine lv_iconst (v := nI 3) hx hb dX0_use_26 (by decide) ?_
    refine lv_iload_n hx hb dX0_use_27 rfl (lv_at hl 1 rfl) ?_
    refine lv_bipush (v := nI 64) hx hb dX0_use_28 (by decide) ?_
    refine lv_icmp_ne (tgt := 38) hx hb dX0_use_30 (by decide) (fun _ => ?_) (fun c_ => False.elim ((fun z => absurd z (by decide)) c_))
    refine lv_iconst (v := nI 4) hx hb dX0_use_38 (by decide) ?_
    refine fz_callXv (As := [.int (nI 81), .int (nI 3), .int (nI 4)]) (rest := []) ⟨hx, hb, hml, hown, hts⟩ (mX0_build l (q := 81) (p := 3) (k := 4) hne (Or.inr ⟨rfl, rfl, rfl⟩)) (cwV 3 hts (lw_V q28 q30 qs0 q18 q31) rfl rfl rfl cd_X0_build ⟨Nat.le_of_ble_eq_true rfl, Nat.le_of_ble_eq_true rfl⟩) hP hK hS (fun _ z => z) rfl hl.1 rfl (Nat.le_of_ble_eq_true rfl) dX0_use_39 ⟨Nat.zero_le _, Nat.zero_le _⟩ (fun g_ H locs hr_ hP _ hS => ?_)
    obtain ⟨g1, g2, g3⟩ := g_
    have hP : va_P D vwCl (fz_wX h h1 h2 h3 d1 d2 d3 81 3 4 g1 g2 g3) H := hP
    refine lv_iconst (v := nI 0) hx hb dX0_use_42 (by decide) ?_
    have hP : va_P D vwCl (fz_wX h h1 h2 h3 d1 d2 d3 (fz_uq q (nI 81)) (fz_up p (nI 81)) (fz_uk k (nI 81)) g1 g2 g3) H := by rw [e1, e2, e3]; exact hP
    exact W.iret (v := (nI 0)) hx hb hr (fun t ht hW => ⟨⟨_, (g1, g2, g3), rfl, ⟨rfl, by rw [e1]; exact hr_⟩, by show va_P _ _ _ t.heap; rw [ht]; exact hP⟩, hS.F ht⟩) hS.2.2 dX0_use_43
  refine lv_iload_n hx hb dX0_use_0 rfl (lv_at hl 1 rfl) ?_
  refine lv_bipush (v := nI 64) hx hb dX0_use_1 (by decide) ?_
  refine lv_icmp_eq (tgt := 14) hx hb dX0_use_3 (by decide) (fun c_ => False.elim (ea c_)) (fun _ => ?_)
  refine lv_iload_n hx hb dX0_use_6 rfl (lv_at hl 1 rfl) ?_
  refine lv_bipush (v := nI 81) hx hb dX0_use_7 (by decide) ?_
  refine lv_icmp_eq (tgt := 14) hx hb dX0_use_9 (by decide) (fun c_ => False.elim (eb c_)) (fun _ => ?_)
  refine lv_iconst (v := -1) hx hb dX0_use_12 (by decide) ?_
  have hP : va_P D vwCl (fz_wX h h1 h2 h3 d1 d2 d3 (fz_uq q a) (fz_up p a) (fz_uk k a) f1 f2 f3) s.heap := by rw [fz_uq, if_neg ea, if_neg eb, fz_up, if_neg ea, if_neg eb, fz_uk, if_neg ea, if_neg eb]; exact hP
  exact W.iret (v := (-1)) hx hb hr (fun t ht hW => ⟨⟨_, (f1, f2, f3), rfl, ⟨by rw [fz_ur, if_neg ea, if_neg eb], by rw [fz_uq, if_neg ea, if_neg eb]; exact hT⟩, by show va_P _ _ _ t.heap; rw [ht]; exact hP⟩, hS.F ht⟩) hS.2.2 dX0_use_13
/-- what a constructor may write: its own object, and what is new -/
def fz_AI (h sz : Nat) : Nat → Prop := fun a => a = h ∨ sz ≤ a
theorem fz_dI {h sz : Nat} {e : va_E} : va_D (fz_AI h sz) [(h, e)] := by
  constructor
  · intro i j x y hi hj hxy
    match i, j, hi, hj with
    | 0, 0, _, _ => rfl
    | i + 1, _, hi, _ => simp at hi
    | _, j + 1, _, hj => simp at hj
  · intro i x hi
    match i, hi with
    | 0, hi => cases hi; exact Or.inl rfl
    | i + 1, hi => simp at hi
theorem fz_nXof {A : Nat → Prop} {h h1 h2 h3 : Nat} {e e1 e2 e3 : va_E} (hD : va_D A [(h, e), (h1, e1), (h2, e2), (h3, e3)]) : fz_nX h h1 h2 h3 :=
  ⟨fun z => absurd (hD.1 0 1 _ _ rfl rfl z) (by decide), fun z => absurd (hD.1 0 2 _ _ rfl rfl z) (by decide), fun z => absurd (hD.1 0 3 _ _ rfl rfl z) (by decide), fun z => absurd (hD.1 1 2 _ _ rfl rfl z) (by decide), fun z => absurd (hD.1 1 3 _ _ rfl rfl z) (by decide), fun z => absurd (hD.1 2 3 _ _ rfl rfl z) (by decide)⟩
theorem fz_AXI {A : Nat → Prop} {h h1 h2 h3 : Nat} {e e1 e2 e3 : va_E} (hD : va_D A [(h, e), (h1, e1), (h2, e2), (h3, e3)]) : ∀ a, fz_AX h h1 h2 h3 a → A a := by
  intro a ha
  rcases ha with z | z | z | z
  · rw [z]; exact hD.2 0 _ rfl
  · rw [z]; exact hD.2 1 _ rfl
  · rw [z]; exact hD.2 2 _ rfl
  · rw [z]; exact hD.2 3 _ rfl
theorem fz_AXn {h h1 h2 h3 sz : Nat} {e e1 e2 e3 : va_E} (hD : va_D (fz_AI h sz) [(h, e), (h1, e1), (h2, e2), (h3, e3)]) : sz ≤ h1 ∧ sz ≤ h2 ∧ sz ≤ h3 := by
  obtain ⟨n1, n2, n3, -, -, -⟩ := fz_nXof hD
  have k1 : h1 = h ∨ sz ≤ h1 := hD.2 1 _ rfl
  have k2 : h2 = h ∨ sz ≤ h2 := hD.2 2 _ rfl
  have k3 : h3 = h ∨ sz ≤ h3 := hD.2 3 _ rfl
  omega
/-- a FieldTower made: size 64, its tables laid, its arrays new -/
def fz_IX (D : va_G) (h sz : Nat) (t : State) : Prop := ∃ (h1 h2 h3 : Nat) (d1 d2 d3 : ClassId) (f1 f2 f3 : Nat → Int32), fz_nX h h1 h2 h3 ∧ fz_XOk 64 f1 f2 ∧ (sz ≤ h1 ∧ sz ≤ h2 ∧ sz ≤ h3) ∧ fz_BX D h h1 h2 h3 d1 d2 d3 64 2 6 f1 f2 f3 t
set_option maxHeartbeats 4000000 in
set_option maxRecDepth 100000 in
theorem mX0_init (l : Launch) {D : va_G} {h sz : Nat} : Met l yX0_init (ws_ yX0_init cX0_init 1 none) ({ frames := 3, cells := 3, slots := 253, locals := 74 }) (va_Pc [.ref h] (fun U => U.heap.size = sz ∧ va_P D vwCl [(h, .inr (0, [.int (nI 0), .int (nI 0), .int (nI 0), .null, .null, .null]))] U.heap ∧ va_K D vwCl [] U)) (va_Qv (fun _ : Unit => True) (fun _ t => fz_IX D h sz t) (fz_AI h sz)) 3 253 (fz_AI h sz) := by
  refine Met.ofW (cc := cX0_init) (maxL := 1) (ret := none) (by decide) rfl ?_
  intro P e s m args below meth c s₁ B hml hv
  obtain ⟨rfl, hsz, hP, hK⟩ := hv
  have hx := B.exec
  have hb := B.bytes
  have hr := B.returns
  have hts := atoms_spec (ws := ws_ yX0_init cX0_init 1 none) B.pre
  have hts : ∀ w ∈ lw_all, w.before _ s = true := fun w h => hts w (List.mem_cons_of_mem _ h)
  have hown : s.vm.findClass RX0 = some m.cls := findClass_of_methodNamed B.named
  have hlocks := B.notSynchronized
  have hl := lv_entry ([.ref h]) (n := 1) (Nat.le_of_ble_eq_true rfl)
  rw [lg_entry_eq]
  generalize (lg_sl ([.ref h]) ++ List.replicate (1 - (lg_sl ([.ref h])).length) Slot.unset).toArray = ls at hl ⊢
  have hl : lv_has ls 1 [(0, .ref h)] := hl
  subst hsz
  have hin : meth.name = "<init>" := (name_of_methodNamed B.named B.method).1
  have hA : ∀ q : Nat, s.heap.size ≤ q → fz_AI h s.heap.size q := fun q z => Or.inr z
  have hS : va_S (fz_AI h s.heap.size) s.heap s.heap [] := va_S.rf
  have hD : va_D (fz_AI h s.heap.size) [(h, .inr (0, [.int (nI 0), .int (nI 0), .int (nI 0), .null, .null, .null]))] := fz_dI
  refine lv_aload_n hx hb dX0_init_0 rfl (lv_at hl 0 rfl) ?_
  refine W.objInit hx hb hown (hts _ q25) (hts _ q26) (hts _ q27) rfl (by rw [hml]; exact hl.1) rfl dX0_init_1 (Nat.le_of_ble_eq_true rfl) (Nat.le_of_ble_eq_true rfl) ?_
  refine W.eq (g2 := F0 m 4 ls []) rfl ?_
  refine lv_aload_n hx hb dX0_init_4 rfl (lv_at hl 0 rfl) ?_
  refine lv_sipush (v := nI 160) hx hb dX0_init_5 (by decide) ?_
  refine va_newa (atype := .int) (ty := .int) (N' := 160) (a0 := (160, .inl (fun _ => nI 0))) hx hb (hts _ q59) rfl hK hP hD hS hA (fun cA => rfl) (by decide) (by decide) (by decide) (Nat.le_of_ble_eq_true rfl) (Nat.le_of_ble_eq_true rfl) dX0_init_8 (fun h1 d1 H hK hP hD hS => ?_)
  have hP : va_P D vwCl [(h, .inr (0, [.int (nI 0), .int (nI 0), .int (nI 0), .null, .null, .null])), (h1, .inl (d1, 160, .inl (fun _ => nI 0)))] H := hP
  have hD : va_D (fz_AI h s.heap.size) [(h, .inr (0, [.int (nI 0), .int (nI 0), .int (nI 0), .null, .null, .null])), (h1, .inl (d1, 160, .inl (fun _ => nI 0)))] := hD
  refine va_putF (D := D) (ci := 0) (v := .ref h1) (ty := (.array .int)) (C := RX0) (T := TX0) (N := 6) hx hb hts in_X0 tyX0 tyX0_ok nmX0 hown hK hP hD hS 0 rfl rfl 3 (by decide) (hts _ q43) (fun _ h9 => h9) rfl hin rfl (by decide +kernel) rfl rfl (Nat.le_of_ble_eq_true rfl) dX0_init_10 (fun H locs hP hD hS => ?_)
  have hP : va_P D vwCl [(h, .inr (0, [.int (nI 0), .int (nI 0), .int (nI 0), .ref h1, .null, .null])), (h1, .inl (d1, 160, .inl (fun _ => nI 0)))] H := hP
  have hD : va_D (fz_AI h s.heap.size) [(h, .inr (0, [.int (nI 0), .int (nI 0), .int (nI 0), .ref h1, .null, .null])), (h1, .inl (d1, 160, .inl (fun _ => nI 0)))] := hD
  refine lv_aload_n hx hb dX0_init_13 rfl (lv_at hl 0 rfl) ?_
  refine lv_bipush (v := nI 81) hx hb dX0_init_14 (by decide) ?_
  refine va_newa (atype := .int) (ty := .int) (N' := 81) (a0 := (81, .inl (fun _ => nI 0))) hx hb (hts _ q59) rfl hK hP hD hS hA (fun cA => rfl) (by decide) (by decide) (by decide) (Nat.le_of_ble_eq_true rfl) (Nat.le_of_ble_eq_true rfl) dX0_init_16 (fun h2 d2 H hK hP hD hS => ?_)
  have hP : va_P D vwCl [(h, .inr (0, [.int (nI 0), .int (nI 0), .int (nI 0), .ref h1, .null, .null])), (h1, .inl (d1, 160, .inl (fun _ => nI 0))), (h2, .inl (d2, 81, .inl (fun _ => nI 0)))] H := hP
  have hD : va_D (fz_AI h s.heap.size) [(h, .inr (0, [.int (nI 0), .int (nI 0), .int (nI 0), .ref h1, .null, .null])), (h1, .inl (d1, 160, .inl (fun _ => nI 0))), (h2, .inl (d2, 81, .inl (fun _ => nI 0)))] := hD
  refine va_putF (D := D) (ci := 0) (v := .ref h2) (ty := (.array .int)) (C := RX0) (T := TX0) (N := 6) hx hb hts in_X0 tyX0 tyX0_ok nmX0 hown hK hP hD hS 0 rfl rfl 4 (by decide) (hts _ q44) (fun _ h9 => h9) rfl hin rfl (by decide +kernel) rfl rfl (Nat.le_of_ble_eq_true rfl) dX0_init_18 (fun H locs hP hD hS => ?_)
  have hP : va_P D vwCl [(h, .inr (0, [.int (nI 0), .int (nI 0), .int (nI 0), .ref h1, .ref h2, .null])), (h1, .inl (d1, 160, .inl (fun _ => nI 0))), (h2, .inl (d2, 81, .inl (fun _ => nI 0)))] H := hP
  have hD : va_D (fz_AI h s.heap.size) [(h, .inr (0, [.int (nI 0), .int (nI 0), .int (nI 0), .ref h1, .ref h2, .null])), (h1, .inl (d1, 160, .inl (fun _ => nI 0))), (h2, .inl (d2, 81, .inl (fun _ => nI 0)))] := hD
  refine lv_aload_n hx hb dX0_init_21 rfl (lv_at hl 0 rfl) ?_
  refine lv_bipush (v := nI 12) hx hb dX0_init_22 (by decide) ?_
  refine va_newa (atype := .int) (ty := .int) (N' := 12) (a0 := (12, .inl (fun _ => nI 0))) hx hb (hts _ q59) rfl hK hP hD hS hA (fun cA => rfl) (by decide) (by decide) (by decide) (Nat.le_of_ble_eq_true rfl) (Nat.le_of_ble_eq_true rfl) dX0_init_24 (fun h3 d3 H hK hP hD hS => ?_)
  have hP : va_P D vwCl [(h, .inr (0, [.int (nI 0), .int (nI 0), .int (nI 0), .ref h1, .ref h2, .null])), (h1, .inl (d1, 160, .inl (fun _ => nI 0))), (h2, .inl (d2, 81, .inl (fun _ => nI 0))), (h3, .inl (d3, 12, .inl (fun _ => nI 0)))] H := hP
  have hD : va_D (fz_AI h s.heap.size) [(h, .inr (0, [.int (nI 0), .int (nI 0), .int (nI 0), .ref h1, .ref h2, .null])), (h1, .inl (d1, 160, .inl (fun _ => nI 0))), (h2, .inl (d2, 81, .inl (fun _ => nI 0))), (h3, .inl (d3, 12, .inl (fun _ => nI 0)))] := hD
  refine va_putF (D := D) (ci := 0) (v := .ref h3) (ty := (.array .int)) (C := RX0) (T := TX0) (N := 6) hx hb hts in_X0 tyX0 tyX0_ok nmX0 hown hK hP hD hS 0 rfl rfl 5 (by decide) (hts _ q45) (fun _ h9 => h9) rfl hin rfl (by decide +kernel) rfl rfl (Nat.le_of_ble_eq_true rfl) dX0_init_26 (fun H locs hP hD hS => ?_)
  have hP : va_P D vwCl [(h, .inr (0, [.int (nI 0), .int (nI 0), .int (nI 0), .ref h1, .ref h2, .ref h3])), (h1, .inl (d1, 160, .inl (fun _ => nI 0))), (h2, .inl (d2, 81, .inl (fun _ => nI 0))), (h3, .inl (d3, 12, .inl (fun _ => nI 0)))] H := hP
  have hD : va_D (fz_AI h s.heap.size) [(h, .inr (0, [.int (nI 0), .int (nI 0), .int (nI 0), .ref h1, .ref h2, .ref h3])), (h1, .inl (d1, 160, .inl (fun _ => nI 0))), (h2, .inl (d2, 81, .inl (fun _ => nI 0))), (h3, .inl (d3, 12, .inl (fun _ => nI 0)))] := hD
  have hne : fz_nX h h1 h2 h3 := fz_nXof hD
  have hK : va_K D vwCl (fz_tX d1 d2 d3) s := hK
  have hP : va_P D vwCl (fz_wX h h1 h2 h3 d1 d2 d3 0 0 0 (fun _ => nI 0) (fun _ => nI 0) (fun _ => nI 0)) H := hP
  have hAX : ∀ a, fz_AX h h1 h2 h3 a → fz_AI h s.heap.size a := fz_AXI hD
  refine lv_aload_n hx hb dX0_init_29 rfl (lv_at hl 0 rfl) ?_
  refine lv_bipush (v := nI 64) hx hb dX0_init_30 (by decide) ?_
  refine lv_iconst (v := nI 2) hx hb dX0_init_32 (by decide) ?_
  refine lv_bipush (v := nI 6) hx hb dX0_init_33 (by decide) ?_
  refine fz_callXv (As := [.int (nI 64), .int (nI 2), .int (nI 6)]) (rest := []) ⟨hx, hb, hml, hown, hts⟩ (mX0_build l (q := 64) (p := 2) (k := 6) hne (Or.inl ⟨rfl, rfl, rfl⟩)) (cwV 3 hts (lw_V q28 q30 qs0 q18 q31) rfl rfl rfl cd_X0_build ⟨Nat.le_of_ble_eq_true rfl, Nat.le_of_ble_eq_true rfl⟩) hP hK hS hAX rfl hl.1 rfl (Nat.le_of_ble_eq_true rfl) dX0_init_35 ⟨Nat.le_of_ble_eq_true rfl, Nat.le_of_ble_eq_true rfl⟩ (fun g_ H locs hr_ hP _ hS => ?_)
  refine W.widen (k := 3) (n := 253) (Nat.le_of_ble_eq_true rfl) (Nat.le_of_ble_eq_true rfl) ?_
  exact W.vret hx hb hr (fun t ht hW => ⟨⟨(), rfl, trivial, ⟨h1, h2, h3, d1, d2, d3, g_.1, g_.2.1, g_.2.2, hne, hr_, fz_AXn hD, by show va_P _ _ _ t.heap; rw [ht]; exact hP, va_K.moved hW.alike hK⟩⟩, hS.F ht⟩) hS.2.2 dX0_init_38
end
section
/-! FieldTowerModel: leaves -/
theorem cd_X1_use : yX1_use.cls = RX1 ∧ yX1_use.cls ≠ "java/lang/invoke/MethodHandle" ∧ yX1_use.cls ≠ "java/lang/invoke/VarHandle" ∧ (parseMethodDescriptor yX1_use.desc).map (fun d => d.parameters.length) = some 1 := by decide +kernel
theorem cd_X1_bad : yX1_bad.cls = RX1 ∧ yX1_bad.cls ≠ "java/lang/invoke/MethodHandle" ∧ yX1_bad.cls ≠ "java/lang/invoke/VarHandle" ∧ (parseMethodDescriptor yX1_bad.desc).map (fun d => d.parameters.length) = some 1 := by decide +kernel
theorem cd_X1_unit : yX1_unit.cls = RX1 ∧ yX1_unit.cls ≠ "java/lang/invoke/MethodHandle" ∧ yX1_unit.cls ≠ "java/lang/invoke/VarHandle" ∧ (parseMethodDescriptor yX1_unit.desc).map (fun d => d.parameters.length) = some 1 := by decide +kernel
theorem cd_X1_coefficient : yX1_coefficient.cls = RX1 ∧ yX1_coefficient.cls ≠ "java/lang/invoke/MethodHandle" ∧ yX1_coefficient.cls ≠ "java/lang/invoke/VarHandle" ∧ (parseMethodDescriptor yX1_coefficient.desc).map (fun d => d.parameters.length) = some 2 := by decide +kernel
theorem cd_X1_sum : yX1_sum.cls = RX1 ∧ yX1_sum.cls ≠ "java/lang/invoke/MethodHandle" ∧ yX1_sum.cls ≠ "java/lang/invoke/VarHandle" ∧ (parseMethodDescriptor yX1_sum.desc).map (fun d => d.parameters.length) = some 2 := by decide +kernel
theorem cd_X1_put : yX1_put.cls = RX1 ∧ yX1_put.cls ≠ "java/lang/invoke/MethodHandle" ∧ yX1_put.cls ≠ "java/lang/invoke/VarHandle" ∧ (parseMethodDescriptor yX1_put.desc).map (fun d => d.parameters.length) = some 2 := by decide +kernel
theorem cd_X1_product : yX1_product.cls = RX1 ∧ yX1_product.cls ≠ "java/lang/invoke/MethodHandle" ∧ yX1_product.cls ≠ "java/lang/invoke/VarHandle" ∧ (parseMethodDescriptor yX1_product.desc).map (fun d => d.parameters.length) = some 2 := by decide +kernel
theorem cd_X1_timesAt : yX1_timesAt.cls = RX1 ∧ yX1_timesAt.cls ≠ "java/lang/invoke/MethodHandle" ∧ yX1_timesAt.cls ≠ "java/lang/invoke/VarHandle" ∧ (parseMethodDescriptor yX1_timesAt.desc).map (fun d => d.parameters.length) = some 4 := by decide +kernel
theorem cd_X1_add : yX1_add.cls = RX1 ∧ yX1_add.cls ≠ "java/lang/invoke/MethodHandle" ∧ yX1_add.cls ≠ "java/lang/invoke/VarHandle" ∧ (parseMethodDescriptor yX1_add.desc).map (fun d => d.parameters.length) = some 2 := by decide +kernel
theorem cd_X1_multiply : yX1_multiply.cls = RX1 ∧ yX1_multiply.cls ≠ "java/lang/invoke/MethodHandle" ∧ yX1_multiply.cls ≠ "java/lang/invoke/VarHandle" ∧ (parseMethodDescriptor yX1_multiply.desc).map (fun d => d.parameters.length) = some 2 := by decide +kernel
theorem cd_X1_invert : yX1_invert.cls = RX1 ∧ yX1_invert.cls ≠ "java/lang/invoke/MethodHandle" ∧ yX1_invert.cls ≠ "java/lang/invoke/VarHandle" ∧ (parseMethodDescriptor yX1_invert.desc).map (fun d => d.parameters.length) = some 1 := by decide +kernel
theorem cd_X1_raised : yX1_raised.cls = RX1 ∧ yX1_raised.cls ≠ "java/lang/invoke/MethodHandle" ∧ yX1_raised.cls ≠ "java/lang/invoke/VarHandle" ∧ (parseMethodDescriptor yX1_raised.desc).map (fun d => d.parameters.length) = some 2 := by decide +kernel
theorem cd_X1_power : yX1_power.cls = RX1 ∧ yX1_power.cls ≠ "java/lang/invoke/MethodHandle" ∧ yX1_power.cls ≠ "java/lang/invoke/VarHandle" ∧ (parseMethodDescriptor yX1_power.desc).map (fun d => d.parameters.length) = some 2 := by decide +kernel
theorem cd_X1_order : yX1_order.cls = RX1 ∧ yX1_order.cls ≠ "java/lang/invoke/MethodHandle" ∧ yX1_order.cls ≠ "java/lang/invoke/VarHandle" ∧ (parseMethodDescriptor yX1_order.desc).map (fun d => d.parameters.length) = some 1 := by decide +kernel
theorem cd_X1_root : yX1_root.cls = RX1 ∧ yX1_root.cls ≠ "java/lang/invoke/MethodHandle" ∧ yX1_root.cls ≠ "java/lang/invoke/VarHandle" ∧ (parseMethodDescriptor yX1_root.desc).map (fun d => d.parameters.length) = some 1 := by decide +kernel
theorem cd_X1_roots : yX1_roots.cls = RX1 ∧ yX1_roots.cls ≠ "java/lang/invoke/MethodHandle" ∧ yX1_roots.cls ≠ "java/lang/invoke/VarHandle" ∧ (parseMethodDescriptor yX1_roots.desc).map (fun d => d.parameters.length) = some 2 := by decide +kernel
theorem cd_X1_steps : yX1_steps.cls = RX1 ∧ yX1_steps.cls ≠ "java/lang/invoke/MethodHandle" ∧ yX1_steps.cls ≠ "java/lang/invoke/VarHandle" ∧ (parseMethodDescriptor yX1_steps.desc).map (fun d => d.parameters.length) = some 1 := by decide +kernel
theorem cd_X1_trace : yX1_trace.cls = RX1 ∧ yX1_trace.cls ≠ "java/lang/invoke/MethodHandle" ∧ yX1_trace.cls ≠ "java/lang/invoke/VarHandle" ∧ (parseMethodDescriptor yX1_trace.desc).map (fun d => d.parameters.length) = some 2 := by decide +kernel
theorem cd_X1_home : yX1_home.cls = RX1 ∧ yX1_home.cls ≠ "java/lang/invoke/MethodHandle" ∧ yX1_home.cls ≠ "java/lang/invoke/VarHandle" ∧ (parseMethodDescriptor yX1_home.desc).map (fun d => d.parameters.length) = some 1 := by decide +kernel
theorem cd_X1_logarithm : yX1_logarithm.cls = RX1 ∧ yX1_logarithm.cls ≠ "java/lang/invoke/MethodHandle" ∧ yX1_logarithm.cls ≠ "java/lang/invoke/VarHandle" ∧ (parseMethodDescriptor yX1_logarithm.desc).map (fun d => d.parameters.length) = some 2 := by decide +kernel
set_option maxHeartbeats 4000000 in
set_option maxRecDepth 100000 in
theorem mX1_bad (l : Launch) {D : va_G} {h hd : Nat} {dd : ClassId} {q p k : Nat} {f : Nat → Int32} (a : Int32) : Met l yX1_bad (ws_ yX1_bad cX1_bad 2 (some .boolean)) ({ frames := 0, cells := 0, slots := 0, locals := 0 }) (va_Pc [.ref h, .int a] (fz_BM D h hd dd q p k f)) (vp_Si (fun r => r = nI (cond (fz_el q a) 0 1))) 0 0 (fun _ => False) := by
  refine Met.ofW (cc := cX1_bad) (maxL := 2) (ret := (some .boolean)) (by decide) rfl ?_
  intro P e s m args below meth c s₁ B hml hv
  obtain ⟨rfl, hP, hK⟩ := hv
  have hx := B.exec
  have hb := B.bytes
  have hr := B.returns
  have hts := atoms_spec (ws := ws_ yX1_bad cX1_bad 2 (some .boolean)) B.pre
  have hts : ∀ w ∈ lw_all, w.before _ s = true := fun w h => hts w (List.mem_cons_of_mem _ h)
  have hown : s.vm.findClass RX1 = some m.cls := findClass_of_methodNamed B.named
  have hlocks := B.notSynchronized
  have hl := lv_entry ([.ref h, .int a]) (n := 2) (Nat.le_of_ble_eq_true rfl)
  rw [lg_entry_eq]
  generalize (lg_sl ([.ref h, .int a]) ++ List.replicate (2 - (lg_sl ([.ref h, .int a])).length) Slot.unset).toArray = ls at hl ⊢
  have hl : lv_has ls 2 [(0, .ref h), (1, .int a)] := hl
  refine lv_iload_n hx hb dX1_bad_0 rfl (lv_at hl 1 rfl) ?_
  refine lv_if_lt (tgt := 12) hx hb dX1_bad_1 (by decide) (fun c_1 => ?_) (fun c_1 => ?_)
  · refine lv_iconst (v := nI 1) hx hb dX1_bad_12 (by decide) ?_
    refine lv_goto (tgt := 17) hx hb dX1_bad_13 (by decide) ?_
    exact W.zret (v := (nI 1)) hx hb hr rfl (fun t ht hW => ⟨_, rfl, (by rw [fz_el_neg c_1]; rfl), ht⟩) (fun _ z => absurd z List.not_mem_nil) dX1_bad_17
  · refine lv_iload_n hx hb dX1_bad_4 rfl (lv_at hl 1 rfl) ?_
    refine lv_aload_n hx hb dX1_bad_5 rfl (lv_at hl 0 rfl) ?_
    refine va_get (D := D) (ci := 1) (v := .int (nI q)) (C := RX1) (T := TX1) (N := 4) hx hb hts in_X1 hown hK hP 0 rfl rfl 0 (by decide) (hts _ q137) (fun _ h9 => h9) rfl dX1_bad_6 ?_
    refine lv_icmp_lt (tgt := 16) hx hb dX1_bad_9 (by decide) (fun c_9 => ?_) (fun c_9 => ?_)
    · refine lv_iconst (v := nI 0) hx hb dX1_bad_16 (by decide) ?_
      exact W.zret (v := (nI 0)) hx hb hr rfl (fun t ht hW => ⟨_, rfl, (by rw [fz_el_t c_1 c_9]; rfl), ht⟩) (fun _ z => absurd z List.not_mem_nil) dX1_bad_17
    · refine lv_iconst (v := nI 1) hx hb dX1_bad_12 (by decide) ?_
      refine lv_goto (tgt := 17) hx hb dX1_bad_13 (by decide) ?_
      exact W.zret (v := (nI 1)) hx hb hr rfl (fun t ht hW => ⟨_, rfl, (by rw [fz_el_big c_9]; rfl), ht⟩) (fun _ z => absurd z List.not_mem_nil) dX1_bad_17
set_option maxHeartbeats 4000000 in
set_option maxRecDepth 100000 in
theorem mX1_unit (l : Launch) {D : va_G} {h hd : Nat} {dd : ClassId} {q p k : Nat} {f : Nat → Int32} {i : Nat} (hi : i < 2 ^ 31) : Met l yX1_unit (ws_ yX1_unit cX1_unit 4 (some .int)) ({ frames := 0, cells := 0, slots := 0, locals := 0 }) (va_Pc [.ref h, .int (nI i)] (fz_BM D h hd dd q p k f)) (vp_Si (fun r => r = nI (p ^ i))) 0 0 (fun _ => False) := by
  refine Met.ofW (cc := cX1_unit) (maxL := 4) (ret := (some .int)) (by decide) rfl ?_
  intro P e s m args below meth c s₁ B hml hv
  obtain ⟨rfl, hP, hK⟩ := hv
  have hx := B.exec
  have hb := B.bytes
  have hr := B.returns
  have hts := atoms_spec (ws := ws_ yX1_unit cX1_unit 4 (some .int)) B.pre
  have hts : ∀ w ∈ lw_all, w.before _ s = true := fun w h => hts w (List.mem_cons_of_mem _ h)
  have hown : s.vm.findClass RX1 = some m.cls := findClass_of_methodNamed B.named
  have hlocks := B.notSynchronized
  have hl := lv_entry ([.ref h, .int (nI i)]) (n := 4) (Nat.le_of_ble_eq_true rfl)
  rw [lg_entry_eq]
  generalize (lg_sl ([.ref h, .int (nI i)]) ++ List.replicate (4 - (lg_sl ([.ref h, .int (nI i)])).length) Slot.unset).toArray = ls at hl ⊢
  have hl : lv_has ls 4 [(0, .ref h), (1, .int (nI i))] := hl
  refine lv_iconst (v := nI 1) hx hb dX1_unit_0 (by decide) ?_
  refine lv_istore_n (lv' := [(2, .int (nI 1)), (0, .ref h), (1, .int (nI i))]) hx hb dX1_unit_1 rfl hl (by decide) rfl (fun ls hl => ?_)
  refine lv_iconst (v := nI 0) hx hb dX1_unit_2 (by decide) ?_
  refine lv_istore_n (lv' := [(3, .int (nI 0)), (2, .int (nI 1)), (0, .ref h), (1, .int (nI i))]) hx hb dX1_unit_3 rfl hl (by decide) rfl (fun ls hl => ?_)
  refine fz_loop i (fun j ls => lv_has ls 4 [(3, .int (nI j)), (2, .int (nI (p ^ j))), (1, .int (nI i)), (0, .ref h)]) (fun ls hl => ?_) (fun j hj ih ls hl => ?_) 0 (Nat.zero_le _) ls (lv_sub hl [0, 1, 3, 2] rfl)
  · refine lv_iload_n hx hb dX1_unit_4 rfl (lv_at hl 0 rfl) ?_
    refine lv_iload_n hx hb dX1_unit_5 rfl (lv_at hl 2 rfl) ?_
    refine lv_icmp_ge (tgt := 22) hx hb dX1_unit_6 (by decide) (fun _ => ?_) (fun c_ => False.elim ((fun z => z (nI_le (Nat.le_refl i) (by omega))) c_))
    refine lv_iload_n hx hb dX1_unit_22 rfl (lv_at hl 1 rfl) ?_
    exact W.iret (v := (nI (p ^ i))) hx hb hr (fun t ht hW => ⟨_, rfl, rfl, ht⟩) (fun _ z => absurd z List.not_mem_nil) dX1_unit_23
  · refine lv_iload_n hx hb dX1_unit_4 rfl (lv_at hl 0 rfl) ?_
    refine lv_iload_n hx hb dX1_unit_5 rfl (lv_at hl 2 rfl) ?_
    refine lv_icmp_ge (tgt := 22) hx hb dX1_unit_6 (by decide) (fun c_ => False.elim ((nI_ge hj (by omega)) c_)) (fun _ => ?_)
    refine lv_iload_n hx hb dX1_unit_9 rfl (lv_at hl 1 rfl) ?_
    refine lv_aload_n hx hb dX1_unit_10 rfl (lv_at hl 3 rfl) ?_
    refine va_get (D := D) (ci := 1) (v := .int (nI p)) (C := RX1) (T := TX1) (N := 4) hx hb hts in_X1 hown hK hP 0 rfl rfl 1 (by decide) (hts _ q138) (fun _ h9 => h9) rfl dX1_unit_11 ?_
    refine nv_imul hx hb dX1_unit_14 ?_
    refine lv_istore_n (lv' := [(2, .int (nI ((p ^ j) * p))), (3, .int (nI j)), (1, .int (nI i)), (0, .ref h)]) hx hb dX1_unit_15 rfl hl (by decide) rfl (fun ls hl => ?_)
    refine lv_iinc (v := (nI (j + 1))) (lv' := [(3, .int (nI (j + 1))), (2, .int (nI ((p ^ j) * p))), (1, .int (nI i)), (0, .ref h)]) hx hb dX1_unit_16 hl (k := 1) rfl (nv_inc _) (by decide) rfl (fun ls hl => ?_)
    refine lv_goto (tgt := 4) hx hb dX1_unit_19 (by decide) ?_
    rw [← Nat.pow_succ] at hl
    exact ih ls (lv_sub hl [0, 1, 2, 3] rfl)
set_option maxHeartbeats 4000000 in
set_option maxRecDepth 100000 in
theorem mX1_coefficient (l : Launch) {D : va_G} {h hd : Nat} {dd : ClassId} {q p k : Nat} {f : Nat → Int32} (hm : fz_Ok q p k) {a i : Nat} (ha : a < 2 ^ 31) (hi : i < k) : Met l yX1_coefficient (ws_ yX1_coefficient cX1_coefficient 4 (some .int)) ({ frames := 1, cells := 0, slots := 0, locals := 23 }) (va_Pc [.ref h, .int (nI a), .int (nI i)] (fz_BM D h hd dd q p k f)) (vp_Si (fun r => r = nI (fz_dgt p a i))) 0 0 (fun _ => False) := by
  obtain ⟨hp2, hp3, hk4, hk6, hq64, hq81, hpk⟩ := fz_facts hm
  have hp0 : 0 < p ^ i := Nat.pow_pos (by omega)
  have hpi : p ^ i ≤ p ^ k := Nat.pow_le_pow_right (by omega) (by omega)
  have hai : a / p ^ i < 2 ^ 31 := Nat.lt_of_le_of_lt (Nat.div_le_self _ _) ha
  refine Met.ofW (cc := cX1_coefficient) (maxL := 4) (ret := (some .int)) (by decide) rfl ?_
  intro P e s m args below meth c s₁ B hml hv
  obtain ⟨rfl, hP, hK⟩ := hv
  have hx := B.exec
  have hb := B.bytes
  have hr := B.returns
  have hts := atoms_spec (ws := ws_ yX1_coefficient cX1_coefficient 4 (some .int)) B.pre
  have hts : ∀ w ∈ lw_all, w.before _ s = true := fun w h => hts w (List.mem_cons_of_mem _ h)
  have hown : s.vm.findClass RX1 = some m.cls := findClass_of_methodNamed B.named
  have hlocks := B.notSynchronized
  have hl := lv_entry ([.ref h, .int (nI a), .int (nI i)]) (n := 4) (Nat.le_of_ble_eq_true rfl)
  rw [lg_entry_eq]
  generalize (lg_sl ([.ref h, .int (nI a), .int (nI i)]) ++ List.replicate (4 - (lg_sl ([.ref h, .int (nI a), .int (nI i)])).length) Slot.unset).toArray = ls at hl ⊢
  have hl : lv_has ls 4 [(0, .ref h), (1, .int (nI a)), (2, .int (nI i))] := hl
  refine lv_aload_n hx hb dX1_coefficient_0 rfl (lv_at hl 0 rfl) ?_
  refine lv_iload_n hx hb dX1_coefficient_1 rfl (lv_at hl 2 rfl) ?_
  refine fz_callM (As := [.int (nI i)]) (rest := []) ⟨hx, hb, hml, hown, hts⟩ (mX1_unit l (i := i) (by omega)) (cwV 1 hts (lw_V q170 q172 qs11 q19 q173) rfl rfl rfl cd_X1_unit ⟨Nat.le_of_ble_eq_true rfl, Nat.le_of_ble_eq_true rfl⟩) hP hK rfl hl.1 rfl (Nat.le_of_ble_eq_true rfl) dX1_coefficient_2 ⟨Nat.zero_le _, Nat.zero_le _⟩ (fun r_ hr_ => ?_)
  have hr_ : r_ = (nI (p ^ i)) := hr_
  subst hr_
  refine lv_istore_n (lv' := [(3, .int (nI (p ^ i))), (0, .ref h), (1, .int (nI a)), (2, .int (nI i))]) hx hb dX1_coefficient_5 rfl hl (by decide) rfl (fun ls hl => ?_)
  refine lv_aload_n hx hb dX1_coefficient_6 rfl (lv_at hl 1 rfl) ?_
  refine va_get (D := D) (ci := 1) (v := .int (nI p)) (C := RX1) (T := TX1) (N := 4) hx hb hts in_X1 hown hK hP 0 rfl rfl 1 (by decide) (hts _ q138) (fun _ h9 => h9) rfl dX1_coefficient_7 ?_
  refine lv_if_le (tgt := 28) hx hb dX1_coefficient_10 (by decide) (fun c_ => False.elim ((nI_nle (by omega) (by omega)) c_)) (fun _ => ?_)
  refine lv_iload_n hx hb dX1_coefficient_13 rfl (lv_at hl 0 rfl) ?_
  refine lv_if_le (tgt := 28) hx hb dX1_coefficient_14 (by decide) (fun c_ => False.elim ((nI_nle hp0 (by omega)) c_)) (fun _ => ?_)
  refine lv_iload_n hx hb dX1_coefficient_17 rfl (lv_at hl 2 rfl) ?_
  refine lv_iload_n hx hb dX1_coefficient_18 rfl (lv_at hl 0 rfl) ?_
  refine nv_idiv hx hb dX1_coefficient_19 (by omega) hp0 (by omega) ?_
  refine lv_aload_n hx hb dX1_coefficient_20 rfl (lv_at hl 1 rfl) ?_
  refine va_get (D := D) (ci := 1) (v := .int (nI p)) (C := RX1) (T := TX1) (N := 4) hx hb hts in_X1 hown hK hP 0 rfl rfl 1 (by decide) (hts _ q138) (fun _ h9 => h9) rfl dX1_coefficient_21 ?_
  refine nv_irem hx hb dX1_coefficient_24 hai (by omega) (by omega) ?_
  refine lv_goto (tgt := 29) hx hb dX1_coefficient_25 (by decide) ?_
  exact W.iret (v := (nI ((a / (p ^ i)) % p))) hx hb hr (fun t ht hW => ⟨_, rfl, rfl, ht⟩) (fun _ z => absurd z List.not_mem_nil) dX1_coefficient_29
set_option maxHeartbeats 4000000 in
set_option maxRecDepth 100000 in
theorem mX1_sum (l : Launch) {D : va_G} {h hd : Nat} {dd : ClassId} {q p k : Nat} {f : Nat → Int32} (hm : fz_Ok q p k) {a b : Nat} (ha : a < 2 ^ 31) (hb1 : b < 2 ^ 31) : Met l yX1_sum (ws_ yX1_sum cX1_sum 6 (some .int)) ({ frames := 2, cells := 0, slots := 0, locals := 46 }) (va_Pc [.ref h, .int (nI a), .int (nI b)] (fz_BM D h hd dd q p k f)) (vp_Si (fun r => r = nI (fz_sum p a b k))) 0 0 (fun _ => False) := by
  obtain ⟨hp2, hp3, hk4, hk6, hq64, hq81, hpk⟩ := fz_facts hm
  refine Met.ofW (cc := cX1_sum) (maxL := 6) (ret := (some .int)) (by decide) rfl ?_
  intro P e s m args below meth c s₁ B hml hv
  obtain ⟨rfl, hP, hK⟩ := hv
  have hx := B.exec
  have hb := B.bytes
  have hr := B.returns
  have hts := atoms_spec (ws := ws_ yX1_sum cX1_sum 6 (some .int)) B.pre
  have hts : ∀ w ∈ lw_all, w.before _ s = true := fun w h => hts w (List.mem_cons_of_mem _ h)
  have hown : s.vm.findClass RX1 = some m.cls := findClass_of_methodNamed B.named
  have hlocks := B.notSynchronized
  have hl := lv_entry ([.ref h, .int (nI a), .int (nI b)]) (n := 6) (Nat.le_of_ble_eq_true rfl)
  rw [lg_entry_eq]
  generalize (lg_sl ([.ref h, .int (nI a), .int (nI b)]) ++ List.replicate (6 - (lg_sl ([.ref h, .int (nI a), .int (nI b)])).length) Slot.unset).toArray = ls at hl ⊢
  have hl : lv_has ls 6 [(0, .ref h), (1, .int (nI a)), (2, .int (nI b))] := hl
  refine lv_iconst (v := nI 0) hx hb dX1_sum_0 (by decide) ?_
  refine lv_istore_n (lv' := [(3, .int (nI 0)), (0, .ref h), (1, .int (nI a)), (2, .int (nI b))]) hx hb dX1_sum_1 rfl hl (by decide) rfl (fun ls hl => ?_)
  refine lv_iconst (v := nI 0) hx hb dX1_sum_2 (by decide) ?_
  refine lv_istore (lv' := [(4, .int (nI 0)), (3, .int (nI 0)), (0, .ref h), (1, .int (nI a)), (2, .int (nI b))]) hx hb dX1_sum_3 hl (by decide) rfl (fun ls hl => ?_)
  refine fz_loop k (fun i ls => lv_has ls 6 [(4, .int (nI i)), (3, .int (nI (fz_sum p a b i))), (2, .int (nI b)), (1, .int (nI a)), (0, .ref h)]) (fun ls hl => ?_) (fun i hi ih ls hl => ?_) 0 (Nat.zero_le _) ls (lv_sub hl [0, 1, 4, 3, 2] rfl)
  · refine lv_iload hx hb dX1_sum_5 (lv_at hl 0 rfl) ?_
    refine lv_aload_n hx hb dX1_sum_7 rfl (lv_at hl 4 rfl) ?_
    refine va_get (D := D) (ci := 1) (v := .int (nI k)) (C := RX1) (T := TX1) (N := 4) hx hb hts in_X1 hown hK hP 0 rfl rfl 2 (by decide) (hts _ q139) (fun _ h9 => h9) rfl dX1_sum_8 ?_
    refine lv_icmp_ge (tgt := 68) hx hb dX1_sum_11 (by decide) (fun _ => ?_) (fun c_ => False.elim ((fun z => z (nI_le (Nat.le_refl k) (by omega))) c_))
    refine lv_iload_n hx hb dX1_sum_68 rfl (lv_at hl 1 rfl) ?_
    exact W.iret (v := (nI (fz_sum p a b k))) hx hb hr (fun t ht hW => ⟨_, rfl, rfl, ht⟩) (fun _ z => absurd z List.not_mem_nil) dX1_sum_69
  · have hmod := fz_mod_of (fz_dgt_lt (show 0 < p by omega) a i) (fz_dgt_lt (show 0 < p by omega) b i)
    have hda := fz_dgt_lt (show 0 < p by omega) a i
    have hdb := fz_dgt_lt (show 0 < p by omega) b i
    refine lv_iload hx hb dX1_sum_5 (lv_at hl 0 rfl) ?_
    refine lv_aload_n hx hb dX1_sum_7 rfl (lv_at hl 4 rfl) ?_
    refine va_get (D := D) (ci := 1) (v := .int (nI k)) (C := RX1) (T := TX1) (N := 4) hx hb hts in_X1 hown hK hP 0 rfl rfl 2 (by decide) (hts _ q139) (fun _ h9 => h9) rfl dX1_sum_8 ?_
    refine lv_icmp_ge (tgt := 68) hx hb dX1_sum_11 (by decide) (fun c_ => False.elim ((nI_ge hi (by omega)) c_)) (fun _ => ?_)
    refine lv_aload_n hx hb dX1_sum_14 rfl (lv_at hl 4 rfl) ?_
    refine lv_iload_n hx hb dX1_sum_15 rfl (lv_at hl 3 rfl) ?_
    refine lv_iload hx hb dX1_sum_16 (lv_at hl 0 rfl) ?_
    refine fz_callM (As := [.int (nI a), .int (nI i)]) (rest := []) ⟨hx, hb, hml, hown, hts⟩ (mX1_coefficient l hm (a := a) (i := i) (by omega) (by omega)) (cwV 2 hts (lw_V q166 q168 qs10 q19 q169) rfl rfl rfl cd_X1_coefficient ⟨Nat.le_of_ble_eq_true rfl, Nat.le_of_ble_eq_true rfl⟩) hP hK rfl hl.1 rfl (Nat.le_of_ble_eq_true rfl) dX1_sum_18 ⟨Nat.zero_le _, Nat.zero_le _⟩ (fun r_ hr_ => ?_)
    have hr_ : r_ = (nI (fz_dgt p a i)) := hr_
    subst hr_
    refine lv_aload_n hx hb dX1_sum_21 rfl (lv_at hl 4 rfl) ?_
    refine lv_iload_n hx hb dX1_sum_22 rfl (lv_at hl 2 rfl) ?_
    refine lv_iload hx hb dX1_sum_23 (lv_at hl 0 rfl) ?_
    refine fz_callM (As := [.int (nI b), .int (nI i)]) (rest := [.int (nI (fz_dgt p a i))]) ⟨hx, hb, hml, hown, hts⟩ (mX1_coefficient l hm (a := b) (i := i) (by omega) (by omega)) (cwV 2 hts (lw_V q166 q168 qs10 q19 q169) rfl rfl rfl cd_X1_coefficient ⟨Nat.le_of_ble_eq_true rfl, Nat.le_of_ble_eq_true rfl⟩) hP hK rfl hl.1 rfl (Nat.le_of_ble_eq_true rfl) dX1_sum_25 ⟨Nat.zero_le _, Nat.zero_le _⟩ (fun r_ hr_ => ?_)
    have hr_ : r_ = (nI (fz_dgt p b i)) := hr_
    subst hr_
    refine nv_iadd hx hb dX1_sum_28 ?_
    refine lv_istore (lv' := [(5, .int (nI ((fz_dgt p a i) + (fz_dgt p b i)))), (4, .int (nI i)), (3, .int (nI (fz_sum p a b i))), (2, .int (nI b)), (1, .int (nI a)), (0, .ref h)]) hx hb dX1_sum_29 hl (by decide) rfl (fun ls hl => ?_)
    refine lv_iload_n hx hb dX1_sum_31 rfl (lv_at hl 2 rfl) ?_
    refine lv_iload hx hb dX1_sum_32 (lv_at hl 0 rfl) ?_
    refine lv_aload_n hx hb dX1_sum_34 rfl (lv_at hl 5 rfl) ?_
    refine va_get (D := D) (ci := 1) (v := .int (nI p)) (C := RX1) (T := TX1) (N := 4) hx hb hts in_X1 hown hK hP 0 rfl rfl 1 (by decide) (hts _ q138) (fun _ h9 => h9) rfl dX1_sum_35 ?_
    refine lv_icmp_lt (tgt := 51) hx hb dX1_sum_38 (by decide) (fun c_38 => ?_) (fun c_38 => ?_)
    · have hlt := (nI_ltI (by omega) (by omega)).mp c_38
      rw [if_neg (by omega)] at hmod
      refine lv_iload hx hb dX1_sum_51 (lv_at hl 0 rfl) ?_
      refine lv_aload_n hx hb dX1_sum_53 rfl (lv_at hl 5 rfl) ?_
      refine lv_iload hx hb dX1_sum_54 (lv_at hl 1 rfl) ?_
      refine fz_callM (As := [.int (nI i)]) (rest := [.int (nI ((fz_dgt p a i) + (fz_dgt p b i))), .int (nI (fz_sum p a b i))]) ⟨hx, hb, hml, hown, hts⟩ (mX1_unit l (i := i) (by omega)) (cwV 1 hts (lw_V q170 q172 qs11 q19 q173) rfl rfl rfl cd_X1_unit ⟨Nat.le_of_ble_eq_true rfl, Nat.le_of_ble_eq_true rfl⟩) hP hK rfl hl.1 rfl (Nat.le_of_ble_eq_true rfl) dX1_sum_56 ⟨Nat.zero_le _, Nat.zero_le _⟩ (fun r_ hr_ => ?_)
      have hr_ : r_ = (nI (p ^ i)) := hr_
      subst hr_
      refine nv_imul hx hb dX1_sum_59 ?_
      refine nv_iadd hx hb dX1_sum_60 ?_
      refine lv_istore_n (lv' := [(3, .int (nI ((fz_sum p a b i) + (((fz_dgt p a i) + (fz_dgt p b i)) * (p ^ i))))), (5, .int (nI ((fz_dgt p a i) + (fz_dgt p b i)))), (4, .int (nI i)), (2, .int (nI b)), (1, .int (nI a)), (0, .ref h)]) hx hb dX1_sum_61 rfl hl (by decide) rfl (fun ls hl => ?_)
      refine lv_iinc (v := (nI (i + 1))) (lv' := [(4, .int (nI (i + 1))), (3, .int (nI ((fz_sum p a b i) + (((fz_dgt p a i) + (fz_dgt p b i)) * (p ^ i))))), (5, .int (nI ((fz_dgt p a i) + (fz_dgt p b i)))), (2, .int (nI b)), (1, .int (nI a)), (0, .ref h)]) hx hb dX1_sum_62 hl (k := 2) rfl (nv_inc _) (by decide) rfl (fun ls hl => ?_)
      refine lv_goto (tgt := 5) hx hb dX1_sum_65 (by decide) ?_
      rw [← hmod] at hl
      exact ih ls (lv_sub hl [0, 1, 3, 4, 5] rfl)
    · have hle : p ≤ fz_dgt p a i + fz_dgt p b i := Nat.not_lt.mp (fun z => c_38 (nI_lt z (by omega)))
      rw [if_pos hle] at hmod
      refine lv_iload hx hb dX1_sum_41 (lv_at hl 0 rfl) ?_
      refine lv_aload_n hx hb dX1_sum_43 rfl (lv_at hl 5 rfl) ?_
      refine va_get (D := D) (ci := 1) (v := .int (nI p)) (C := RX1) (T := TX1) (N := 4) hx hb hts in_X1 hown hK hP 0 rfl rfl 1 (by decide) (hts _ q138) (fun _ h9 => h9) rfl dX1_sum_44 ?_
      refine nv_isub hx hb dX1_sum_47 hle ?_
      refine lv_goto (tgt := 53) hx hb dX1_sum_48 (by decide) ?_
      refine lv_aload_n hx hb dX1_sum_53 rfl (lv_at hl 5 rfl) ?_
      refine lv_iload hx hb dX1_sum_54 (lv_at hl 1 rfl) ?_
      refine fz_callM (As := [.int (nI i)]) (rest := [.int (nI (((fz_dgt p a i) + (fz_dgt p b i)) - p)), .int (nI (fz_sum p a b i))]) ⟨hx, hb, hml, hown, hts⟩ (mX1_unit l (i := i) (by omega)) (cwV 1 hts (lw_V q170 q172 qs11 q19 q173) rfl rfl rfl cd_X1_unit ⟨Nat.le_of_ble_eq_true rfl, Nat.le_of_ble_eq_true rfl⟩) hP hK rfl hl.1 rfl (Nat.le_of_ble_eq_true rfl) dX1_sum_56 ⟨Nat.zero_le _, Nat.zero_le _⟩ (fun r_ hr_ => ?_)
      have hr_ : r_ = (nI (p ^ i)) := hr_
      subst hr_
      refine nv_imul hx hb dX1_sum_59 ?_
      refine nv_iadd hx hb dX1_sum_60 ?_
      refine lv_istore_n (lv' := [(3, .int (nI ((fz_sum p a b i) + ((((fz_dgt p a i) + (fz_dgt p b i)) - p) * (p ^ i))))), (5, .int (nI ((fz_dgt p a i) + (fz_dgt p b i)))), (4, .int (nI i)), (2, .int (nI b)), (1, .int (nI a)), (0, .ref h)]) hx hb dX1_sum_61 rfl hl (by decide) rfl (fun ls hl => ?_)
      refine lv_iinc (v := (nI (i + 1))) (lv' := [(4, .int (nI (i + 1))), (3, .int (nI ((fz_sum p a b i) + ((((fz_dgt p a i) + (fz_dgt p b i)) - p) * (p ^ i))))), (5, .int (nI ((fz_dgt p a i) + (fz_dgt p b i)))), (2, .int (nI b)), (1, .int (nI a)), (0, .ref h)]) hx hb dX1_sum_62 hl (k := 2) rfl (nv_inc _) (by decide) rfl (fun ls hl => ?_)
      refine lv_goto (tgt := 5) hx hb dX1_sum_65 (by decide) ?_
      rw [← hmod] at hl
      exact ih ls (lv_sub hl [0, 1, 3, 4, 5] rfl)
set_option maxHeartbeats 4000000 in
set_option maxRecDepth 100000 in
theorem mX1_put (l : Launch) {D : va_G} {h hd : Nat} {dd : ClassId} {q p k : Nat} {f : Nat → Int32} (hne : h ≠ hd) (hm : fz_Ok q p k) {i v : Nat} (hi : i < 12) (hv1 : v < 2 ^ 31) : Met l yX1_put (ws_ yX1_put cX1_put 3 none) ({ frames := 0, cells := 0, slots := 0, locals := 0 }) (va_Pc [.ref h, .int (nI i), .int (nI v)] (fz_BM D h hd dd q p k f)) (va_Qv (fun _ : Unit => True) (fun _ t => va_P D vwCl (fz_wM h hd dd q p k (upd f i (nI (v % p)))) t.heap) (fz_AM h hd)) 0 0 (fz_AM h hd) := by
  refine Met.ofW (cc := cX1_put) (maxL := 3) (ret := none) (by decide) rfl ?_
  intro P e s m args below meth c s₁ B hml hv
  obtain ⟨rfl, hP, hK⟩ := hv
  have hx := B.exec
  have hb := B.bytes
  have hr := B.returns
  have hts := atoms_spec (ws := ws_ yX1_put cX1_put 3 none) B.pre
  have hts : ∀ w ∈ lw_all, w.before _ s = true := fun w h => hts w (List.mem_cons_of_mem _ h)
  have hown : s.vm.findClass RX1 = some m.cls := findClass_of_methodNamed B.named
  have hlocks := B.notSynchronized
  have hl := lv_entry ([.ref h, .int (nI i), .int (nI v)]) (n := 3) (Nat.le_of_ble_eq_true rfl)
  rw [lg_entry_eq]
  generalize (lg_sl ([.ref h, .int (nI i), .int (nI v)]) ++ List.replicate (3 - (lg_sl ([.ref h, .int (nI i), .int (nI v)])).length) Slot.unset).toArray = ls at hl ⊢
  have hl : lv_has ls 3 [(0, .ref h), (1, .int (nI i)), (2, .int (nI v))] := hl
  have hS : va_S (fz_AM h hd) s.heap s.heap [] := va_S.rf
  rcases hm with ⟨rfl, rfl, rfl⟩ | ⟨rfl, rfl, rfl⟩
  · refine lv_aload_n hx hb dX1_put_0 rfl (lv_at hl 0 rfl) ?_
    refine va_get (D := D) (ci := 1) (v := .ref hd) (C := RX1) (T := TX1) (N := 4) hx hb hts in_X1 hown hK hP 0 rfl rfl 3 (by decide) (hts _ q140) (fun _ h9 => h9) rfl dX1_put_1 ?_
    refine lv_iload_n hx hb dX1_put_4 rfl (lv_at hl 1 rfl) ?_
    refine lv_aload_n hx hb dX1_put_5 rfl (lv_at hl 0 rfl) ?_
    refine va_get (D := D) (ci := 1) (v := .int (nI 2)) (C := RX1) (T := TX1) (N := 4) hx hb hts in_X1 hown hK hP 0 rfl rfl 1 (by decide) (hts _ q138) (fun _ h9 => h9) rfl dX1_put_6 ?_
    refine lv_iconst (v := nI 2) hx hb dX1_put_9 (by decide) ?_
    refine lv_icmp_ne (tgt := 19) hx hb dX1_put_10 (by decide) (fun c_ => False.elim ((fun z => z rfl) c_)) (fun _ => ?_)
    refine lv_iload_n hx hb dX1_put_13 rfl (lv_at hl 2 rfl) ?_
    refine lv_iconst (v := nI 2) hx hb dX1_put_14 (by decide) ?_
    refine nv_irem hx hb dX1_put_15 hv1 (by decide) (by decide) ?_
    refine lv_goto (tgt := 22) hx hb dX1_put_16 (by decide) ?_
    refine nv_ast hx hb hK hP (fz_dM hne) hS 1 0 rfl rfl hi (by decide) dX1_put_22 (fun H locs hP hS => ?_)
    have hP : va_P D vwCl (fz_wM h hd dd 64 2 6 ((upd f i ((nI (v % 2)))))) H := hP
    exact W.vret hx hb hr (fun t ht hW => ⟨⟨(), rfl, trivial, by show va_P _ _ _ t.heap; rw [ht]; exact hP⟩, hS.F ht⟩) hS.2.2 dX1_put_23
  · refine lv_aload_n hx hb dX1_put_0 rfl (lv_at hl 0 rfl) ?_
    refine va_get (D := D) (ci := 1) (v := .ref hd) (C := RX1) (T := TX1) (N := 4) hx hb hts in_X1 hown hK hP 0 rfl rfl 3 (by decide) (hts _ q140) (fun _ h9 => h9) rfl dX1_put_1 ?_
    refine lv_iload_n hx hb dX1_put_4 rfl (lv_at hl 1 rfl) ?_
    refine lv_aload_n hx hb dX1_put_5 rfl (lv_at hl 0 rfl) ?_
    refine va_get (D := D) (ci := 1) (v := .int (nI 3)) (C := RX1) (T := TX1) (N := 4) hx hb hts in_X1 hown hK hP 0 rfl rfl 1 (by decide) (hts _ q138) (fun _ h9 => h9) rfl dX1_put_6 ?_
    refine lv_iconst (v := nI 2) hx hb dX1_put_9 (by decide) ?_
    refine lv_icmp_ne (tgt := 19) hx hb dX1_put_10 (by decide) (fun _ => ?_) (fun c_ => False.elim ((fun z => absurd z (by decide)) c_))
    refine lv_iload_n hx hb dX1_put_19 rfl (lv_at hl 2 rfl) ?_
    refine lv_iconst (v := nI 3) hx hb dX1_put_20 (by decide) ?_
    refine nv_irem hx hb dX1_put_21 hv1 (by decide) (by decide) ?_
    refine nv_ast hx hb hK hP (fz_dM hne) hS 1 0 rfl rfl hi (by decide) dX1_put_22 (fun H locs hP hS => ?_)
    have hP : va_P D vwCl (fz_wM h hd dd 81 3 4 ((upd f i ((nI (v % 3)))))) H := hP
    exact W.vret hx hb hr (fun t ht hW => ⟨⟨(), rfl, trivial, by show va_P _ _ _ t.heap; rw [ht]; exact hP⟩, hS.F ht⟩) hS.2.2 dX1_put_23
set_option maxHeartbeats 4000000 in
set_option maxRecDepth 100000 in
theorem mX1_timesAt (l : Launch) {D : va_G} {h hd : Nat} {dd : ClassId} {q p k : Nat} {f : Nat → Int32} (hm : fz_Ok q p k) {a b i j : Nat} (ha : a < 2 ^ 31) (hb1 : b < 2 ^ 31) (hi : i < k) (hj : j < k) : Met l yX1_timesAt (ws_ yX1_timesAt cX1_timesAt 5 (some .int)) ({ frames := 2, cells := 0, slots := 0, locals := 46 }) (va_Pc [.ref h, .int (nI a), .int (nI b), .int (nI i), .int (nI j)] (fz_BM D h hd dd q p k f)) (vp_Si (fun r => r = nI (fz_dgt p a i * fz_dgt p b j))) 0 0 (fun _ => False) := by
  obtain ⟨hp2, hp3, hk4, hk6, hq64, hq81, hpk⟩ := fz_facts hm
  refine Met.ofW (cc := cX1_timesAt) (maxL := 5) (ret := (some .int)) (by decide) rfl ?_
  intro P e s m args below meth c s₁ B hml hv
  obtain ⟨rfl, hP, hK⟩ := hv
  have hx := B.exec
  have hb := B.bytes
  have hr := B.returns
  have hts := atoms_spec (ws := ws_ yX1_timesAt cX1_timesAt 5 (some .int)) B.pre
  have hts : ∀ w ∈ lw_all, w.before _ s = true := fun w h => hts w (List.mem_cons_of_mem _ h)
  have hown : s.vm.findClass RX1 = some m.cls := findClass_of_methodNamed B.named
  have hlocks := B.notSynchronized
  have hl := lv_entry ([.ref h, .int (nI a), .int (nI b), .int (nI i), .int (nI j)]) (n := 5) (Nat.le_of_ble_eq_true rfl)
  rw [lg_entry_eq]
  generalize (lg_sl ([.ref h, .int (nI a), .int (nI b), .int (nI i), .int (nI j)]) ++ List.replicate (5 - (lg_sl ([.ref h, .int (nI a), .int (nI b), .int (nI i), .int (nI j)])).length) Slot.unset).toArray = ls at hl ⊢
  have hl : lv_has ls 5 [(0, .ref h), (1, .int (nI a)), (2, .int (nI b)), (3, .int (nI i)), (4, .int (nI j))] := hl
  refine lv_aload_n hx hb dX1_timesAt_0 rfl (lv_at hl 0 rfl) ?_
  refine lv_iload_n hx hb dX1_timesAt_1 rfl (lv_at hl 1 rfl) ?_
  refine lv_iload_n hx hb dX1_timesAt_2 rfl (lv_at hl 3 rfl) ?_
  refine fz_callM (As := [.int (nI a), .int (nI i)]) (rest := []) ⟨hx, hb, hml, hown, hts⟩ (mX1_coefficient l hm (a := a) (i := i) (by omega) (by omega)) (cwV 2 hts (lw_V q166 q168 qs10 q19 q169) rfl rfl rfl cd_X1_coefficient ⟨Nat.le_of_ble_eq_true rfl, Nat.le_of_ble_eq_true rfl⟩) hP hK rfl hl.1 rfl (Nat.le_of_ble_eq_true rfl) dX1_timesAt_3 ⟨Nat.zero_le _, Nat.zero_le _⟩ (fun r_ hr_ => ?_)
  have hr_ : r_ = (nI (fz_dgt p a i)) := hr_
  subst hr_
  refine lv_aload_n hx hb dX1_timesAt_6 rfl (lv_at hl 0 rfl) ?_
  refine lv_iload_n hx hb dX1_timesAt_7 rfl (lv_at hl 2 rfl) ?_
  refine lv_iload hx hb dX1_timesAt_8 (lv_at hl 4 rfl) ?_
  refine fz_callM (As := [.int (nI b), .int (nI j)]) (rest := [.int (nI (fz_dgt p a i))]) ⟨hx, hb, hml, hown, hts⟩ (mX1_coefficient l hm (a := b) (i := j) (by omega) (by omega)) (cwV 2 hts (lw_V q166 q168 qs10 q19 q169) rfl rfl rfl cd_X1_coefficient ⟨Nat.le_of_ble_eq_true rfl, Nat.le_of_ble_eq_true rfl⟩) hP hK rfl hl.1 rfl (Nat.le_of_ble_eq_true rfl) dX1_timesAt_10 ⟨Nat.zero_le _, Nat.zero_le _⟩ (fun r_ hr_ => ?_)
  have hr_ : r_ = (nI (fz_dgt p b j)) := hr_
  subst hr_
  refine nv_imul hx hb dX1_timesAt_13 ?_
  exact W.iret (v := (nI ((fz_dgt p a i) * (fz_dgt p b j)))) hx hb hr (fun t ht hW => ⟨_, rfl, rfl, ht⟩) (fun _ z => absurd z List.not_mem_nil) dX1_timesAt_14
set_option maxHeartbeats 4000000 in
set_option maxRecDepth 100000 in
theorem mX1_steps (l : Launch) {D : va_G} {h hd : Nat} {dd : ClassId} {q p k : Nat} {f : Nat → Int32} (hm : fz_Ok q p k) (z : Int32) : Met l yX1_steps (ws_ yX1_steps cX1_steps 2 (some .int)) ({ frames := 0, cells := 0, slots := 0, locals := 0 }) (va_Pc [.ref h, .int z] (fz_BM D h hd dd q p k f)) (vp_Si (fun r => r = nI (fz_si q z))) 0 0 (fun _ => False) := by
  refine Met.ofW (cc := cX1_steps) (maxL := 2) (ret := (some .int)) (by decide) rfl ?_
  intro P e s m args below meth c s₁ B hml hv
  obtain ⟨rfl, hP, hK⟩ := hv
  have hx := B.exec
  have hb := B.bytes
  have hr := B.returns
  have hts := atoms_spec (ws := ws_ yX1_steps cX1_steps 2 (some .int)) B.pre
  have hts : ∀ w ∈ lw_all, w.before _ s = true := fun w h => hts w (List.mem_cons_of_mem _ h)
  have hown : s.vm.findClass RX1 = some m.cls := findClass_of_methodNamed B.named
  have hlocks := B.notSynchronized
  have hl := lv_entry ([.ref h, .int z]) (n := 2) (Nat.le_of_ble_eq_true rfl)
  rw [lg_entry_eq]
  generalize (lg_sl ([.ref h, .int z]) ++ List.replicate (2 - (lg_sl ([.ref h, .int z])).length) Slot.unset).toArray = ls at hl ⊢
  have hl : lv_has ls 2 [(0, .ref h), (1, .int z)] := hl
  rcases hm with ⟨rfl, rfl, rfl⟩ | ⟨rfl, rfl, rfl⟩
  · refine lv_aload_n hx hb dX1_steps_0 rfl (lv_at hl 0 rfl) ?_
    refine va_get (D := D) (ci := 1) (v := .int (nI 64)) (C := RX1) (T := TX1) (N := 4) hx hb hts in_X1 hown hK hP 0 rfl rfl 0 (by decide) (hts _ q137) (fun _ h9 => h9) rfl dX1_steps_1 ?_
    refine lv_bipush (v := nI 64) hx hb dX1_steps_4 (by decide) ?_
    refine lv_icmp_ne (tgt := 50) hx hb dX1_steps_6 (by decide) (fun c_ => False.elim ((fun z => z rfl) c_)) (fun _ => ?_)
    refine lv_iload_n hx hb dX1_steps_9 rfl (lv_at hl 1 rfl) ?_
    refine lv_iconst (v := nI 2) hx hb dX1_steps_10 (by decide) ?_
    refine lv_icmp_ne (tgt := 19) hx hb dX1_steps_11 (by decide) (fun c_11 => ?_) (fun c_11 => ?_)
    · refine lv_iload_n hx hb dX1_steps_19 rfl (lv_at hl 1 rfl) ?_
      refine lv_iconst (v := nI 4) hx hb dX1_steps_20 (by decide) ?_
      refine lv_icmp_ne (tgt := 28) hx hb dX1_steps_21 (by decide) (fun c_21 => ?_) (fun c_21 => ?_)
      · refine lv_iload_n hx hb dX1_steps_28 rfl (lv_at hl 1 rfl) ?_
        refine lv_bipush (v := nI 8) hx hb dX1_steps_29 (by decide) ?_
        refine lv_icmp_ne (tgt := 38) hx hb dX1_steps_31 (by decide) (fun c_31 => ?_) (fun c_31 => ?_)
        · refine lv_iload_n hx hb dX1_steps_38 rfl (lv_at hl 1 rfl) ?_
          refine lv_bipush (v := nI 64) hx hb dX1_steps_39 (by decide) ?_
          refine lv_icmp_ne (tgt := 48) hx hb dX1_steps_41 (by decide) (fun c_41 => ?_) (fun c_41 => ?_)
          · refine lv_iconst (v := nI 0) hx hb dX1_steps_48 (by decide) ?_
            exact W.iret (v := (nI 0)) hx hb hr (fun t ht hW => ⟨_, rfl, (by rw [fz_si, if_pos rfl, if_neg c_11, if_neg c_21, if_neg c_31, if_neg c_41]), ht⟩) (fun _ z => absurd z List.not_mem_nil) dX1_steps_49
          · refine lv_iconst (v := nI 1) hx hb dX1_steps_44 (by decide) ?_
            refine lv_goto (tgt := 49) hx hb dX1_steps_45 (by decide) ?_
            exact W.iret (v := (nI 1)) hx hb hr (fun t ht hW => ⟨_, rfl, (by subst c_41; decide +kernel), ht⟩) (fun _ z => absurd z List.not_mem_nil) dX1_steps_49
        · refine lv_iconst (v := nI 2) hx hb dX1_steps_34 (by decide) ?_
          refine lv_goto (tgt := 49) hx hb dX1_steps_35 (by decide) ?_
          exact W.iret (v := (nI 2)) hx hb hr (fun t ht hW => ⟨_, rfl, (by subst c_31; decide +kernel), ht⟩) (fun _ z => absurd z List.not_mem_nil) dX1_steps_49
      · refine lv_iconst (v := nI 3) hx hb dX1_steps_24 (by decide) ?_
        refine lv_goto (tgt := 49) hx hb dX1_steps_25 (by decide) ?_
        exact W.iret (v := (nI 3)) hx hb hr (fun t ht hW => ⟨_, rfl, (by subst c_21; decide +kernel), ht⟩) (fun _ z => absurd z List.not_mem_nil) dX1_steps_49
    · refine lv_bipush (v := nI 6) hx hb dX1_steps_14 (by decide) ?_
      refine lv_goto (tgt := 49) hx hb dX1_steps_16 (by decide) ?_
      exact W.iret (v := (nI 6)) hx hb hr (fun t ht hW => ⟨_, rfl, (by subst c_11; decide +kernel), ht⟩) (fun _ z => absurd z List.not_mem_nil) dX1_steps_49
  · refine lv_aload_n hx hb dX1_steps_0 rfl (lv_at hl 0 rfl) ?_
    refine va_get (D := D) (ci := 1) (v := .int (nI 81)) (C := RX1) (T := TX1) (N := 4) hx hb hts in_X1 hown hK hP 0 rfl rfl 0 (by decide) (hts _ q137) (fun _ h9 => h9) rfl dX1_steps_1 ?_
    refine lv_bipush (v := nI 64) hx hb dX1_steps_4 (by decide) ?_
    refine lv_icmp_ne (tgt := 50) hx hb dX1_steps_6 (by decide) (fun _ => ?_) (fun c_ => False.elim ((fun z => absurd z (by decide)) c_))
    refine lv_iload_n hx hb dX1_steps_50 rfl (lv_at hl 1 rfl) ?_
    refine lv_iconst (v := nI 3) hx hb dX1_steps_51 (by decide) ?_
    refine lv_icmp_ne (tgt := 59) hx hb dX1_steps_52 (by decide) (fun c_52 => ?_) (fun c_52 => ?_)
    · refine lv_iload_n hx hb dX1_steps_59 rfl (lv_at hl 1 rfl) ?_
      refine lv_bipush (v := nI 9) hx hb dX1_steps_60 (by decide) ?_
      refine lv_icmp_ne (tgt := 69) hx hb dX1_steps_62 (by decide) (fun c_62 => ?_) (fun c_62 => ?_)
      · refine lv_iload_n hx hb dX1_steps_69 rfl (lv_at hl 1 rfl) ?_
        refine lv_bipush (v := nI 81) hx hb dX1_steps_70 (by decide) ?_
        refine lv_icmp_ne (tgt := 79) hx hb dX1_steps_72 (by decide) (fun c_72 => ?_) (fun c_72 => ?_)
        · refine lv_iconst (v := nI 0) hx hb dX1_steps_79 (by decide) ?_
          exact W.iret (v := (nI 0)) hx hb hr (fun t ht hW => ⟨_, rfl, (by rw [fz_si, if_neg (by decide), if_neg c_52, if_neg c_62, if_neg c_72]), ht⟩) (fun _ z => absurd z List.not_mem_nil) dX1_steps_80
        · refine lv_iconst (v := nI 1) hx hb dX1_steps_75 (by decide) ?_
          refine lv_goto (tgt := 80) hx hb dX1_steps_76 (by decide) ?_
          exact W.iret (v := (nI 1)) hx hb hr (fun t ht hW => ⟨_, rfl, (by subst c_72; decide +kernel), ht⟩) (fun _ z => absurd z List.not_mem_nil) dX1_steps_80
      · refine lv_iconst (v := nI 2) hx hb dX1_steps_65 (by decide) ?_
        refine lv_goto (tgt := 80) hx hb dX1_steps_66 (by decide) ?_
        exact W.iret (v := (nI 2)) hx hb hr (fun t ht hW => ⟨_, rfl, (by subst c_62; decide +kernel), ht⟩) (fun _ z => absurd z List.not_mem_nil) dX1_steps_80
    · refine lv_iconst (v := nI 4) hx hb dX1_steps_55 (by decide) ?_
      refine lv_goto (tgt := 80) hx hb dX1_steps_56 (by decide) ?_
      exact W.iret (v := (nI 4)) hx hb hr (fun t ht hW => ⟨_, rfl, (by subst c_52; decide +kernel), ht⟩) (fun _ z => absurd z List.not_mem_nil) dX1_steps_80
end
section
/-! PURE, 6: for the reference's walks -/
theorem fz_rs_bd2 {k n N M : Nat} (hk : 1 ≤ k) (hn : k ≤ n) (h : fz_bd N M) (hM : 2 * (2 * M) < 1048576) : fz_bd (fz_rs k n N) (2 * M) := fun j => by
  have h1 := fz_ad_bd (n := n - k) (s := n) h (by omega)
  have h2 := h n
  rw [fz_rs, fz_ad_dg j h1 (by omega), fz_ad_ne (j := n) h (by omega) (by omega)]
  by_cases e : j = n - k + 1
  · rw [if_pos e, fz_ad_ne h (by omega) (by omega)]
    have h3 := h j
    omega
  · rw [if_neg e]
    have h3 := h1 j
    omega
theorem fz_sh : ∀ i, i < 20 → ((nI i &&& 31).toBitVec.smod 32).toNat = i := by decide +kernel
theorem fz_bit {n i : Nat} (hn : n < 2 ^ 31) (hi : i < 20) : nI n >>> (nI i &&& 31) = nI (n / 2 ^ i) := pk_shrN hn _ i (fz_sh i hi)
/-- the power so far, one bit more -/
theorem fz_rz {q p k : Nat} (hm : fz_Ok q p k) {a n i : Nat} (h : n / 2 ^ i % 2 = 1) : fz_mul q (fz_pow q a (n % 2 ^ i)) (fz_pow q a (2 ^ i)) = fz_pow q a (n % 2 ^ (i + 1)) := by
  rw [fz_pow_add hm, Nat.mod_pow_succ, h, Nat.mul_one]
theorem fz_rz0 {q a n i : Nat} (h : n / 2 ^ i % 2 ≠ 1) : fz_pow q a (n % 2 ^ i) = fz_pow q a (n % 2 ^ (i + 1)) := by
  rw [Nat.mod_pow_succ, show n / 2 ^ i % 2 = 0 by omega, Nat.mul_zero, Nat.add_zero]
theorem fz_rq {q p k : Nat} (hm : fz_Ok q p k) {a i : Nat} : fz_mul q (fz_pow q a (2 ^ i)) (fz_pow q a (2 ^ i)) = fz_pow q a (2 ^ (i + 1)) := by
  rw [fz_pow_add hm, Nat.pow_succ, Nat.mul_two]
/-! FieldTowerModel: the product -/
set_option maxHeartbeats 4000000 in
set_option maxRecDepth 100000 in
theorem mX1_product (l : Launch) {D : va_G} {h hd : Nat} {dd : ClassId} {q p k : Nat} {f : Nat → Int32} (hne : h ≠ hd) (hm : fz_Ok q p k) {a b : Nat} (ha : a < q) (hb1 : b < q) : Met l yX1_product (ws_ yX1_product cX1_product 6 (some .int)) ({ frames := 3, cells := 0, slots := 0, locals := 70 }) (va_Pc [.ref h, .int (nI a), .int (nI b)] (fz_BM D h hd dd q p k f)) (va_Qi (fun (r : Int32) (g : Nat → Int32) => r = nI (fz_mul q a b)) (fun g t => va_P D vwCl (fz_wM h hd dd q p k g) t.heap) (fz_AM h hd)) 0 0 (fz_AM h hd) := by
  obtain ⟨hp2, hp3, hk4, hk6, hq64, hq81, hpk⟩ := fz_facts hm
  refine Met.ofW (cc := cX1_product) (maxL := 6) (ret := (some .int)) (by decide) rfl ?_
  intro P e s m args below meth c s₁ B hml hv
  obtain ⟨rfl, hP, hK⟩ := hv
  have hx := B.exec
  have hb := B.bytes
  have hr := B.returns
  have hts := atoms_spec (ws := ws_ yX1_product cX1_product 6 (some .int)) B.pre
  have hts : ∀ w ∈ lw_all, w.before _ s = true := fun w h => hts w (List.mem_cons_of_mem _ h)
  have hown : s.vm.findClass RX1 = some m.cls := findClass_of_methodNamed B.named
  have hlocks := B.notSynchronized
  have hl := lv_entry ([.ref h, .int (nI a), .int (nI b)]) (n := 6) (Nat.le_of_ble_eq_true rfl)
  rw [lg_entry_eq]
  generalize (lg_sl ([.ref h, .int (nI a), .int (nI b)]) ++ List.replicate (6 - (lg_sl ([.ref h, .int (nI a), .int (nI b)])).length) Slot.unset).toArray = ls at hl ⊢
  have hl : lv_has ls 6 [(0, .ref h), (1, .int (nI a)), (2, .int (nI b))] := hl
  have hS : va_S (fz_AM h hd) s.heap s.heap [] := va_S.rf
  refine lv_iconst (v := nI 0) hx hb dX1_product_0 (by decide) ?_
  refine lv_istore_n (lv' := [(3, .int (nI 0)), (0, .ref h), (1, .int (nI a)), (2, .int (nI b))]) hx hb dX1_product_1 rfl hl (by decide) rfl (fun ls hl => ?_)
  refine fz_loopH (G := Nat → Int32) 12 (fun i g H locs ls => (∀ j, j < i → g j = nI 0) ∧ va_P D vwCl (fz_wM h hd dd q p k g) H ∧ va_S (fz_AM h hd) s.heap H locs ∧ lv_has ls 6 [(3, .int (nI i)), (0, .ref h), (1, .int (nI a)), (2, .int (nI b))]) (fun g H locs ls hI => ?_) (fun i hi ih g H locs ls hI => ?_) 0 (Nat.zero_le _) f _ _ ls ⟨fun j hj => absurd hj (Nat.not_lt_zero j), hP, hS, lv_sub hl [0, 1, 2, 3] rfl⟩
  · obtain ⟨hz, hP, hS, hl⟩ := hI
    refine lv_iload_n hx hb dX1_product_2 rfl (lv_at hl 0 rfl) ?_
    refine lv_bipush (v := nI 12) hx hb dX1_product_3 (by decide) ?_
    refine lv_icmp_ge (tgt := 21) hx hb dX1_product_5 (by decide) (fun _ => ?_) (fun c_ => False.elim ((fun z => z (nI_le (Nat.le_refl 12) (by omega))) c_))
    refine lv_iconst (v := nI 0) hx hb dX1_product_21 (by decide) ?_
    refine lv_istore_n (lv' := [(3, .int (nI 0)), (0, .ref h), (1, .int (nI a)), (2, .int (nI b))]) hx hb dX1_product_22 rfl hl (by decide) rfl (fun ls hl => ?_)
    refine fz_loopH (G := Nat → Int32) k (fun i g H locs ls => (∀ j, j < 12 → g j = nI (fz_dg (fz_cv p k a b i 0) j % p)) ∧ fz_bd (fz_cv p k a b i 0) (4 * (k * i)) ∧ va_P D vwCl (fz_wM h hd dd q p k g) H ∧ va_S (fz_AM h hd) s.heap H locs ∧ lv_has ls 6 [(3, .int (nI i)), (0, .ref h), (1, .int (nI a)), (2, .int (nI b))]) (fun g H locs ls hI => ?_) (fun i hi ih g H locs ls hI => ?_) 0 (Nat.zero_le _) g _ _ ls ⟨fun j hj => by rw [fz_cv_00, fz_dg_0, Nat.zero_mod]; exact hz j hj, by rw [fz_cv_00]; exact fz_bd_mono fz_bd_0 (Nat.zero_le _), hP, hS, lv_sub hl [0, 1, 2, 3] rfl⟩
    · obtain ⟨hg, hbd, hP, hS, hl⟩ := hI
      rw [fz_cv_end] at hg hbd
      refine lv_iload_n hx hb dX1_product_23 rfl (lv_at hl 0 rfl) ?_
      refine lv_aload_n hx hb dX1_product_24 rfl (lv_at hl 1 rfl) ?_
      refine va_get (D := D) (ci := 1) (v := .int (nI k)) (C := RX1) (T := TX1) (N := 4) hx hb hts in_X1 hown hK hP 0 rfl rfl 2 (by decide) (hts _ q139) (fun _ h9 => h9) rfl dX1_product_25 ?_
      refine lv_icmp_ge (tgt := 86) hx hb dX1_product_28 (by decide) (fun _ => ?_) (fun c_ => False.elim ((fun z => z (nI_le (Nat.le_refl k) (by omega))) c_))
      refine lv_bipush (v := nI 11) hx hb dX1_product_86 (by decide) ?_
      refine lv_istore_n (lv' := [(3, .int (nI 11)), (0, .ref h), (1, .int (nI a)), (2, .int (nI b))]) hx hb dX1_product_88 rfl hl (by decide) rfl (fun ls hl => ?_)
      refine fz_loopH (G := Nat → Int32) (12 - k) (fun t g H locs ls => (∀ j, j < 12 - t → g j = nI (fz_dg (fz_rd k 11 (fz_pk p a k * fz_pk p b k) t) j % p)) ∧ fz_bd (fz_rd k 11 (fz_pk p a k * fz_pk p b k) t) (144 * 2 ^ t) ∧ va_P D vwCl (fz_wM h hd dd q p k g) H ∧ va_S (fz_AM h hd) s.heap H locs ∧ lv_has ls 6 [(3, .int (nI (11 - t))), (0, .ref h)]) (fun g H locs ls hI => ?_) (fun t ht4 ih g H locs ls hI => ?_) 0 (Nat.zero_le _) g _ _ ls ⟨hg, fz_bd_mono hbd (by have z1 : k * k ≤ 6 * 6 := Nat.mul_le_mul hk6 hk6; omega), hP, hS, lv_sub hl [0, 1] rfl⟩
      · obtain ⟨hg, hbd, hP, hS, hl⟩ := hI
        refine lv_iload_n hx hb dX1_product_89 rfl (lv_at hl 0 rfl) ?_
        refine lv_aload_n hx hb dX1_product_90 rfl (lv_at hl 1 rfl) ?_
        refine va_get (D := D) (ci := 1) (v := .int (nI k)) (C := RX1) (T := TX1) (N := 4) hx hb hts in_X1 hown hK hP 0 rfl rfl 2 (by decide) (hts _ q139) (fun _ h9 => h9) rfl dX1_product_91 ?_
        refine lv_icmp_lt (tgt := 170) hx hb dX1_product_94 (by decide) (fun _ => ?_) (fun c_ => False.elim ((fun z => z (nI_lt (show 11 - (12 - k) < k by omega) (by omega))) c_))
        refine lv_iconst (v := nI 0) hx hb dX1_product_170 (by decide) ?_
        refine lv_istore_n (lv' := [(3, .int (nI 0)), (0, .ref h)]) hx hb dX1_product_171 rfl hl (by decide) rfl (fun ls hl => ?_)
        refine lv_iconst (v := nI 0) hx hb dX1_product_172 (by decide) ?_
        refine lv_istore (lv' := [(4, .int (nI 0)), (3, .int (nI 0)), (0, .ref h)]) hx hb dX1_product_173 hl (by decide) rfl (fun ls hl => ?_)
        refine fz_loop k (fun i ls => lv_has ls 6 [(4, .int (nI i)), (3, .int (nI (fz_out p (fz_rd k 11 (fz_pk p a k * fz_pk p b k) (12 - k)) i))), (0, .ref h)]) (fun ls hl => ?_) (fun i hi ih ls hl => ?_) 0 (Nat.zero_le _) ls (lv_sub hl [0, 1, 2] rfl)
        · refine lv_iload hx hb dX1_product_175 (lv_at hl 0 rfl) ?_
          refine lv_aload_n hx hb dX1_product_177 rfl (lv_at hl 2 rfl) ?_
          refine va_get (D := D) (ci := 1) (v := .int (nI k)) (C := RX1) (T := TX1) (N := 4) hx hb hts in_X1 hown hK hP 0 rfl rfl 2 (by decide) (hts _ q139) (fun _ h9 => h9) rfl dX1_product_178 ?_
          refine lv_icmp_ge (tgt := 207) hx hb dX1_product_181 (by decide) (fun _ => ?_) (fun c_ => False.elim ((fun z => z (nI_le (Nat.le_refl k) (by omega))) c_))
          refine lv_iload_n hx hb dX1_product_207 rfl (lv_at hl 1 rfl) ?_
          exact W.iret (v := (nI (fz_out p (fz_rd k 11 (fz_pk p a k * fz_pk p b k) (12 - k)) k))) hx hb hr (fun t ht hW => ⟨⟨_, g, rfl, (by rw [← fz_prM_ok hm ha hb1]; rfl), by show va_P _ _ _ t.heap; rw [ht]; exact hP⟩, hS.F ht⟩) hS.2.2 dX1_product_208
        · refine lv_iload hx hb dX1_product_175 (lv_at hl 0 rfl) ?_
          refine lv_aload_n hx hb dX1_product_177 rfl (lv_at hl 2 rfl) ?_
          refine va_get (D := D) (ci := 1) (v := .int (nI k)) (C := RX1) (T := TX1) (N := 4) hx hb hts in_X1 hown hK hP 0 rfl rfl 2 (by decide) (hts _ q139) (fun _ h9 => h9) rfl dX1_product_178 ?_
          refine lv_icmp_ge (tgt := 207) hx hb dX1_product_181 (by decide) (fun c_ => False.elim ((nI_ge hi (by omega)) c_)) (fun _ => ?_)
          refine lv_iload_n hx hb dX1_product_184 rfl (lv_at hl 1 rfl) ?_
          refine lv_aload_n hx hb dX1_product_185 rfl (lv_at hl 2 rfl) ?_
          refine va_get (D := D) (ci := 1) (v := .ref hd) (C := RX1) (T := TX1) (N := 4) hx hb hts in_X1 hown hK hP 0 rfl rfl 3 (by decide) (hts _ q140) (fun _ h9 => h9) rfl dX1_product_186 ?_
          refine lv_iload hx hb dX1_product_189 (lv_at hl 0 rfl) ?_
          refine nv_ald hx hb hK hP 1 0 rfl rfl (by omega) (by decide) (hg _ (by omega)) dX1_product_191 ?_
          refine lv_aload_n hx hb dX1_product_192 rfl (lv_at hl 2 rfl) ?_
          refine lv_iload hx hb dX1_product_193 (lv_at hl 0 rfl) ?_
          refine fz_callM (As := [.int (nI i)]) (rest := [.int (nI (fz_dg (fz_rd k 11 (fz_pk p a k * fz_pk p b k) (12 - k)) i % p)), .int (nI (fz_out p (fz_rd k 11 (fz_pk p a k * fz_pk p b k) (12 - k)) i))]) ⟨hx, hb, hml, hown, hts⟩ (mX1_unit l (i := i) (by omega)) (cwV 1 hts (lw_V q170 q172 qs11 q19 q173) rfl rfl rfl cd_X1_unit ⟨Nat.le_of_ble_eq_true rfl, Nat.le_of_ble_eq_true rfl⟩) hP hK rfl hl.1 rfl (Nat.le_of_ble_eq_true rfl) dX1_product_195 ⟨Nat.zero_le _, Nat.zero_le _⟩ (fun r_ hr_ => ?_)
          have hr_ : r_ = (nI (p ^ i)) := hr_
          subst hr_
          refine nv_imul hx hb dX1_product_198 ?_
          refine nv_iadd hx hb dX1_product_199 ?_
          refine lv_istore_n (lv' := [(3, .int (nI ((fz_out p (fz_rd k 11 (fz_pk p a k * fz_pk p b k) (12 - k)) i) + ((fz_dg (fz_rd k 11 (fz_pk p a k * fz_pk p b k) (12 - k)) i % p) * (p ^ i))))), (4, .int (nI i)), (0, .ref h)]) hx hb dX1_product_200 rfl hl (by decide) rfl (fun ls hl => ?_)
          refine lv_iinc (v := (nI (i + 1))) (lv' := [(4, .int (nI (i + 1))), (3, .int (nI ((fz_out p (fz_rd k 11 (fz_pk p a k * fz_pk p b k) (12 - k)) i) + ((fz_dg (fz_rd k 11 (fz_pk p a k * fz_pk p b k) (12 - k)) i % p) * (p ^ i))))), (0, .ref h)]) hx hb dX1_product_201 hl (k := 1) rfl (nv_inc _) (by decide) rfl (fun ls hl => ?_)
          refine lv_goto (tgt := 175) hx hb dX1_product_204 (by decide) ?_
          exact ih ls (lv_sub hl [0, 1, 2] rfl)
      · obtain ⟨hg, hbd, hP, hS, hl⟩ := hI
        have h4t : 2 ^ t ≤ 2 ^ 7 := Nat.pow_le_pow_right (by decide) (by omega)
        have hm1 : fz_dg (fz_rd k 11 (fz_pk p a k * fz_pk p b k) t) ((11 - t) - k) % p < p := Nat.mod_lt _ (by omega)
        have hm2 : fz_dg (fz_rd k 11 (fz_pk p a k * fz_pk p b k) t) (11 - t) % p < p := Nat.mod_lt _ (by omega)
        refine lv_iload_n hx hb dX1_product_89 rfl (lv_at hl 0 rfl) ?_
        refine lv_aload_n hx hb dX1_product_90 rfl (lv_at hl 1 rfl) ?_
        refine va_get (D := D) (ci := 1) (v := .int (nI k)) (C := RX1) (T := TX1) (N := 4) hx hb hts in_X1 hown hK hP 0 rfl rfl 2 (by decide) (hts _ q139) (fun _ h9 => h9) rfl dX1_product_91 ?_
        refine lv_icmp_lt (tgt := 170) hx hb dX1_product_94 (by decide) (fun c_ => False.elim ((nI_nlt (show k ≤ 11 - t by omega) (by omega)) c_)) (fun _ => ?_)
        refine lv_aload_n hx hb dX1_product_97 rfl (lv_at hl 1 rfl) ?_
        refine lv_iload_n hx hb dX1_product_98 rfl (lv_at hl 0 rfl) ?_
        refine lv_aload_n hx hb dX1_product_99 rfl (lv_at hl 1 rfl) ?_
        refine va_get (D := D) (ci := 1) (v := .int (nI k)) (C := RX1) (T := TX1) (N := 4) hx hb hts in_X1 hown hK hP 0 rfl rfl 2 (by decide) (hts _ q139) (fun _ h9 => h9) rfl dX1_product_100 ?_
        refine nv_isub hx hb dX1_product_103 (by omega) ?_
        refine lv_aload_n hx hb dX1_product_104 rfl (lv_at hl 1 rfl) ?_
        refine va_get (D := D) (ci := 1) (v := .ref hd) (C := RX1) (T := TX1) (N := 4) hx hb hts in_X1 hown hK hP 0 rfl rfl 3 (by decide) (hts _ q140) (fun _ h9 => h9) rfl dX1_product_105 ?_
        refine lv_iload_n hx hb dX1_product_108 rfl (lv_at hl 0 rfl) ?_
        refine lv_aload_n hx hb dX1_product_109 rfl (lv_at hl 1 rfl) ?_
        refine va_get (D := D) (ci := 1) (v := .int (nI k)) (C := RX1) (T := TX1) (N := 4) hx hb hts in_X1 hown hK hP 0 rfl rfl 2 (by decide) (hts _ q139) (fun _ h9 => h9) rfl dX1_product_110 ?_
        refine nv_isub hx hb dX1_product_113 (by omega) ?_
        refine nv_ald hx hb hK hP 1 0 rfl rfl (by omega) (by decide) (hg _ (by omega)) dX1_product_114 ?_
        refine lv_aload_n hx hb dX1_product_115 rfl (lv_at hl 1 rfl) ?_
        refine va_get (D := D) (ci := 1) (v := .ref hd) (C := RX1) (T := TX1) (N := 4) hx hb hts in_X1 hown hK hP 0 rfl rfl 3 (by decide) (hts _ q140) (fun _ h9 => h9) rfl dX1_product_116 ?_
        refine lv_iload_n hx hb dX1_product_119 rfl (lv_at hl 0 rfl) ?_
        refine nv_ald hx hb hK hP 1 0 rfl rfl (by omega) (by decide) (hg _ (by omega)) dX1_product_120 ?_
        refine nv_iadd hx hb dX1_product_121 ?_
        refine fz_callMv (As := [.int (nI ((11 - t) - k)), .int (nI ((fz_dg (fz_rd k 11 (fz_pk p a k * fz_pk p b k) t) ((11 - t) - k) % p) + (fz_dg (fz_rd k 11 (fz_pk p a k * fz_pk p b k) t) (11 - t) % p)))]) (rest := []) ⟨hx, hb, hml, hown, hts⟩ (mX1_put l hne hm (i := (11 - t) - k) (v := fz_dg (fz_rd k 11 (fz_pk p a k * fz_pk p b k) t) ((11 - t) - k) % p + fz_dg (fz_rd k 11 (fz_pk p a k * fz_pk p b k) t) (11 - t) % p) (by omega) (by omega)) (cwV 2 hts (lw_V q186 q188 qs14 q19 q189) rfl rfl rfl cd_X1_put ⟨Nat.le_of_ble_eq_true rfl, Nat.le_of_ble_eq_true rfl⟩) hP hK hS (fun _ z => z) rfl hl.1 rfl (Nat.le_of_ble_eq_true rfl) dX1_product_122 ⟨Nat.zero_le _, Nat.zero_le _⟩ (fun _ H locs hr_ hP _ hS => ?_)
        have hP : va_P D vwCl (fz_wM h hd dd q p k ((upd g ((11 - t) - k) (nI ((fz_dg (fz_rd k 11 (fz_pk p a k * fz_pk p b k) t) ((11 - t) - k) % p + fz_dg (fz_rd k 11 (fz_pk p a k * fz_pk p b k) t) (11 - t) % p) % p))))) H := hP
        have hg := fz_updMad (n := (11 - t) - k) (s := (11 - t)) hg hbd (by omega)
        have hbd1 := fz_ad_bd (n := (11 - t) - k) (s := (11 - t)) hbd (by omega)
        have hm3 : fz_dg (fz_ad (fz_rd k 11 (fz_pk p a k * fz_pk p b k) t) ((11 - t) - k) (11 - t)) ((11 - t) - k + 1) % p < p := Nat.mod_lt _ (by omega)
        have hm4 : fz_dg (fz_ad (fz_rd k 11 (fz_pk p a k * fz_pk p b k) t) ((11 - t) - k) (11 - t)) (11 - t) % p < p := Nat.mod_lt _ (by omega)
        refine lv_aload_n hx hb dX1_product_125 rfl (lv_at hl 1 rfl) ?_
        refine lv_iload_n hx hb dX1_product_126 rfl (lv_at hl 0 rfl) ?_
        refine lv_aload_n hx hb dX1_product_127 rfl (lv_at hl 1 rfl) ?_
        refine va_get (D := D) (ci := 1) (v := .int (nI k)) (C := RX1) (T := TX1) (N := 4) hx hb hts in_X1 hown hK hP 0 rfl rfl 2 (by decide) (hts _ q139) (fun _ h9 => h9) rfl dX1_product_128 ?_
        refine nv_isub hx hb dX1_product_131 (by omega) ?_
        refine lv_iconst (v := nI 1) hx hb dX1_product_132 (by decide) ?_
        refine nv_iadd hx hb dX1_product_133 ?_
        refine lv_aload_n hx hb dX1_product_134 rfl (lv_at hl 1 rfl) ?_
        refine va_get (D := D) (ci := 1) (v := .ref hd) (C := RX1) (T := TX1) (N := 4) hx hb hts in_X1 hown hK hP 0 rfl rfl 3 (by decide) (hts _ q140) (fun _ h9 => h9) rfl dX1_product_135 ?_
        refine lv_iload_n hx hb dX1_product_138 rfl (lv_at hl 0 rfl) ?_
        refine lv_aload_n hx hb dX1_product_139 rfl (lv_at hl 1 rfl) ?_
        refine va_get (D := D) (ci := 1) (v := .int (nI k)) (C := RX1) (T := TX1) (N := 4) hx hb hts in_X1 hown hK hP 0 rfl rfl 2 (by decide) (hts _ q139) (fun _ h9 => h9) rfl dX1_product_140 ?_
        refine nv_isub hx hb dX1_product_143 (by omega) ?_
        refine lv_iconst (v := nI 1) hx hb dX1_product_144 (by decide) ?_
        refine nv_iadd hx hb dX1_product_145 ?_
        refine nv_ald hx hb hK hP 1 0 rfl rfl (by omega) (by decide) (hg _ (by omega)) dX1_product_146 ?_
        refine lv_aload_n hx hb dX1_product_147 rfl (lv_at hl 1 rfl) ?_
        refine va_get (D := D) (ci := 1) (v := .ref hd) (C := RX1) (T := TX1) (N := 4) hx hb hts in_X1 hown hK hP 0 rfl rfl 3 (by decide) (hts _ q140) (fun _ h9 => h9) rfl dX1_product_148 ?_
        refine lv_iload_n hx hb dX1_product_151 rfl (lv_at hl 0 rfl) ?_
        refine nv_ald hx hb hK hP 1 0 rfl rfl (by omega) (by decide) (hg _ (by omega)) dX1_product_152 ?_
        refine nv_iadd hx hb dX1_product_153 ?_
        refine fz_callMv (As := [.int (nI (((11 - t) - k) + 1)), .int (nI ((fz_dg (fz_ad (fz_rd k 11 (fz_pk p a k * fz_pk p b k) t) ((11 - t) - k) (11 - t)) ((11 - t) - k + 1) % p) + (fz_dg (fz_ad (fz_rd k 11 (fz_pk p a k * fz_pk p b k) t) ((11 - t) - k) (11 - t)) (11 - t) % p)))]) (rest := []) ⟨hx, hb, hml, hown, hts⟩ (mX1_put l hne hm (i := (11 - t) - k + 1) (v := fz_dg (fz_ad (fz_rd k 11 (fz_pk p a k * fz_pk p b k) t) ((11 - t) - k) (11 - t)) ((11 - t) - k + 1) % p + fz_dg (fz_ad (fz_rd k 11 (fz_pk p a k * fz_pk p b k) t) ((11 - t) - k) (11 - t)) (11 - t) % p) (by omega) (by omega)) (cwV 2 hts (lw_V q186 q188 qs14 q19 q189) rfl rfl rfl cd_X1_put ⟨Nat.le_of_ble_eq_true rfl, Nat.le_of_ble_eq_true rfl⟩) hP hK hS (fun _ z => z) rfl hl.1 rfl (Nat.le_of_ble_eq_true rfl) dX1_product_154 ⟨Nat.zero_le _, Nat.zero_le _⟩ (fun _ H locs hr_ hP _ hS => ?_)
        have hP : va_P D vwCl (fz_wM h hd dd q p k ((upd ((upd g ((11 - t) - k) (nI ((fz_dg (fz_rd k 11 (fz_pk p a k * fz_pk p b k) t) ((11 - t) - k) % p + fz_dg (fz_rd k 11 (fz_pk p a k * fz_pk p b k) t) (11 - t) % p) % p)))) ((11 - t) - k + 1) (nI ((fz_dg (fz_ad (fz_rd k 11 (fz_pk p a k * fz_pk p b k) t) ((11 - t) - k) (11 - t)) ((11 - t) - k + 1) % p + fz_dg (fz_ad (fz_rd k 11 (fz_pk p a k * fz_pk p b k) t) ((11 - t) - k) (11 - t)) (11 - t) % p) % p))))) H := hP
        have hg := fz_updMad (n := (11 - t) - k + 1) (s := (11 - t)) hg hbd1 (by omega)
        refine lv_aload_n hx hb dX1_product_157 rfl (lv_at hl 1 rfl) ?_
        refine va_get (D := D) (ci := 1) (v := .ref hd) (C := RX1) (T := TX1) (N := 4) hx hb hts in_X1 hown hK hP 0 rfl rfl 3 (by decide) (hts _ q140) (fun _ h9 => h9) rfl dX1_product_158 ?_
        refine lv_iload_n hx hb dX1_product_161 rfl (lv_at hl 0 rfl) ?_
        refine lv_iconst (v := nI 0) hx hb dX1_product_162 (by decide) ?_
        refine nv_ast hx hb hK hP (fz_dM hne) hS 1 0 rfl rfl (by omega) (by decide) dX1_product_163 (fun H locs hP hS => ?_)
        have hP : va_P D vwCl (fz_wM h hd dd q p k ((upd ((upd ((upd g ((11 - t) - k) (nI ((fz_dg (fz_rd k 11 (fz_pk p a k * fz_pk p b k) t) ((11 - t) - k) % p + fz_dg (fz_rd k 11 (fz_pk p a k * fz_pk p b k) t) (11 - t) % p) % p)))) ((11 - t) - k + 1) (nI ((fz_dg (fz_ad (fz_rd k 11 (fz_pk p a k * fz_pk p b k) t) ((11 - t) - k) (11 - t)) ((11 - t) - k + 1) % p + fz_dg (fz_ad (fz_rd k 11 (fz_pk p a k * fz_pk p b k) t) ((11 - t) - k) (11 - t)) (11 - t) % p) % p)))) (11 - t) ((nI 0))))) H := hP
        refine lv_iinc (v := (nI (11 - (t + 1)))) (lv' := [(3, .int (nI (11 - (t + 1)))), (0, .ref h)]) hx hb dX1_product_164 hl (k := 0) rfl (by rw [nv_dec (by omega)]; rfl) (by decide) rfl (fun ls hl => ?_)
        refine lv_goto (tgt := 89) hx hb dX1_product_167 (by decide) ?_
        exact ih _ H locs ls ⟨fun j hj => by rw [pk_un (by omega)]; exact hg j (by omega), by rw [Nat.pow_succ, show 144 * (2 ^ t * 2) = 2 * (144 * 2 ^ t) by omega]; exact fz_rs_bd2 (by omega) (by omega) hbd (by omega), hP, hS, lv_sub hl [0, 1] rfl⟩
    · obtain ⟨hg, hbd, hP, hS, hl⟩ := hI
      have hki : k * i + k ≤ 36 := by
          have z1 : k * (i + 1) ≤ 6 * 6 := Nat.mul_le_mul hk6 (by omega)
          rw [Nat.mul_add, Nat.mul_one] at z1
          omega
      refine lv_iload_n hx hb dX1_product_23 rfl (lv_at hl 0 rfl) ?_
      refine lv_aload_n hx hb dX1_product_24 rfl (lv_at hl 1 rfl) ?_
      refine va_get (D := D) (ci := 1) (v := .int (nI k)) (C := RX1) (T := TX1) (N := 4) hx hb hts in_X1 hown hK hP 0 rfl rfl 2 (by decide) (hts _ q139) (fun _ h9 => h9) rfl dX1_product_25 ?_
      refine lv_icmp_ge (tgt := 86) hx hb dX1_product_28 (by decide) (fun c_ => False.elim ((nI_ge hi (by omega)) c_)) (fun _ => ?_)
      refine lv_iconst (v := nI 0) hx hb dX1_product_31 (by decide) ?_
      refine lv_istore (lv' := [(4, .int (nI 0)), (3, .int (nI i)), (0, .ref h), (1, .int (nI a)), (2, .int (nI b))]) hx hb dX1_product_32 hl (by decide) rfl (fun ls hl => ?_)
      refine fz_loopH (G := Nat → Int32) k (fun j g H locs ls => (∀ m, m < 12 → g m = nI (fz_dg (fz_cv p k a b i j) m % p)) ∧ fz_bd (fz_cv p k a b i j) (4 * (k * i + j)) ∧ va_P D vwCl (fz_wM h hd dd q p k g) H ∧ va_S (fz_AM h hd) s.heap H locs ∧ lv_has ls 6 [(4, .int (nI j)), (3, .int (nI i)), (0, .ref h), (1, .int (nI a)), (2, .int (nI b))]) (fun g H locs ls hI => ?_) (fun j hj ih2 g H locs ls hI => ?_) 0 (Nat.zero_le _) g _ _ ls ⟨hg, hbd, hP, hS, lv_sub hl [0, 1, 2, 3, 4] rfl⟩
      · obtain ⟨hg, hbd, hP, hS, hl⟩ := hI
        refine lv_iload hx hb dX1_product_34 (lv_at hl 0 rfl) ?_
        refine lv_aload_n hx hb dX1_product_36 rfl (lv_at hl 2 rfl) ?_
        refine va_get (D := D) (ci := 1) (v := .int (nI k)) (C := RX1) (T := TX1) (N := 4) hx hb hts in_X1 hown hK hP 0 rfl rfl 2 (by decide) (hts _ q139) (fun _ h9 => h9) rfl dX1_product_37 ?_
        refine lv_icmp_ge (tgt := 80) hx hb dX1_product_40 (by decide) (fun _ => ?_) (fun c_ => False.elim ((fun z => z (nI_le (Nat.le_refl k) (by omega))) c_))
        refine lv_iinc (v := (nI (i + 1))) (lv' := [(3, .int (nI (i + 1))), (4, .int (nI k)), (0, .ref h), (1, .int (nI a)), (2, .int (nI b))]) hx hb dX1_product_80 hl (k := 1) rfl (nv_inc _) (by decide) rfl (fun ls hl => ?_)
        refine lv_goto (tgt := 23) hx hb dX1_product_83 (by decide) ?_
        rw [fz_cv_next] at hg hbd
        exact ih _ H locs ls ⟨hg, by rw [Nat.mul_add, Nat.mul_one]; exact hbd, hP, hS, lv_sub hl [0, 2, 3, 4] rfl⟩
      · obtain ⟨hg, hbd, hP, hS, hl⟩ := hI
        have hd4 := fz_dgt_mul hp2 hp3 a b i j
        have hdb := hbd (i + j)
        have hsm : fz_dg (fz_cv p k a b i j) (i + j) + fz_dgt p a i * fz_dgt p b j < 1048576 := by omega
        have hmd : fz_dg (fz_cv p k a b i j) (i + j) % p < p := Nat.mod_lt _ (by omega)
        refine lv_iload hx hb dX1_product_34 (lv_at hl 0 rfl) ?_
        refine lv_aload_n hx hb dX1_product_36 rfl (lv_at hl 2 rfl) ?_
        refine va_get (D := D) (ci := 1) (v := .int (nI k)) (C := RX1) (T := TX1) (N := 4) hx hb hts in_X1 hown hK hP 0 rfl rfl 2 (by decide) (hts _ q139) (fun _ h9 => h9) rfl dX1_product_37 ?_
        refine lv_icmp_ge (tgt := 80) hx hb dX1_product_40 (by decide) (fun c_ => False.elim ((nI_ge hj (by omega)) c_)) (fun _ => ?_)
        refine lv_aload_n hx hb dX1_product_43 rfl (lv_at hl 2 rfl) ?_
        refine lv_iload_n hx hb dX1_product_44 rfl (lv_at hl 3 rfl) ?_
        refine lv_iload_n hx hb dX1_product_45 rfl (lv_at hl 4 rfl) ?_
        refine lv_iload_n hx hb dX1_product_46 rfl (lv_at hl 1 rfl) ?_
        refine lv_iload hx hb dX1_product_47 (lv_at hl 0 rfl) ?_
        refine fz_callM (As := [.int (nI a), .int (nI b), .int (nI i), .int (nI j)]) (rest := []) ⟨hx, hb, hml, hown, hts⟩ (mX1_timesAt l hm (a := a) (b := b) (i := i) (j := j) (by omega) (by omega) hi hj) (cwV 4 hts (lw_V q182 q184 qs13 q19 q185) rfl rfl rfl cd_X1_timesAt ⟨Nat.le_of_ble_eq_true rfl, Nat.le_of_ble_eq_true rfl⟩) hP hK rfl hl.1 rfl (Nat.le_of_ble_eq_true rfl) dX1_product_49 ⟨Nat.zero_le _, Nat.zero_le _⟩ (fun r_ hr_ => ?_)
        have hr_ : r_ = (nI (fz_dgt p a i * fz_dgt p b j)) := hr_
        subst hr_
        refine lv_istore (lv' := [(5, .int (nI (fz_dgt p a i * fz_dgt p b j))), (4, .int (nI j)), (3, .int (nI i)), (0, .ref h), (1, .int (nI a)), (2, .int (nI b))]) hx hb dX1_product_52 hl (by decide) rfl (fun ls hl => ?_)
        refine lv_aload_n hx hb dX1_product_54 rfl (lv_at hl 3 rfl) ?_
        refine lv_iload_n hx hb dX1_product_55 rfl (lv_at hl 2 rfl) ?_
        refine lv_iload hx hb dX1_product_56 (lv_at hl 1 rfl) ?_
        refine nv_iadd hx hb dX1_product_58 ?_
        refine lv_aload_n hx hb dX1_product_59 rfl (lv_at hl 3 rfl) ?_
        refine va_get (D := D) (ci := 1) (v := .ref hd) (C := RX1) (T := TX1) (N := 4) hx hb hts in_X1 hown hK hP 0 rfl rfl 3 (by decide) (hts _ q140) (fun _ h9 => h9) rfl dX1_product_60 ?_
        refine lv_iload_n hx hb dX1_product_63 rfl (lv_at hl 2 rfl) ?_
        refine lv_iload hx hb dX1_product_64 (lv_at hl 1 rfl) ?_
        refine nv_iadd hx hb dX1_product_66 ?_
        refine nv_ald hx hb hK hP 1 0 rfl rfl (by omega) (by decide) (hg _ (by omega)) dX1_product_67 ?_
        refine lv_iload hx hb dX1_product_68 (lv_at hl 0 rfl) ?_
        refine nv_iadd hx hb dX1_product_70 ?_
        refine fz_callMv (As := [.int (nI (i + j)), .int (nI ((fz_dg (fz_cv p k a b i j) (i + j) % p) + (fz_dgt p a i * fz_dgt p b j)))]) (rest := []) ⟨hx, hb, hml, hown, hts⟩ (mX1_put l hne hm (i := i + j) (v := fz_dg (fz_cv p k a b i j) (i + j) % p + fz_dgt p a i * fz_dgt p b j) (by omega) (by omega)) (cwV 2 hts (lw_V q186 q188 qs14 q19 q189) rfl rfl rfl cd_X1_put ⟨Nat.le_of_ble_eq_true rfl, Nat.le_of_ble_eq_true rfl⟩) hP hK hS (fun _ z => z) rfl hl.1 rfl (Nat.le_of_ble_eq_true rfl) dX1_product_71 ⟨Nat.zero_le _, Nat.zero_le _⟩ (fun _ H locs hr_ hP _ hS => ?_)
        have hP : va_P D vwCl (fz_wM h hd dd q p k ((upd g (i + j) (nI ((fz_dg (fz_cv p k a b i j) (i + j) % p + fz_dgt p a i * fz_dgt p b j) % p))))) H := hP
        refine lv_iinc (v := (nI (j + 1))) (lv' := [(4, .int (nI (j + 1))), (5, .int (nI (fz_dgt p a i * fz_dgt p b j))), (3, .int (nI i)), (0, .ref h), (1, .int (nI a)), (2, .int (nI b))]) hx hb dX1_product_74 hl (k := 1) rfl (nv_inc _) (by decide) rfl (fun ls hl => ?_)
        refine lv_goto (tgt := 34) hx hb dX1_product_77 (by decide) ?_
        exact ih2 _ H locs ls ⟨by rw [fz_cv_step]; exact fz_updM hg hsm, by rw [fz_cv_step]; exact fz_bd_mono (fz_bd_add hbd (by omega)) (by omega), hP, hS, lv_sub hl [0, 2, 3, 4, 5] rfl⟩
  · obtain ⟨hz, hP, hS, hl⟩ := hI
    refine lv_iload_n hx hb dX1_product_2 rfl (lv_at hl 0 rfl) ?_
    refine lv_bipush (v := nI 12) hx hb dX1_product_3 (by decide) ?_
    refine lv_icmp_ge (tgt := 21) hx hb dX1_product_5 (by decide) (fun c_ => False.elim ((nI_ge hi (by omega)) c_)) (fun _ => ?_)
    refine lv_aload_n hx hb dX1_product_8 rfl (lv_at hl 1 rfl) ?_
    refine va_get (D := D) (ci := 1) (v := .ref hd) (C := RX1) (T := TX1) (N := 4) hx hb hts in_X1 hown hK hP 0 rfl rfl 3 (by decide) (hts _ q140) (fun _ h9 => h9) rfl dX1_product_9 ?_
    refine lv_iload_n hx hb dX1_product_12 rfl (lv_at hl 0 rfl) ?_
    refine lv_iconst (v := nI 0) hx hb dX1_product_13 (by decide) ?_
    refine nv_ast hx hb hK hP (fz_dM hne) hS 1 0 rfl rfl hi (by decide) dX1_product_14 (fun H locs hP hS => ?_)
    have hP : va_P D vwCl (fz_wM h hd dd q p k ((upd g i ((nI 0))))) H := hP
    refine lv_iinc (v := (nI (i + 1))) (lv' := [(3, .int (nI (i + 1))), (0, .ref h), (1, .int (nI a)), (2, .int (nI b))]) hx hb dX1_product_15 hl (k := 0) rfl (nv_inc _) (by decide) rfl (fun ls hl => ?_)
    refine lv_goto (tgt := 2) hx hb dX1_product_18 (by decide) ?_
    exact ih _ H locs ls ⟨fun j hj => by
        by_cases e : j = i
        · rw [e, pk_us]
        · rw [pk_un e]; exact hz j (by omega), hP, hS, lv_sub hl [0, 1, 2, 3] rfl⟩
end
section
/-! FieldTowerModel: the power, the public methods, the constructor -/
theorem fz_st_le (q s : Nat) : fz_st q s ≤ 6 := by
  unfold fz_st
  cases Nat.beq q 64 <;> cases Nat.beq s 2 <;> cases Nat.beq s 4 <;> cases Nat.beq s 8 <;> cases Nat.beq s 64 <;> cases Nat.beq s 3 <;> cases Nat.beq s 9 <;> cases Nat.beq s 81 <;> decide
/-- a FieldTowerModel made -/
def fz_IM (D : va_G) (h sz : Nat) (t : State) : Prop := ∃ (hd : Nat) (dd : ClassId) (f : Nat → Int32), h ≠ hd ∧ sz ≤ hd ∧ fz_BM D h hd dd 64 2 6 f t
set_option maxHeartbeats 4000000 in
set_option maxRecDepth 100000 in
theorem mX1_raised (l : Launch) {D : va_G} {h hd : Nat} {dd : ClassId} {q p k : Nat} {f : Nat → Int32} (hne : h ≠ hd) (hm : fz_Ok q p k) {a n : Nat} (ha : a < q) (hn : n ≤ 1000000) : Met l yX1_raised (ws_ yX1_raised cX1_raised 6 (some .int)) ({ frames := 4, cells := 0, slots := 0, locals := 95 }) (va_Pc [.ref h, .int (nI a), .int (nI n)] (fz_BM D h hd dd q p k f)) (va_Qi (fun (r : Int32) (g : Nat → Int32) => r = nI (fz_pow q a n)) (fun g t => va_P D vwCl (fz_wM h hd dd q p k g) t.heap) (fz_AM h hd)) 0 0 (fz_AM h hd) := by
  obtain ⟨hp2, hp3, hk4, hk6, hq64, hq81, hpk⟩ := fz_facts hm
  refine Met.ofW (cc := cX1_raised) (maxL := 6) (ret := (some .int)) (by decide) rfl ?_
  intro P e s m args below meth c s₁ B hml hv
  obtain ⟨rfl, hP, hK⟩ := hv
  have hx := B.exec
  have hb := B.bytes
  have hr := B.returns
  have hts := atoms_spec (ws := ws_ yX1_raised cX1_raised 6 (some .int)) B.pre
  have hts : ∀ w ∈ lw_all, w.before _ s = true := fun w h => hts w (List.mem_cons_of_mem _ h)
  have hown : s.vm.findClass RX1 = some m.cls := findClass_of_methodNamed B.named
  have hlocks := B.notSynchronized
  have hl := lv_entry ([.ref h, .int (nI a), .int (nI n)]) (n := 6) (Nat.le_of_ble_eq_true rfl)
  rw [lg_entry_eq]
  generalize (lg_sl ([.ref h, .int (nI a), .int (nI n)]) ++ List.replicate (6 - (lg_sl ([.ref h, .int (nI a), .int (nI n)])).length) Slot.unset).toArray = ls at hl ⊢
  have hl : lv_has ls 6 [(0, .ref h), (1, .int (nI a)), (2, .int (nI n))] := hl
  have hS : va_S (fz_AM h hd) s.heap s.heap [] := va_S.rf
  refine lv_iconst (v := nI 1) hx hb dX1_raised_0 (by decide) ?_
  refine lv_istore_n (lv' := [(3, .int (nI 1)), (0, .ref h), (1, .int (nI a)), (2, .int (nI n))]) hx hb dX1_raised_1 rfl hl (by decide) rfl (fun ls hl => ?_)
  refine lv_iload_n hx hb dX1_raised_2 rfl (lv_at hl 2 rfl) ?_
  refine lv_istore (lv' := [(4, .int (nI a)), (3, .int (nI 1)), (0, .ref h), (1, .int (nI a)), (2, .int (nI n))]) hx hb dX1_raised_3 hl (by decide) rfl (fun ls hl => ?_)
  refine lv_iconst (v := nI 0) hx hb dX1_raised_5 (by decide) ?_
  refine lv_istore (lv' := [(5, .int (nI 0)), (4, .int (nI a)), (3, .int (nI 1)), (0, .ref h), (1, .int (nI a)), (2, .int (nI n))]) hx hb dX1_raised_6 hl (by decide) rfl (fun ls hl => ?_)
  have hl : lv_has ls 6 [(5, .int (nI 0)), (4, .int (nI (fz_pow q a (2 ^ 0)))), (3, .int (nI (fz_pow q a (n % 2 ^ 0)))), (2, .int (nI n)), (0, .ref h)] := by rw [Nat.pow_zero, fz_pow_1 hm ha, Nat.mod_one, fz_pow_n0]; exact lv_sub hl [0, 1, 2, 5, 3] rfl
  refine fz_loopH (G := Nat → Int32) 20 (fun i g H locs ls => va_P D vwCl (fz_wM h hd dd q p k g) H ∧ va_S (fz_AM h hd) s.heap H locs ∧ lv_has ls 6 [(5, .int (nI i)), (4, .int (nI (fz_pow q a (2 ^ i)))), (3, .int (nI (fz_pow q a (n % 2 ^ i)))), (2, .int (nI n)), (0, .ref h)]) (fun g H locs ls hI => ?_) (fun i hi ih g H locs ls hI => ?_) 0 (Nat.zero_le _) f _ _ ls ⟨hP, hS, hl⟩
  · obtain ⟨hP, hS, hl⟩ := hI
    refine lv_iload hx hb dX1_raised_8 (lv_at hl 0 rfl) ?_
    refine lv_bipush (v := nI 20) hx hb dX1_raised_10 (by decide) ?_
    refine lv_icmp_ge (tgt := 49) hx hb dX1_raised_12 (by decide) (fun _ => ?_) (fun c_ => False.elim ((fun z => z (nI_le (Nat.le_refl 20) (by omega))) c_))
    refine lv_iload_n hx hb dX1_raised_49 rfl (lv_at hl 2 rfl) ?_
    exact W.iret (v := (nI (fz_pow q a (n % 2 ^ 20)))) hx hb hr (fun t ht hW => ⟨⟨_, g, rfl, (by rw [Nat.mod_eq_of_lt (show n < 2 ^ 20 by omega)]), by show va_P _ _ _ t.heap; rw [ht]; exact hP⟩, hS.F ht⟩) hS.2.2 dX1_raised_50
  · obtain ⟨hP, hS, hl⟩ := hI
    have hp_ := fz_pow_lt hm a (2 ^ i)
    have hr0 := fz_pow_lt hm a (n % 2 ^ i)
    by_cases hb1 : n / 2 ^ i % 2 = 1
    · refine lv_iload hx hb dX1_raised_8 (lv_at hl 0 rfl) ?_
      refine lv_bipush (v := nI 20) hx hb dX1_raised_10 (by decide) ?_
      refine lv_icmp_ge (tgt := 49) hx hb dX1_raised_12 (by decide) (fun c_ => False.elim ((nI_ge hi (by omega)) c_)) (fun _ => ?_)
      refine lv_iload_n hx hb dX1_raised_15 rfl (lv_at hl 3 rfl) ?_
      refine lv_iload hx hb dX1_raised_16 (lv_at hl 0 rfl) ?_
      refine lv_ishr hx hb dX1_raised_18 ?_
      refine fz_top (y := (nI (n / 2 ^ i))) (fz_bit (by omega) hi) ?_
      refine lv_iconst (v := nI 1) hx hb dX1_raised_19 (by decide) ?_
      refine lv_iand hx hb dX1_raised_20 ?_
      refine fz_top (y := (nI (n / 2 ^ i % 2))) (pk_andN (Nat.lt_of_le_of_lt (Nat.div_le_self _ _) (by omega)) 1 (by decide)) ?_
      refine lv_iconst (v := nI 1) hx hb dX1_raised_21 (by decide) ?_
      refine lv_icmp_ne (tgt := 33) hx hb dX1_raised_22 (by decide) (fun c_ => False.elim ((fun z => z (by rw [hb1])) c_)) (fun _ => ?_)
      refine lv_aload_n hx hb dX1_raised_25 rfl (lv_at hl 4 rfl) ?_
      refine lv_iload_n hx hb dX1_raised_26 rfl (lv_at hl 2 rfl) ?_
      refine lv_iload hx hb dX1_raised_27 (lv_at hl 1 rfl) ?_
      refine fz_callMm (As := [.int (nI (fz_pow q a (n % 2 ^ i))), .int (nI (fz_pow q a (2 ^ i)))]) (rest := []) ⟨hx, hb, hml, hown, hts⟩ (mX1_product l hne hm (a := fz_pow q a (n % 2 ^ i)) (b := fz_pow q a (2 ^ i)) hr0 hp_) (cwV 2 hts (lw_V q178 q180 qs12 q19 q181) rfl rfl rfl cd_X1_product ⟨Nat.le_of_ble_eq_true rfl, Nat.le_of_ble_eq_true rfl⟩) hP hK hS (fun _ z => z) rfl hl.1 rfl (Nat.le_of_ble_eq_true rfl) dX1_raised_29 ⟨Nat.zero_le _, Nat.zero_le _⟩ (fun r_ g_ H locs hr_ hP _ hS => ?_)
      have hP : va_P D vwCl (fz_wM h hd dd q p k g_) H := hP
      have hr_ : r_ = (nI (fz_pow q a (n % 2 ^ (i + 1)))) := by rw [hr_, fz_rz hm hb1]
      subst hr_
      refine lv_istore_n (lv' := [(3, .int (nI (fz_pow q a (n % 2 ^ (i + 1))))), (5, .int (nI i)), (4, .int (nI (fz_pow q a (2 ^ i)))), (2, .int (nI n)), (0, .ref h)]) hx hb dX1_raised_32 rfl hl (by decide) rfl (fun ls hl => ?_)
      refine lv_aload_n hx hb dX1_raised_33 rfl (lv_at hl 4 rfl) ?_
      refine lv_iload hx hb dX1_raised_34 (lv_at hl 2 rfl) ?_
      refine lv_iload hx hb dX1_raised_36 (lv_at hl 2 rfl) ?_
      refine fz_callMm (As := [.int (nI (fz_pow q a (2 ^ i))), .int (nI (fz_pow q a (2 ^ i)))]) (rest := []) ⟨hx, hb, hml, hown, hts⟩ (mX1_product l hne hm (a := fz_pow q a (2 ^ i)) (b := fz_pow q a (2 ^ i)) hp_ hp_) (cwV 2 hts (lw_V q178 q180 qs12 q19 q181) rfl rfl rfl cd_X1_product ⟨Nat.le_of_ble_eq_true rfl, Nat.le_of_ble_eq_true rfl⟩) hP hK hS (fun _ z => z) rfl hl.1 rfl (Nat.le_of_ble_eq_true rfl) dX1_raised_38 ⟨Nat.zero_le _, Nat.zero_le _⟩ (fun r_ g_ H locs hr_ hP _ hS => ?_)
      have hP : va_P D vwCl (fz_wM h hd dd q p k g_) H := hP
      have hr_ : r_ = (nI (fz_pow q a (2 ^ (i + 1)))) := by rw [hr_, fz_rq hm]
      subst hr_
      refine lv_istore (lv' := [(4, .int (nI (fz_pow q a (2 ^ (i + 1))))), (3, .int (nI (fz_pow q a (n % 2 ^ (i + 1))))), (5, .int (nI i)), (2, .int (nI n)), (0, .ref h)]) hx hb dX1_raised_41 hl (by decide) rfl (fun ls hl => ?_)
      refine lv_iinc (v := (nI (i + 1))) (lv' := [(5, .int (nI (i + 1))), (4, .int (nI (fz_pow q a (2 ^ (i + 1))))), (3, .int (nI (fz_pow q a (n % 2 ^ (i + 1))))), (2, .int (nI n)), (0, .ref h)]) hx hb dX1_raised_43 hl (k := 2) rfl (nv_inc _) (by decide) rfl (fun ls hl => ?_)
      refine lv_goto (tgt := 8) hx hb dX1_raised_46 (by decide) ?_
      exact ih _ H locs ls ⟨hP, hS, lv_sub hl [0, 1, 2, 3, 4] rfl⟩
    · refine lv_iload hx hb dX1_raised_8 (lv_at hl 0 rfl) ?_
      refine lv_bipush (v := nI 20) hx hb dX1_raised_10 (by decide) ?_
      refine lv_icmp_ge (tgt := 49) hx hb dX1_raised_12 (by decide) (fun c_ => False.elim ((nI_ge hi (by omega)) c_)) (fun _ => ?_)
      refine lv_iload_n hx hb dX1_raised_15 rfl (lv_at hl 3 rfl) ?_
      refine lv_iload hx hb dX1_raised_16 (lv_at hl 0 rfl) ?_
      refine lv_ishr hx hb dX1_raised_18 ?_
      refine fz_top (y := (nI (n / 2 ^ i))) (fz_bit (by omega) hi) ?_
      refine lv_iconst (v := nI 1) hx hb dX1_raised_19 (by decide) ?_
      refine lv_iand hx hb dX1_raised_20 ?_
      refine fz_top (y := (nI (n / 2 ^ i % 2))) (pk_andN (Nat.lt_of_le_of_lt (Nat.div_le_self _ _) (by omega)) 1 (by decide)) ?_
      refine lv_iconst (v := nI 1) hx hb dX1_raised_21 (by decide) ?_
      refine lv_icmp_ne (tgt := 33) hx hb dX1_raised_22 (by decide) (fun _ => ?_) (fun c_ => False.elim ((fun y => (hb1 ((nI_eq (by omega) (by decide)).mp y))) c_))
      refine lv_aload_n hx hb dX1_raised_33 rfl (lv_at hl 4 rfl) ?_
      refine lv_iload hx hb dX1_raised_34 (lv_at hl 1 rfl) ?_
      refine lv_iload hx hb dX1_raised_36 (lv_at hl 1 rfl) ?_
      refine fz_callMm (As := [.int (nI (fz_pow q a (2 ^ i))), .int (nI (fz_pow q a (2 ^ i)))]) (rest := []) ⟨hx, hb, hml, hown, hts⟩ (mX1_product l hne hm (a := fz_pow q a (2 ^ i)) (b := fz_pow q a (2 ^ i)) hp_ hp_) (cwV 2 hts (lw_V q178 q180 qs12 q19 q181) rfl rfl rfl cd_X1_product ⟨Nat.le_of_ble_eq_true rfl, Nat.le_of_ble_eq_true rfl⟩) hP hK hS (fun _ z => z) rfl hl.1 rfl (Nat.le_of_ble_eq_true rfl) dX1_raised_38 ⟨Nat.zero_le _, Nat.zero_le _⟩ (fun r_ g_ H locs hr_ hP _ hS => ?_)
      have hP : va_P D vwCl (fz_wM h hd dd q p k g_) H := hP
      have hr_ : r_ = (nI (fz_pow q a (2 ^ (i + 1)))) := by rw [hr_, fz_rq hm]
      subst hr_
      refine lv_istore (lv' := [(4, .int (nI (fz_pow q a (2 ^ (i + 1))))), (5, .int (nI i)), (3, .int (nI (fz_pow q a (n % 2 ^ i)))), (2, .int (nI n)), (0, .ref h)]) hx hb dX1_raised_41 hl (by decide) rfl (fun ls hl => ?_)
      refine lv_iinc (v := (nI (i + 1))) (lv' := [(5, .int (nI (i + 1))), (4, .int (nI (fz_pow q a (2 ^ (i + 1))))), (3, .int (nI (fz_pow q a (n % 2 ^ i)))), (2, .int (nI n)), (0, .ref h)]) hx hb dX1_raised_43 hl (k := 1) rfl (nv_inc _) (by decide) rfl (fun ls hl => ?_)
      refine lv_goto (tgt := 8) hx hb dX1_raised_46 (by decide) ?_
      rw [fz_rz0 hb1] at hl
      exact ih _ H locs ls ⟨hP, hS, lv_sub hl [0, 1, 2, 3, 4] rfl⟩
set_option maxHeartbeats 4000000 in
set_option maxRecDepth 100000 in
theorem mX1_add (l : Launch) {D : va_G} {h hd : Nat} {dd : ClassId} {q p k : Nat} {f : Nat → Int32} (hm : fz_Ok q p k) (a b : Int32) : Met l yX1_add (ws_ yX1_add cX1_add 3 (some .int)) ({ frames := 3, cells := 0, slots := 0, locals := 71 }) (va_Pc [.ref h, .int a, .int b] (fz_BM D h hd dd q p k f)) (vp_Si (fun r => r = fz_Aadd q p k a b)) 0 0 (fun _ => False) := by
  obtain ⟨hp2, hp3, hk4, hk6, hq64, hq81, hpk⟩ := fz_facts hm
  refine Met.ofW (cc := cX1_add) (maxL := 3) (ret := (some .int)) (by decide) rfl ?_
  intro P e s m args below meth c s₁ B hml hv
  obtain ⟨rfl, hP, hK⟩ := hv
  have hx := B.exec
  have hb := B.bytes
  have hr := B.returns
  have hts := atoms_spec (ws := ws_ yX1_add cX1_add 3 (some .int)) B.pre
  have hts : ∀ w ∈ lw_all, w.before _ s = true := fun w h => hts w (List.mem_cons_of_mem _ h)
  have hown : s.vm.findClass RX1 = some m.cls := findClass_of_methodNamed B.named
  have hlocks := B.notSynchronized
  have hl := lv_entry ([.ref h, .int a, .int b]) (n := 3) (Nat.le_of_ble_eq_true rfl)
  rw [lg_entry_eq]
  generalize (lg_sl ([.ref h, .int a, .int b]) ++ List.replicate (3 - (lg_sl ([.ref h, .int a, .int b])).length) Slot.unset).toArray = ls at hl ⊢
  have hl : lv_has ls 3 [(0, .ref h), (1, .int a), (2, .int b)] := hl
  cases ea : fz_el q a with
  | false =>
    refine lv_aload_n hx hb dX1_add_0 rfl (lv_at hl 0 rfl) ?_
    refine lv_iload_n hx hb dX1_add_1 rfl (lv_at hl 1 rfl) ?_
    refine fz_callM (As := [.int a]) (rest := []) ⟨hx, hb, hml, hown, hts⟩ (mX1_bad l a) (cwV 1 hts (lw_V q158 q160 qs8 q19 q161) rfl rfl rfl cd_X1_bad ⟨Nat.le_of_ble_eq_true rfl, Nat.le_of_ble_eq_true rfl⟩) hP hK rfl hl.1 rfl (Nat.le_of_ble_eq_true rfl) dX1_add_2 ⟨Nat.zero_le _, Nat.zero_le _⟩ (fun r_ hr_ => ?_)
    have hr_ : r_ = (nI 1) := by rw [hr_, ea]; rfl
    subst hr_
    refine lv_if_ne (tgt := 16) hx hb dX1_add_5 (by decide) (fun _ => ?_) (fun c_ => False.elim ((fun z => absurd z (by decide)) c_))
    refine lv_iconst (v := -1) hx hb dX1_add_16 (by decide) ?_
    refine lv_goto (tgt := 26) hx hb dX1_add_17 (by decide) ?_
    exact W.iret (v := (-1)) hx hb hr (fun t ht hW => ⟨_, rfl, (by rw [fz_Aadd, ea]; rfl), ht⟩) (fun _ z => absurd z List.not_mem_nil) dX1_add_26
  | true =>
    obtain ⟨i, hi, rfl⟩ := fz_el_of (by omega) ea
    cases eb : fz_el q b with
    | false =>
      refine lv_aload_n hx hb dX1_add_0 rfl (lv_at hl 0 rfl) ?_
      refine lv_iload_n hx hb dX1_add_1 rfl (lv_at hl 1 rfl) ?_
      refine fz_callM (As := [.int (nI i)]) (rest := []) ⟨hx, hb, hml, hown, hts⟩ (mX1_bad l (nI i)) (cwV 1 hts (lw_V q158 q160 qs8 q19 q161) rfl rfl rfl cd_X1_bad ⟨Nat.le_of_ble_eq_true rfl, Nat.le_of_ble_eq_true rfl⟩) hP hK rfl hl.1 rfl (Nat.le_of_ble_eq_true rfl) dX1_add_2 ⟨Nat.zero_le _, Nat.zero_le _⟩ (fun r_ hr_ => ?_)
      have hr_ : r_ = (nI 0) := by rw [hr_, ea]; rfl
      subst hr_
      refine lv_if_ne (tgt := 16) hx hb dX1_add_5 (by decide) (fun c_ => False.elim ((fun z => z rfl) c_)) (fun _ => ?_)
      refine lv_aload_n hx hb dX1_add_8 rfl (lv_at hl 0 rfl) ?_
      refine lv_iload_n hx hb dX1_add_9 rfl (lv_at hl 2 rfl) ?_
      refine fz_callM (As := [.int b]) (rest := []) ⟨hx, hb, hml, hown, hts⟩ (mX1_bad l b) (cwV 1 hts (lw_V q158 q160 qs8 q19 q161) rfl rfl rfl cd_X1_bad ⟨Nat.le_of_ble_eq_true rfl, Nat.le_of_ble_eq_true rfl⟩) hP hK rfl hl.1 rfl (Nat.le_of_ble_eq_true rfl) dX1_add_10 ⟨Nat.zero_le _, Nat.zero_le _⟩ (fun r_ hr_ => ?_)
      have hr_ : r_ = (nI 1) := by rw [hr_, eb]; rfl
      subst hr_
      refine lv_if_eq (tgt := 20) hx hb dX1_add_13 (by decide) (fun c_ => False.elim ((fun z => absurd z (by decide)) c_)) (fun _ => ?_)
      refine lv_iconst (v := -1) hx hb dX1_add_16 (by decide) ?_
      refine lv_goto (tgt := 26) hx hb dX1_add_17 (by decide) ?_
      exact W.iret (v := (-1)) hx hb hr (fun t ht hW => ⟨_, rfl, (by rw [fz_Aadd, ea, eb]; rfl), ht⟩) (fun _ z => absurd z List.not_mem_nil) dX1_add_26
    | true =>
      obtain ⟨j, hj, rfl⟩ := fz_el_of (by omega) eb
      refine lv_aload_n hx hb dX1_add_0 rfl (lv_at hl 0 rfl) ?_
      refine lv_iload_n hx hb dX1_add_1 rfl (lv_at hl 1 rfl) ?_
      refine fz_callM (As := [.int (nI i)]) (rest := []) ⟨hx, hb, hml, hown, hts⟩ (mX1_bad l (nI i)) (cwV 1 hts (lw_V q158 q160 qs8 q19 q161) rfl rfl rfl cd_X1_bad ⟨Nat.le_of_ble_eq_true rfl, Nat.le_of_ble_eq_true rfl⟩) hP hK rfl hl.1 rfl (Nat.le_of_ble_eq_true rfl) dX1_add_2 ⟨Nat.zero_le _, Nat.zero_le _⟩ (fun r_ hr_ => ?_)
      have hr_ : r_ = (nI 0) := by rw [hr_, ea]; rfl
      subst hr_
      refine lv_if_ne (tgt := 16) hx hb dX1_add_5 (by decide) (fun c_ => False.elim ((fun z => z rfl) c_)) (fun _ => ?_)
      refine lv_aload_n hx hb dX1_add_8 rfl (lv_at hl 0 rfl) ?_
      refine lv_iload_n hx hb dX1_add_9 rfl (lv_at hl 2 rfl) ?_
      refine fz_callM (As := [.int (nI j)]) (rest := []) ⟨hx, hb, hml, hown, hts⟩ (mX1_bad l (nI j)) (cwV 1 hts (lw_V q158 q160 qs8 q19 q161) rfl rfl rfl cd_X1_bad ⟨Nat.le_of_ble_eq_true rfl, Nat.le_of_ble_eq_true rfl⟩) hP hK rfl hl.1 rfl (Nat.le_of_ble_eq_true rfl) dX1_add_10 ⟨Nat.zero_le _, Nat.zero_le _⟩ (fun r_ hr_ => ?_)
      have hr_ : r_ = (nI 0) := by rw [hr_, eb]; rfl
      subst hr_
      refine lv_if_eq (tgt := 20) hx hb dX1_add_13 (by decide) (fun _ => ?_) (fun c_ => False.elim ((fun z => z rfl) c_))
      refine lv_aload_n hx hb dX1_add_20 rfl (lv_at hl 0 rfl) ?_
      refine lv_iload_n hx hb dX1_add_21 rfl (lv_at hl 1 rfl) ?_
      refine lv_iload_n hx hb dX1_add_22 rfl (lv_at hl 2 rfl) ?_
      refine fz_callM (As := [.int (nI i), .int (nI j)]) (rest := []) ⟨hx, hb, hml, hown, hts⟩ (mX1_sum l hm (a := i) (b := j) (by omega) (by omega)) (cwV 2 hts (lw_V q162 q164 qs9 q19 q165) rfl rfl rfl cd_X1_sum ⟨Nat.le_of_ble_eq_true rfl, Nat.le_of_ble_eq_true rfl⟩) hP hK rfl hl.1 rfl (Nat.le_of_ble_eq_true rfl) dX1_add_23 ⟨Nat.zero_le _, Nat.zero_le _⟩ (fun r_ hr_ => ?_)
      have hr_ : r_ = (nI (fz_sum p i j k)) := hr_
      subst hr_
      exact W.iret (v := (nI (fz_sum p i j k))) hx hb hr (fun t ht hW => ⟨_, rfl, (by rw [fz_Aadd, ea, eb, nI_clamp (by omega), nI_clamp (by omega)]; rfl), ht⟩) (fun _ z => absurd z List.not_mem_nil) dX1_add_26
set_option maxHeartbeats 4000000 in
set_option maxRecDepth 100000 in
theorem mX1_multiply (l : Launch) {D : va_G} {h hd : Nat} {dd : ClassId} {q p k : Nat} {f : Nat → Int32} (hne : h ≠ hd) (hm : fz_Ok q p k) (a b : Int32) : Met l yX1_multiply (ws_ yX1_multiply cX1_multiply 3 (some .int)) ({ frames := 4, cells := 0, slots := 0, locals := 95 }) (va_Pc [.ref h, .int a, .int b] (fz_BM D h hd dd q p k f)) (va_Qi (fun (r : Int32) (g : Nat → Int32) => r = fz_Amul q a b) (fun g t => va_P D vwCl (fz_wM h hd dd q p k g) t.heap) (fz_AM h hd)) 0 0 (fz_AM h hd) := by
  obtain ⟨hp2, hp3, hk4, hk6, hq64, hq81, hpk⟩ := fz_facts hm
  refine Met.ofW (cc := cX1_multiply) (maxL := 3) (ret := (some .int)) (by decide) rfl ?_
  intro P e s m args below meth c s₁ B hml hv
  obtain ⟨rfl, hP, hK⟩ := hv
  have hx := B.exec
  have hb := B.bytes
  have hr := B.returns
  have hts := atoms_spec (ws := ws_ yX1_multiply cX1_multiply 3 (some .int)) B.pre
  have hts : ∀ w ∈ lw_all, w.before _ s = true := fun w h => hts w (List.mem_cons_of_mem _ h)
  have hown : s.vm.findClass RX1 = some m.cls := findClass_of_methodNamed B.named
  have hlocks := B.notSynchronized
  have hl := lv_entry ([.ref h, .int a, .int b]) (n := 3) (Nat.le_of_ble_eq_true rfl)
  rw [lg_entry_eq]
  generalize (lg_sl ([.ref h, .int a, .int b]) ++ List.replicate (3 - (lg_sl ([.ref h, .int a, .int b])).length) Slot.unset).toArray = ls at hl ⊢
  have hl : lv_has ls 3 [(0, .ref h), (1, .int a), (2, .int b)] := hl
  have hS : va_S (fz_AM h hd) s.heap s.heap [] := va_S.rf
  cases ea : fz_el q a with
  | false =>
    refine lv_aload_n hx hb dX1_multiply_0 rfl (lv_at hl 0 rfl) ?_
    refine lv_iload_n hx hb dX1_multiply_1 rfl (lv_at hl 1 rfl) ?_
    refine fz_callM (As := [.int a]) (rest := []) ⟨hx, hb, hml, hown, hts⟩ (mX1_bad l a) (cwV 1 hts (lw_V q158 q160 qs8 q19 q161) rfl rfl rfl cd_X1_bad ⟨Nat.le_of_ble_eq_true rfl, Nat.le_of_ble_eq_true rfl⟩) hP hK rfl hl.1 rfl (Nat.le_of_ble_eq_true rfl) dX1_multiply_2 ⟨Nat.zero_le _, Nat.zero_le _⟩ (fun r_ hr_ => ?_)
    have hr_ : r_ = (nI 1) := by rw [hr_, ea]; rfl
    subst hr_
    refine lv_if_ne (tgt := 16) hx hb dX1_multiply_5 (by decide) (fun _ => ?_) (fun c_ => False.elim ((fun z => absurd z (by decide)) c_))
    refine lv_iconst (v := -1) hx hb dX1_multiply_16 (by decide) ?_
    refine lv_goto (tgt := 26) hx hb dX1_multiply_17 (by decide) ?_
    exact W.iret (v := (-1)) hx hb hr (fun t ht hW => ⟨⟨_, f, rfl, (by rw [fz_Amul, ea]; rfl), by show va_P _ _ _ t.heap; rw [ht]; exact hP⟩, hS.F ht⟩) hS.2.2 dX1_multiply_26
  | true =>
    obtain ⟨i, hi, rfl⟩ := fz_el_of (by omega) ea
    cases eb : fz_el q b with
    | false =>
      refine lv_aload_n hx hb dX1_multiply_0 rfl (lv_at hl 0 rfl) ?_
      refine lv_iload_n hx hb dX1_multiply_1 rfl (lv_at hl 1 rfl) ?_
      refine fz_callM (As := [.int (nI i)]) (rest := []) ⟨hx, hb, hml, hown, hts⟩ (mX1_bad l (nI i)) (cwV 1 hts (lw_V q158 q160 qs8 q19 q161) rfl rfl rfl cd_X1_bad ⟨Nat.le_of_ble_eq_true rfl, Nat.le_of_ble_eq_true rfl⟩) hP hK rfl hl.1 rfl (Nat.le_of_ble_eq_true rfl) dX1_multiply_2 ⟨Nat.zero_le _, Nat.zero_le _⟩ (fun r_ hr_ => ?_)
      have hr_ : r_ = (nI 0) := by rw [hr_, ea]; rfl
      subst hr_
      refine lv_if_ne (tgt := 16) hx hb dX1_multiply_5 (by decide) (fun c_ => False.elim ((fun z => z rfl) c_)) (fun _ => ?_)
      refine lv_aload_n hx hb dX1_multiply_8 rfl (lv_at hl 0 rfl) ?_
      refine lv_iload_n hx hb dX1_multiply_9 rfl (lv_at hl 2 rfl) ?_
      refine fz_callM (As := [.int b]) (rest := []) ⟨hx, hb, hml, hown, hts⟩ (mX1_bad l b) (cwV 1 hts (lw_V q158 q160 qs8 q19 q161) rfl rfl rfl cd_X1_bad ⟨Nat.le_of_ble_eq_true rfl, Nat.le_of_ble_eq_true rfl⟩) hP hK rfl hl.1 rfl (Nat.le_of_ble_eq_true rfl) dX1_multiply_10 ⟨Nat.zero_le _, Nat.zero_le _⟩ (fun r_ hr_ => ?_)
      have hr_ : r_ = (nI 1) := by rw [hr_, eb]; rfl
      subst hr_
      refine lv_if_eq (tgt := 20) hx hb dX1_multiply_13 (by decide) (fun c_ => False.elim ((fun z => absurd z (by decide)) c_)) (fun _ => ?_)
      refine lv_iconst (v := -1) hx hb dX1_multiply_16 (by decide) ?_
      refine lv_goto (tgt := 26) hx hb dX1_multiply_17 (by decide) ?_
      exact W.iret (v := (-1)) hx hb hr (fun t ht hW => ⟨⟨_, f, rfl, (by rw [fz_Amul, ea, eb]; rfl), by show va_P _ _ _ t.heap; rw [ht]; exact hP⟩, hS.F ht⟩) hS.2.2 dX1_multiply_26
    | true =>
      obtain ⟨j, hj, rfl⟩ := fz_el_of (by omega) eb
      refine lv_aload_n hx hb dX1_multiply_0 rfl (lv_at hl 0 rfl) ?_
      refine lv_iload_n hx hb dX1_multiply_1 rfl (lv_at hl 1 rfl) ?_
      refine fz_callM (As := [.int (nI i)]) (rest := []) ⟨hx, hb, hml, hown, hts⟩ (mX1_bad l (nI i)) (cwV 1 hts (lw_V q158 q160 qs8 q19 q161) rfl rfl rfl cd_X1_bad ⟨Nat.le_of_ble_eq_true rfl, Nat.le_of_ble_eq_true rfl⟩) hP hK rfl hl.1 rfl (Nat.le_of_ble_eq_true rfl) dX1_multiply_2 ⟨Nat.zero_le _, Nat.zero_le _⟩ (fun r_ hr_ => ?_)
      have hr_ : r_ = (nI 0) := by rw [hr_, ea]; rfl
      subst hr_
      refine lv_if_ne (tgt := 16) hx hb dX1_multiply_5 (by decide) (fun c_ => False.elim ((fun z => z rfl) c_)) (fun _ => ?_)
      refine lv_aload_n hx hb dX1_multiply_8 rfl (lv_at hl 0 rfl) ?_
      refine lv_iload_n hx hb dX1_multiply_9 rfl (lv_at hl 2 rfl) ?_
      refine fz_callM (As := [.int (nI j)]) (rest := []) ⟨hx, hb, hml, hown, hts⟩ (mX1_bad l (nI j)) (cwV 1 hts (lw_V q158 q160 qs8 q19 q161) rfl rfl rfl cd_X1_bad ⟨Nat.le_of_ble_eq_true rfl, Nat.le_of_ble_eq_true rfl⟩) hP hK rfl hl.1 rfl (Nat.le_of_ble_eq_true rfl) dX1_multiply_10 ⟨Nat.zero_le _, Nat.zero_le _⟩ (fun r_ hr_ => ?_)
      have hr_ : r_ = (nI 0) := by rw [hr_, eb]; rfl
      subst hr_
      refine lv_if_eq (tgt := 20) hx hb dX1_multiply_13 (by decide) (fun _ => ?_) (fun c_ => False.elim ((fun z => z rfl) c_))
      refine lv_aload_n hx hb dX1_multiply_20 rfl (lv_at hl 0 rfl) ?_
      refine lv_iload_n hx hb dX1_multiply_21 rfl (lv_at hl 1 rfl) ?_
      refine lv_iload_n hx hb dX1_multiply_22 rfl (lv_at hl 2 rfl) ?_
      refine fz_callMm (As := [.int (nI i), .int (nI j)]) (rest := []) ⟨hx, hb, hml, hown, hts⟩ (mX1_product l hne hm hi hj) (cwV 2 hts (lw_V q178 q180 qs12 q19 q181) rfl rfl rfl cd_X1_product ⟨Nat.le_of_ble_eq_true rfl, Nat.le_of_ble_eq_true rfl⟩) hP hK hS (fun _ z => z) rfl hl.1 rfl (Nat.le_of_ble_eq_true rfl) dX1_multiply_23 ⟨Nat.zero_le _, Nat.zero_le _⟩ (fun r_ g_ H locs hr_ hP _ hS => ?_)
      have hP : va_P D vwCl (fz_wM h hd dd q p k g_) H := hP
      have hr_ : r_ = (nI (fz_mul q i j)) := hr_
      subst hr_
      exact W.iret (v := (nI (fz_mul q i j))) hx hb hr (fun t ht hW => ⟨⟨_, g_, rfl, (by rw [fz_Amul, ea, eb, nI_clamp (by omega), nI_clamp (by omega)]; rfl), by show va_P _ _ _ t.heap; rw [ht]; exact hP⟩, hS.F ht⟩) hS.2.2 dX1_multiply_26
set_option maxHeartbeats 4000000 in
set_option maxRecDepth 100000 in
theorem mX1_invert (l : Launch) {D : va_G} {h hd : Nat} {dd : ClassId} {q p k : Nat} {f : Nat → Int32} (hne : h ≠ hd) (hm : fz_Ok q p k) (a : Int32) : Met l yX1_invert (ws_ yX1_invert cX1_invert 3 (some .int)) ({ frames := 4, cells := 0, slots := 0, locals := 95 }) (va_Pc [.ref h, .int a] (fz_BM D h hd dd q p k f)) (va_Qi (fun (r : Int32) (g : Nat → Int32) => r = fz_Ainv q a) (fun g t => va_P D vwCl (fz_wM h hd dd q p k g) t.heap) (fz_AM h hd)) 0 0 (fz_AM h hd) := by
  obtain ⟨hp2, hp3, hk4, hk6, hq64, hq81, hpk⟩ := fz_facts hm
  refine Met.ofW (cc := cX1_invert) (maxL := 3) (ret := (some .int)) (by decide) rfl ?_
  intro P e s m args below meth c s₁ B hml hv
  obtain ⟨rfl, hP, hK⟩ := hv
  have hx := B.exec
  have hb := B.bytes
  have hr := B.returns
  have hts := atoms_spec (ws := ws_ yX1_invert cX1_invert 3 (some .int)) B.pre
  have hts : ∀ w ∈ lw_all, w.before _ s = true := fun w h => hts w (List.mem_cons_of_mem _ h)
  have hown : s.vm.findClass RX1 = some m.cls := findClass_of_methodNamed B.named
  have hlocks := B.notSynchronized
  have hl := lv_entry ([.ref h, .int a]) (n := 3) (Nat.le_of_ble_eq_true rfl)
  rw [lg_entry_eq]
  generalize (lg_sl ([.ref h, .int a]) ++ List.replicate (3 - (lg_sl ([.ref h, .int a])).length) Slot.unset).toArray = ls at hl ⊢
  have hl : lv_has ls 3 [(0, .ref h), (1, .int a)] := hl
  have hS : va_S (fz_AM h hd) s.heap s.heap [] := va_S.rf
  cases ea : fz_el q a with
  | false =>
    refine lv_aload_n hx hb dX1_invert_0 rfl (lv_at hl 0 rfl) ?_
    refine lv_iload_n hx hb dX1_invert_1 rfl (lv_at hl 1 rfl) ?_
    refine fz_callM (As := [.int a]) (rest := []) ⟨hx, hb, hml, hown, hts⟩ (mX1_bad l a) (cwV 1 hts (lw_V q158 q160 qs8 q19 q161) rfl rfl rfl cd_X1_bad ⟨Nat.le_of_ble_eq_true rfl, Nat.le_of_ble_eq_true rfl⟩) hP hK rfl hl.1 rfl (Nat.le_of_ble_eq_true rfl) dX1_invert_2 ⟨Nat.zero_le _, Nat.zero_le _⟩ (fun r_ hr_ => ?_)
    have hr_ : r_ = (nI 1) := by rw [hr_, ea]; rfl
    subst hr_
    refine lv_if_eq (tgt := 10) hx hb dX1_invert_5 (by decide) (fun c_ => False.elim ((fun z => absurd z (by decide)) c_)) (fun _ => ?_)
    refine lv_iconst (v := -1) hx hb dX1_invert_8 (by decide) ?_
    exact W.iret (v := (-1)) hx hb hr (fun t ht hW => ⟨⟨_, f, rfl, (by rw [fz_Ainv, ea]; rfl), by show va_P _ _ _ t.heap; rw [ht]; exact hP⟩, hS.F ht⟩) hS.2.2 dX1_invert_9
  | true =>
    obtain ⟨i, hi, rfl⟩ := fz_el_of (by omega) ea
    refine lv_aload_n hx hb dX1_invert_0 rfl (lv_at hl 0 rfl) ?_
    refine lv_iload_n hx hb dX1_invert_1 rfl (lv_at hl 1 rfl) ?_
    refine fz_callM (As := [.int (nI i)]) (rest := []) ⟨hx, hb, hml, hown, hts⟩ (mX1_bad l (nI i)) (cwV 1 hts (lw_V q158 q160 qs8 q19 q161) rfl rfl rfl cd_X1_bad ⟨Nat.le_of_ble_eq_true rfl, Nat.le_of_ble_eq_true rfl⟩) hP hK rfl hl.1 rfl (Nat.le_of_ble_eq_true rfl) dX1_invert_2 ⟨Nat.zero_le _, Nat.zero_le _⟩ (fun r_ hr_ => ?_)
    have hr_ : r_ = (nI 0) := by rw [hr_, ea]; rfl
    subst hr_
    refine lv_if_eq (tgt := 10) hx hb dX1_invert_5 (by decide) (fun _ => ?_) (fun c_ => False.elim ((fun z => z rfl) c_))
    refine lv_iconst (v := nI 0) hx hb dX1_invert_10 (by decide) ?_
    refine lv_istore_n (lv' := [(2, .int (nI 0)), (0, .ref h), (1, .int (nI i))]) hx hb dX1_invert_11 rfl hl (by decide) rfl (fun ls hl => ?_)
    refine fz_loopH (G := Nat → Int32) q (fun b g H locs ls => fz_fnd (fun b => Nat.beq (fz_mul q i b) 1) q 0 = fz_fnd (fun b => Nat.beq (fz_mul q i b) 1) (q - b) b ∧ va_P D vwCl (fz_wM h hd dd q p k g) H ∧ va_S (fz_AM h hd) s.heap H locs ∧ lv_has ls 3 [(2, .int (nI b)), (1, .int (nI i)), (0, .ref h)]) (fun g H locs ls hI => ?_) (fun b hb2 ih g H locs ls hI => ?_) 0 (Nat.zero_le _) f _ _ ls ⟨rfl, hP, hS, lv_sub hl [0, 2, 1] rfl⟩
    · obtain ⟨hF, hP, hS, hl⟩ := hI
      refine lv_iload_n hx hb dX1_invert_12 rfl (lv_at hl 0 rfl) ?_
      refine lv_aload_n hx hb dX1_invert_13 rfl (lv_at hl 2 rfl) ?_
      refine va_get (D := D) (ci := 1) (v := .int (nI q)) (C := RX1) (T := TX1) (N := 4) hx hb hts in_X1 hown hK hP 0 rfl rfl 0 (by decide) (hts _ q137) (fun _ h9 => h9) rfl dX1_invert_14 ?_
      refine lv_icmp_ge (tgt := 38) hx hb dX1_invert_17 (by decide) (fun _ => ?_) (fun c_ => False.elim ((fun z => z (nI_le (Nat.le_refl q) (by omega))) c_))
      refine lv_iconst (v := -1) hx hb dX1_invert_38 (by decide) ?_
      exact W.iret (v := (-1)) hx hb hr (fun t ht hW => ⟨⟨_, g, rfl, (by rw [fz_Ainv, ea, nI_clamp (by omega), ← fz_inv_ok hm hi, hF, Nat.sub_self]; rfl), by show va_P _ _ _ t.heap; rw [ht]; exact hP⟩, hS.F ht⟩) hS.2.2 dX1_invert_39
    · obtain ⟨hF, hP, hS, hl⟩ := hI
      have hml2 := fz_mul_lt hm i b
      have hml3 := fz_mul_lt hm b b
      refine lv_iload_n hx hb dX1_invert_12 rfl (lv_at hl 0 rfl) ?_
      refine lv_aload_n hx hb dX1_invert_13 rfl (lv_at hl 2 rfl) ?_
      refine va_get (D := D) (ci := 1) (v := .int (nI q)) (C := RX1) (T := TX1) (N := 4) hx hb hts in_X1 hown hK hP 0 rfl rfl 0 (by decide) (hts _ q137) (fun _ h9 => h9) rfl dX1_invert_14 ?_
      refine lv_icmp_ge (tgt := 38) hx hb dX1_invert_17 (by decide) (fun c_ => False.elim ((nI_ge hb2 (by omega)) c_)) (fun _ => ?_)
      refine lv_aload_n hx hb dX1_invert_20 rfl (lv_at hl 2 rfl) ?_
      refine lv_iload_n hx hb dX1_invert_21 rfl (lv_at hl 1 rfl) ?_
      refine lv_iload_n hx hb dX1_invert_22 rfl (lv_at hl 0 rfl) ?_
      refine fz_callMm (As := [.int (nI i), .int (nI b)]) (rest := []) ⟨hx, hb, hml, hown, hts⟩ (mX1_product l hne hm (a := i) (b := b) hi hb2) (cwV 2 hts (lw_V q178 q180 qs12 q19 q181) rfl rfl rfl cd_X1_product ⟨Nat.le_of_ble_eq_true rfl, Nat.le_of_ble_eq_true rfl⟩) hP hK hS (fun _ z => z) rfl hl.1 rfl (Nat.le_of_ble_eq_true rfl) dX1_invert_23 ⟨Nat.zero_le _, Nat.zero_le _⟩ (fun r_ g_ H locs hr_ hP _ hS => ?_)
      have hP : va_P D vwCl (fz_wM h hd dd q p k g_) H := hP
      have hr_ : r_ = (nI (fz_mul q i b)) := hr_
      subst hr_
      refine lv_iconst (v := nI 1) hx hb dX1_invert_26 (by decide) ?_
      refine lv_icmp_ne (tgt := 32) hx hb dX1_invert_27 (by decide) (fun c_27 => ?_) (fun c_27 => ?_)
      · have hnq : fz_mul q i b ≠ 1 := fun z => c_27 (by rw [z])
        refine lv_iinc (v := (nI (b + 1))) (lv' := [(2, .int (nI (b + 1))), (1, .int (nI i)), (0, .ref h)]) hx hb dX1_invert_32 hl (k := 0) rfl (nv_inc _) (by decide) rfl (fun ls hl => ?_)
        refine lv_goto (tgt := 12) hx hb dX1_invert_35 (by decide) ?_
        exact ih _ H locs ls ⟨by rw [hF, fz_fnd_miss (P := fun b => Nat.beq (fz_mul q i b) 1) hb2 (fz_beq_f hnq)], hP, hS, lv_sub hl [0, 1, 2] rfl⟩
      · have heq : fz_mul q i b = 1 := (nI_eq (by omega) (by omega)).mp c_27
        refine lv_iload_n hx hb dX1_invert_30 rfl (lv_at hl 0 rfl) ?_
        exact W.iret (v := (nI b)) hx hb hr (fun t ht hW => ⟨⟨_, g_, rfl, (by rw [fz_Ainv, ea, nI_clamp (by omega), ← fz_inv_ok hm hi, hF, fz_fnd_hit (P := fun b => Nat.beq (fz_mul q i b) 1) hb2 (fz_beq_t heq)]; rfl), by show va_P _ _ _ t.heap; rw [ht]; exact hP⟩, hS.F ht⟩) hS.2.2 dX1_invert_31
set_option maxHeartbeats 4000000 in
set_option maxRecDepth 100000 in
theorem mX1_root (l : Launch) {D : va_G} {h hd : Nat} {dd : ClassId} {q p k : Nat} {f : Nat → Int32} (hne : h ≠ hd) (hm : fz_Ok q p k) (a : Int32) : Met l yX1_root (ws_ yX1_root cX1_root 3 (some .int)) ({ frames := 4, cells := 0, slots := 0, locals := 95 }) (va_Pc [.ref h, .int a] (fz_BM D h hd dd q p k f)) (va_Qi (fun (r : Int32) (g : Nat → Int32) => r = fz_Aroot q a) (fun g t => va_P D vwCl (fz_wM h hd dd q p k g) t.heap) (fz_AM h hd)) 0 0 (fz_AM h hd) := by
  obtain ⟨hp2, hp3, hk4, hk6, hq64, hq81, hpk⟩ := fz_facts hm
  refine Met.ofW (cc := cX1_root) (maxL := 3) (ret := (some .int)) (by decide) rfl ?_
  intro P e s m args below meth c s₁ B hml hv
  obtain ⟨rfl, hP, hK⟩ := hv
  have hx := B.exec
  have hb := B.bytes
  have hr := B.returns
  have hts := atoms_spec (ws := ws_ yX1_root cX1_root 3 (some .int)) B.pre
  have hts : ∀ w ∈ lw_all, w.before _ s = true := fun w h => hts w (List.mem_cons_of_mem _ h)
  have hown : s.vm.findClass RX1 = some m.cls := findClass_of_methodNamed B.named
  have hlocks := B.notSynchronized
  have hl := lv_entry ([.ref h, .int a]) (n := 3) (Nat.le_of_ble_eq_true rfl)
  rw [lg_entry_eq]
  generalize (lg_sl ([.ref h, .int a]) ++ List.replicate (3 - (lg_sl ([.ref h, .int a])).length) Slot.unset).toArray = ls at hl ⊢
  have hl : lv_has ls 3 [(0, .ref h), (1, .int a)] := hl
  have hS : va_S (fz_AM h hd) s.heap s.heap [] := va_S.rf
  cases ea : fz_el q a with
  | false =>
    refine lv_aload_n hx hb dX1_root_0 rfl (lv_at hl 0 rfl) ?_
    refine lv_iload_n hx hb dX1_root_1 rfl (lv_at hl 1 rfl) ?_
    refine fz_callM (As := [.int a]) (rest := []) ⟨hx, hb, hml, hown, hts⟩ (mX1_bad l a) (cwV 1 hts (lw_V q158 q160 qs8 q19 q161) rfl rfl rfl cd_X1_bad ⟨Nat.le_of_ble_eq_true rfl, Nat.le_of_ble_eq_true rfl⟩) hP hK rfl hl.1 rfl (Nat.le_of_ble_eq_true rfl) dX1_root_2 ⟨Nat.zero_le _, Nat.zero_le _⟩ (fun r_ hr_ => ?_)
    have hr_ : r_ = (nI 1) := by rw [hr_, ea]; rfl
    subst hr_
    refine lv_if_eq (tgt := 10) hx hb dX1_root_5 (by decide) (fun c_ => False.elim ((fun z => absurd z (by decide)) c_)) (fun _ => ?_)
    refine lv_iconst (v := -1) hx hb dX1_root_8 (by decide) ?_
    exact W.iret (v := (-1)) hx hb hr (fun t ht hW => ⟨⟨_, f, rfl, (by rw [fz_Aroot, ea]; rfl), by show va_P _ _ _ t.heap; rw [ht]; exact hP⟩, hS.F ht⟩) hS.2.2 dX1_root_9
  | true =>
    obtain ⟨i, hi, rfl⟩ := fz_el_of (by omega) ea
    refine lv_aload_n hx hb dX1_root_0 rfl (lv_at hl 0 rfl) ?_
    refine lv_iload_n hx hb dX1_root_1 rfl (lv_at hl 1 rfl) ?_
    refine fz_callM (As := [.int (nI i)]) (rest := []) ⟨hx, hb, hml, hown, hts⟩ (mX1_bad l (nI i)) (cwV 1 hts (lw_V q158 q160 qs8 q19 q161) rfl rfl rfl cd_X1_bad ⟨Nat.le_of_ble_eq_true rfl, Nat.le_of_ble_eq_true rfl⟩) hP hK rfl hl.1 rfl (Nat.le_of_ble_eq_true rfl) dX1_root_2 ⟨Nat.zero_le _, Nat.zero_le _⟩ (fun r_ hr_ => ?_)
    have hr_ : r_ = (nI 0) := by rw [hr_, ea]; rfl
    subst hr_
    refine lv_if_eq (tgt := 10) hx hb dX1_root_5 (by decide) (fun _ => ?_) (fun c_ => False.elim ((fun z => z rfl) c_))
    refine lv_iconst (v := nI 0) hx hb dX1_root_10 (by decide) ?_
    refine lv_istore_n (lv' := [(2, .int (nI 0)), (0, .ref h), (1, .int (nI i))]) hx hb dX1_root_11 rfl hl (by decide) rfl (fun ls hl => ?_)
    refine fz_loopH (G := Nat → Int32) q (fun b g H locs ls => fz_fnd (fun b => Nat.beq (fz_mul q b b) i) q 0 = fz_fnd (fun b => Nat.beq (fz_mul q b b) i) (q - b) b ∧ va_P D vwCl (fz_wM h hd dd q p k g) H ∧ va_S (fz_AM h hd) s.heap H locs ∧ lv_has ls 3 [(2, .int (nI b)), (1, .int (nI i)), (0, .ref h)]) (fun g H locs ls hI => ?_) (fun b hb2 ih g H locs ls hI => ?_) 0 (Nat.zero_le _) f _ _ ls ⟨rfl, hP, hS, lv_sub hl [0, 2, 1] rfl⟩
    · obtain ⟨hF, hP, hS, hl⟩ := hI
      refine lv_iload_n hx hb dX1_root_12 rfl (lv_at hl 0 rfl) ?_
      refine lv_aload_n hx hb dX1_root_13 rfl (lv_at hl 2 rfl) ?_
      refine va_get (D := D) (ci := 1) (v := .int (nI q)) (C := RX1) (T := TX1) (N := 4) hx hb hts in_X1 hown hK hP 0 rfl rfl 0 (by decide) (hts _ q137) (fun _ h9 => h9) rfl dX1_root_14 ?_
      refine lv_icmp_ge (tgt := 38) hx hb dX1_root_17 (by decide) (fun _ => ?_) (fun c_ => False.elim ((fun z => z (nI_le (Nat.le_refl q) (by omega))) c_))
      refine lv_iconst (v := -1) hx hb dX1_root_38 (by decide) ?_
      exact W.iret (v := (-1)) hx hb hr (fun t ht hW => ⟨⟨_, g, rfl, (by rw [fz_Aroot, ea, nI_clamp (by omega), ← fz_root_ok hm hi, hF, Nat.sub_self]; rfl), by show va_P _ _ _ t.heap; rw [ht]; exact hP⟩, hS.F ht⟩) hS.2.2 dX1_root_39
    · obtain ⟨hF, hP, hS, hl⟩ := hI
      have hml2 := fz_mul_lt hm i b
      have hml3 := fz_mul_lt hm b b
      refine lv_iload_n hx hb dX1_root_12 rfl (lv_at hl 0 rfl) ?_
      refine lv_aload_n hx hb dX1_root_13 rfl (lv_at hl 2 rfl) ?_
      refine va_get (D := D) (ci := 1) (v := .int (nI q)) (C := RX1) (T := TX1) (N := 4) hx hb hts in_X1 hown hK hP 0 rfl rfl 0 (by decide) (hts _ q137) (fun _ h9 => h9) rfl dX1_root_14 ?_
      refine lv_icmp_ge (tgt := 38) hx hb dX1_root_17 (by decide) (fun c_ => False.elim ((nI_ge hb2 (by omega)) c_)) (fun _ => ?_)
      refine lv_aload_n hx hb dX1_root_20 rfl (lv_at hl 2 rfl) ?_
      refine lv_iload_n hx hb dX1_root_21 rfl (lv_at hl 0 rfl) ?_
      refine lv_iload_n hx hb dX1_root_22 rfl (lv_at hl 0 rfl) ?_
      refine fz_callMm (As := [.int (nI b), .int (nI b)]) (rest := []) ⟨hx, hb, hml, hown, hts⟩ (mX1_product l hne hm (a := b) (b := b) hb2 hb2) (cwV 2 hts (lw_V q178 q180 qs12 q19 q181) rfl rfl rfl cd_X1_product ⟨Nat.le_of_ble_eq_true rfl, Nat.le_of_ble_eq_true rfl⟩) hP hK hS (fun _ z => z) rfl hl.1 rfl (Nat.le_of_ble_eq_true rfl) dX1_root_23 ⟨Nat.zero_le _, Nat.zero_le _⟩ (fun r_ g_ H locs hr_ hP _ hS => ?_)
      have hP : va_P D vwCl (fz_wM h hd dd q p k g_) H := hP
      have hr_ : r_ = (nI (fz_mul q b b)) := hr_
      subst hr_
      refine lv_iload_n hx hb dX1_root_26 rfl (lv_at hl 1 rfl) ?_
      refine lv_icmp_ne (tgt := 32) hx hb dX1_root_27 (by decide) (fun c_27 => ?_) (fun c_27 => ?_)
      · have hnq : fz_mul q b b ≠ i := fun z => c_27 (by rw [z])
        refine lv_iinc (v := (nI (b + 1))) (lv' := [(2, .int (nI (b + 1))), (1, .int (nI i)), (0, .ref h)]) hx hb dX1_root_32 hl (k := 0) rfl (nv_inc _) (by decide) rfl (fun ls hl => ?_)
        refine lv_goto (tgt := 12) hx hb dX1_root_35 (by decide) ?_
        exact ih _ H locs ls ⟨by rw [hF, fz_fnd_miss (P := fun b => Nat.beq (fz_mul q b b) i) hb2 (fz_beq_f hnq)], hP, hS, lv_sub hl [0, 1, 2] rfl⟩
      · have heq : fz_mul q b b = i := (nI_eq (by omega) (by omega)).mp c_27
        refine lv_iload_n hx hb dX1_root_30 rfl (lv_at hl 0 rfl) ?_
        exact W.iret (v := (nI b)) hx hb hr (fun t ht hW => ⟨⟨_, g_, rfl, (by rw [fz_Aroot, ea, nI_clamp (by omega), ← fz_root_ok hm hi, hF, fz_fnd_hit (P := fun b => Nat.beq (fz_mul q b b) i) hb2 (fz_beq_t heq)]; rfl), by show va_P _ _ _ t.heap; rw [ht]; exact hP⟩, hS.F ht⟩) hS.2.2 dX1_root_31
set_option maxHeartbeats 4000000 in
set_option maxRecDepth 100000 in
theorem mX1_power (l : Launch) {D : va_G} {h hd : Nat} {dd : ClassId} {q p k : Nat} {f : Nat → Int32} (hne : h ≠ hd) (hm : fz_Ok q p k) (a n : Int32) : Met l yX1_power (ws_ yX1_power cX1_power 3 (some .int)) ({ frames := 5, cells := 0, slots := 0, locals := 120 }) (va_Pc [.ref h, .int a, .int n] (fz_BM D h hd dd q p k f)) (va_Qi (fun (r : Int32) (g : Nat → Int32) => r = fz_Apow q a n) (fun g t => va_P D vwCl (fz_wM h hd dd q p k g) t.heap) (fz_AM h hd)) 0 0 (fz_AM h hd) := by
  obtain ⟨hp2, hp3, hk4, hk6, hq64, hq81, hpk⟩ := fz_facts hm
  refine Met.ofW (cc := cX1_power) (maxL := 3) (ret := (some .int)) (by decide) rfl ?_
  intro P e s m args below meth c s₁ B hml hv
  obtain ⟨rfl, hP, hK⟩ := hv
  have hx := B.exec
  have hb := B.bytes
  have hr := B.returns
  have hts := atoms_spec (ws := ws_ yX1_power cX1_power 3 (some .int)) B.pre
  have hts : ∀ w ∈ lw_all, w.before _ s = true := fun w h => hts w (List.mem_cons_of_mem _ h)
  have hown : s.vm.findClass RX1 = some m.cls := findClass_of_methodNamed B.named
  have hlocks := B.notSynchronized
  have hl := lv_entry ([.ref h, .int a, .int n]) (n := 3) (Nat.le_of_ble_eq_true rfl)
  rw [lg_entry_eq]
  generalize (lg_sl ([.ref h, .int a, .int n]) ++ List.replicate (3 - (lg_sl ([.ref h, .int a, .int n])).length) Slot.unset).toArray = ls at hl ⊢
  have hl : lv_has ls 3 [(0, .ref h), (1, .int a), (2, .int n)] := hl
  have hS : va_S (fz_AM h hd) s.heap s.heap [] := va_S.rf
  cases ea : fz_el q a with
  | false =>
    refine lv_aload_n hx hb dX1_power_0 rfl (lv_at hl 0 rfl) ?_
    refine lv_iload_n hx hb dX1_power_1 rfl (lv_at hl 1 rfl) ?_
    refine fz_callM (As := [.int a]) (rest := []) ⟨hx, hb, hml, hown, hts⟩ (mX1_bad l a) (cwV 1 hts (lw_V q158 q160 qs8 q19 q161) rfl rfl rfl cd_X1_bad ⟨Nat.le_of_ble_eq_true rfl, Nat.le_of_ble_eq_true rfl⟩) hP hK rfl hl.1 rfl (Nat.le_of_ble_eq_true rfl) dX1_power_2 ⟨Nat.zero_le _, Nat.zero_le _⟩ (fun r_ hr_ => ?_)
    have hr_ : r_ = (nI 1) := by rw [hr_, ea]; rfl
    subst hr_
    refine lv_if_ne (tgt := 18) hx hb dX1_power_5 (by decide) (fun _ => ?_) (fun c_ => False.elim ((fun z => absurd z (by decide)) c_))
    refine lv_iconst (v := -1) hx hb dX1_power_18 (by decide) ?_
    refine lv_goto (tgt := 28) hx hb dX1_power_19 (by decide) ?_
    exact W.iret (v := (-1)) hx hb hr (fun t ht hW => ⟨⟨_, f, rfl, (by rw [fz_Apow, ea]; rfl), by show va_P _ _ _ t.heap; rw [ht]; exact hP⟩, hS.F ht⟩) hS.2.2 dX1_power_28
  | true =>
    obtain ⟨i, hi, rfl⟩ := fz_el_of (by omega) ea
    cases en : fz_rg n with
    | false =>
      refine lv_aload_n hx hb dX1_power_0 rfl (lv_at hl 0 rfl) ?_
      refine lv_iload_n hx hb dX1_power_1 rfl (lv_at hl 1 rfl) ?_
      refine fz_callM (As := [.int (nI i)]) (rest := []) ⟨hx, hb, hml, hown, hts⟩ (mX1_bad l (nI i)) (cwV 1 hts (lw_V q158 q160 qs8 q19 q161) rfl rfl rfl cd_X1_bad ⟨Nat.le_of_ble_eq_true rfl, Nat.le_of_ble_eq_true rfl⟩) hP hK rfl hl.1 rfl (Nat.le_of_ble_eq_true rfl) dX1_power_2 ⟨Nat.zero_le _, Nat.zero_le _⟩ (fun r_ hr_ => ?_)
      have hr_ : r_ = (nI 0) := by rw [hr_, ea]; rfl
      subst hr_
      refine lv_if_ne (tgt := 18) hx hb dX1_power_5 (by decide) (fun c_ => False.elim ((fun z => z rfl) c_)) (fun _ => ?_)
      refine lv_iload_n hx hb dX1_power_8 rfl (lv_at hl 2 rfl) ?_
      refine lv_if_lt (tgt := 18) hx hb dX1_power_9 (by decide) (fun c_9 => ?_) (fun c_9 => ?_)
      · refine lv_iconst (v := -1) hx hb dX1_power_18 (by decide) ?_
        refine lv_goto (tgt := 28) hx hb dX1_power_19 (by decide) ?_
        exact W.iret (v := (-1)) hx hb hr (fun t ht hW => ⟨⟨_, f, rfl, (by rw [fz_Apow, ea, en]; rfl), by show va_P _ _ _ t.heap; rw [ht]; exact hP⟩, hS.F ht⟩) hS.2.2 dX1_power_28
      · refine lv_iload_n hx hb dX1_power_12 rfl (lv_at hl 2 rfl) ?_
        refine lv_ldc hx hb hown (hts _ q198) dX1_power_13 ?_
        refine fz_top (y := nI 1000000) rfl ?_
        refine lv_icmp_le (tgt := 22) hx hb dX1_power_15 (by decide) (fun c_15 => ?_) (fun c_15 => ?_)
        · exact absurd (fz_rg_t c_9 c_15) (by rw [en]; decide)
        · refine lv_iconst (v := -1) hx hb dX1_power_18 (by decide) ?_
          refine lv_goto (tgt := 28) hx hb dX1_power_19 (by decide) ?_
          exact W.iret (v := (-1)) hx hb hr (fun t ht hW => ⟨⟨_, f, rfl, (by rw [fz_Apow, ea, en]; rfl), by show va_P _ _ _ t.heap; rw [ht]; exact hP⟩, hS.F ht⟩) hS.2.2 dX1_power_28
    | true =>
      obtain ⟨j, hj, rfl⟩ := fz_rg_of en
      refine lv_aload_n hx hb dX1_power_0 rfl (lv_at hl 0 rfl) ?_
      refine lv_iload_n hx hb dX1_power_1 rfl (lv_at hl 1 rfl) ?_
      refine fz_callM (As := [.int (nI i)]) (rest := []) ⟨hx, hb, hml, hown, hts⟩ (mX1_bad l (nI i)) (cwV 1 hts (lw_V q158 q160 qs8 q19 q161) rfl rfl rfl cd_X1_bad ⟨Nat.le_of_ble_eq_true rfl, Nat.le_of_ble_eq_true rfl⟩) hP hK rfl hl.1 rfl (Nat.le_of_ble_eq_true rfl) dX1_power_2 ⟨Nat.zero_le _, Nat.zero_le _⟩ (fun r_ hr_ => ?_)
      have hr_ : r_ = (nI 0) := by rw [hr_, ea]; rfl
      subst hr_
      refine lv_if_ne (tgt := 18) hx hb dX1_power_5 (by decide) (fun c_ => False.elim ((fun z => z rfl) c_)) (fun _ => ?_)
      refine lv_iload_n hx hb dX1_power_8 rfl (lv_at hl 2 rfl) ?_
      refine lv_if_lt (tgt := 18) hx hb dX1_power_9 (by decide) (fun c_ => False.elim ((nI_pos (by omega)) c_)) (fun _ => ?_)
      refine lv_iload_n hx hb dX1_power_12 rfl (lv_at hl 2 rfl) ?_
      refine lv_ldc hx hb hown (hts _ q198) dX1_power_13 ?_
      refine fz_top (y := nI 1000000) rfl ?_
      refine lv_icmp_le (tgt := 22) hx hb dX1_power_15 (by decide) (fun _ => ?_) (fun c_ => False.elim ((fun z => z (nI_le hj (by decide))) c_))
      refine lv_aload_n hx hb dX1_power_22 rfl (lv_at hl 0 rfl) ?_
      refine lv_iload_n hx hb dX1_power_23 rfl (lv_at hl 1 rfl) ?_
      refine lv_iload_n hx hb dX1_power_24 rfl (lv_at hl 2 rfl) ?_
      refine fz_callMm (As := [.int (nI i), .int (nI j)]) (rest := []) ⟨hx, hb, hml, hown, hts⟩ (mX1_raised l hne hm (a := i) (n := j) (by omega) (by omega)) (cwV 2 hts (lw_V q199 q201 qs15 q19 q202) rfl rfl rfl cd_X1_raised ⟨Nat.le_of_ble_eq_true rfl, Nat.le_of_ble_eq_true rfl⟩) hP hK hS (fun _ z => z) rfl hl.1 rfl (Nat.le_of_ble_eq_true rfl) dX1_power_25 ⟨Nat.zero_le _, Nat.zero_le _⟩ (fun r_ g_ H locs hr_ hP _ hS => ?_)
      have hP : va_P D vwCl (fz_wM h hd dd q p k g_) H := hP
      have hr_ : r_ = (nI (fz_pow q i j)) := hr_
      subst hr_
      exact W.iret (v := (nI (fz_pow q i j))) hx hb hr (fun t ht hW => ⟨⟨_, g_, rfl, (by rw [fz_Apow, ea, en, nI_clamp (by omega), nI_clamp (by omega)]; rfl), by show va_P _ _ _ t.heap; rw [ht]; exact hP⟩, hS.F ht⟩) hS.2.2 dX1_power_28
set_option maxHeartbeats 4000000 in
set_option maxRecDepth 100000 in
theorem mX1_order (l : Launch) {D : va_G} {h hd : Nat} {dd : ClassId} {q p k : Nat} {f : Nat → Int32} (hne : h ≠ hd) (hm : fz_Ok q p k) (a : Int32) : Met l yX1_order (ws_ yX1_order cX1_order 4 (some .int)) ({ frames := 4, cells := 0, slots := 0, locals := 95 }) (va_Pc [.ref h, .int a] (fz_BM D h hd dd q p k f)) (va_Qi (fun (r : Int32) (g : Nat → Int32) => r = fz_Aord q a) (fun g t => va_P D vwCl (fz_wM h hd dd q p k g) t.heap) (fz_AM h hd)) 0 0 (fz_AM h hd) := by
  obtain ⟨hp2, hp3, hk4, hk6, hq64, hq81, hpk⟩ := fz_facts hm
  refine Met.ofW (cc := cX1_order) (maxL := 4) (ret := (some .int)) (by decide) rfl ?_
  intro P e s m args below meth c s₁ B hml hv
  obtain ⟨rfl, hP, hK⟩ := hv
  have hx := B.exec
  have hb := B.bytes
  have hr := B.returns
  have hts := atoms_spec (ws := ws_ yX1_order cX1_order 4 (some .int)) B.pre
  have hts : ∀ w ∈ lw_all, w.before _ s = true := fun w h => hts w (List.mem_cons_of_mem _ h)
  have hown : s.vm.findClass RX1 = some m.cls := findClass_of_methodNamed B.named
  have hlocks := B.notSynchronized
  have hl := lv_entry ([.ref h, .int a]) (n := 4) (Nat.le_of_ble_eq_true rfl)
  rw [lg_entry_eq]
  generalize (lg_sl ([.ref h, .int a]) ++ List.replicate (4 - (lg_sl ([.ref h, .int a])).length) Slot.unset).toArray = ls at hl ⊢
  have hl : lv_has ls 4 [(0, .ref h), (1, .int a)] := hl
  have hS : va_S (fz_AM h hd) s.heap s.heap [] := va_S.rf
  cases ea : fz_el q a with
  | false =>
    refine lv_aload_n hx hb dX1_order_0 rfl (lv_at hl 0 rfl) ?_
    refine lv_iload_n hx hb dX1_order_1 rfl (lv_at hl 1 rfl) ?_
    refine fz_callM (As := [.int a]) (rest := []) ⟨hx, hb, hml, hown, hts⟩ (mX1_bad l a) (cwV 1 hts (lw_V q158 q160 qs8 q19 q161) rfl rfl rfl cd_X1_bad ⟨Nat.le_of_ble_eq_true rfl, Nat.le_of_ble_eq_true rfl⟩) hP hK rfl hl.1 rfl (Nat.le_of_ble_eq_true rfl) dX1_order_2 ⟨Nat.zero_le _, Nat.zero_le _⟩ (fun r_ hr_ => ?_)
    have hr_ : r_ = (nI 1) := by rw [hr_, ea]; rfl
    subst hr_
    refine lv_if_ne (tgt := 12) hx hb dX1_order_5 (by decide) (fun _ => ?_) (fun c_ => False.elim ((fun z => absurd z (by decide)) c_))
    refine lv_iconst (v := -1) hx hb dX1_order_12 (by decide) ?_
    exact W.iret (v := (-1)) hx hb hr (fun t ht hW => ⟨⟨_, f, rfl, (by rw [fz_Aord, ea]; rfl), by show va_P _ _ _ t.heap; rw [ht]; exact hP⟩, hS.F ht⟩) hS.2.2 dX1_order_13
  | true =>
    obtain ⟨i, hi, rfl⟩ := fz_el_of (by omega) ea
    refine lv_aload_n hx hb dX1_order_0 rfl (lv_at hl 0 rfl) ?_
    refine lv_iload_n hx hb dX1_order_1 rfl (lv_at hl 1 rfl) ?_
    refine fz_callM (As := [.int (nI i)]) (rest := []) ⟨hx, hb, hml, hown, hts⟩ (mX1_bad l (nI i)) (cwV 1 hts (lw_V q158 q160 qs8 q19 q161) rfl rfl rfl cd_X1_bad ⟨Nat.le_of_ble_eq_true rfl, Nat.le_of_ble_eq_true rfl⟩) hP hK rfl hl.1 rfl (Nat.le_of_ble_eq_true rfl) dX1_order_2 ⟨Nat.zero_le _, Nat.zero_le _⟩ (fun r_ hr_ => ?_)
    have hr_ : r_ = (nI 0) := by rw [hr_, ea]; rfl
    subst hr_
    refine lv_if_ne (tgt := 12) hx hb dX1_order_5 (by decide) (fun c_ => False.elim ((fun z => z rfl) c_)) (fun _ => ?_)
    refine lv_iload_n hx hb dX1_order_8 rfl (lv_at hl 1 rfl) ?_
    refine lv_if_ne (tgt := 14) hx hb dX1_order_9 (by decide) (fun c_9 => ?_) (fun c_9 => ?_)
    · have h0 : i ≠ 0 := fun z => c_9 (by rw [z]; rfl)
      refine lv_iload_n hx hb dX1_order_14 rfl (lv_at hl 1 rfl) ?_
      refine lv_istore_n (lv' := [(2, .int (nI i)), (0, .ref h), (1, .int (nI i))]) hx hb dX1_order_15 rfl hl (by decide) rfl (fun ls hl => ?_)
      refine lv_iconst (v := nI 1) hx hb dX1_order_16 (by decide) ?_
      refine lv_istore_n (lv' := [(3, .int (nI 1)), (2, .int (nI i)), (0, .ref h), (1, .int (nI i))]) hx hb dX1_order_17 rfl hl (by decide) rfl (fun ls hl => ?_)
      refine fz_loopH (G := Nat × (Nat → Int32)) 99 (fun j g H locs ls => ∃ x, x < q ∧ 1 + fz_ord q i 99 i = 1 + j + fz_ord q i (99 - j) x ∧ va_P D vwCl (fz_wM h hd dd q p k (g.2)) H ∧ va_S (fz_AM h hd) s.heap H locs ∧ lv_has ls 4 [(3, .int (nI (1 + j))), (2, .int (nI x)), (1, .int (nI i)), (0, .ref h)]) (fun g H locs ls hI => ?_) (fun j hj ih g H locs ls hI => ?_) 0 (Nat.zero_le _) (0, f) _ _ ls ⟨i, hi, by rw [Nat.add_zero, Nat.sub_zero], hP, hS, lv_sub hl [0, 1, 3, 2] rfl⟩
      · obtain ⟨y0, g⟩ := g
        obtain ⟨x, hxq, hF, hP, hS, hl⟩ := hI
        have hP : va_P D vwCl (fz_wM h hd dd q p k g) H := hP
        have hF : 1 + fz_ord q i 99 i = 1 + 99 := hF
        refine lv_iload_n hx hb dX1_order_18 rfl (lv_at hl 1 rfl) ?_
        refine lv_iconst (v := nI 1) hx hb dX1_order_19 (by decide) ?_
        refine lv_icmp_eq (tgt := 42) hx hb dX1_order_20 (by decide) (fun c_20 => ?_) (fun c_20 => ?_)
        · refine lv_iload_n hx hb dX1_order_42 rfl (lv_at hl 0 rfl) ?_
          exact W.iret (v := (nI (1 + 99))) hx hb hr (fun t ht hW => ⟨⟨_, g, rfl, (by rw [fz_Aord, ea, fz_nz (by omega) h0, nI_clamp (by omega), ← fz_ord_ok hm h0 hi, hF]; rfl), by show va_P _ _ _ t.heap; rw [ht]; exact hP⟩, hS.F ht⟩) hS.2.2 dX1_order_43
        · refine lv_iload_n hx hb dX1_order_23 rfl (lv_at hl 0 rfl) ?_
          refine lv_bipush (v := nI 100) hx hb dX1_order_24 (by decide) ?_
          refine lv_icmp_ge (tgt := 42) hx hb dX1_order_26 (by decide) (fun _ => ?_) (fun c_ => False.elim ((fun z => z (nI_le (show 100 ≤ 1 + 99 by decide) (by omega))) c_))
          refine lv_iload_n hx hb dX1_order_42 rfl (lv_at hl 0 rfl) ?_
          exact W.iret (v := (nI (1 + 99))) hx hb hr (fun t ht hW => ⟨⟨_, g, rfl, (by rw [fz_Aord, ea, fz_nz (by omega) h0, nI_clamp (by omega), ← fz_ord_ok hm h0 hi, hF]; rfl), by show va_P _ _ _ t.heap; rw [ht]; exact hP⟩, hS.F ht⟩) hS.2.2 dX1_order_43
      · obtain ⟨y0, g⟩ := g
        obtain ⟨x, hxq, hF, hP, hS, hl⟩ := hI
        have hP : va_P D vwCl (fz_wM h hd dd q p k g) H := hP
        have hs : 99 - j = (99 - (j + 1)) + 1 := by omega
        by_cases hx1 : x = 1
        · have hF : 1 + fz_ord q i 99 i = 1 + j := by rw [hF, hs, fz_ord, fz_beq_t hx1]; rfl
          refine lv_iload_n hx hb dX1_order_18 rfl (lv_at hl 1 rfl) ?_
          refine lv_iconst (v := nI 1) hx hb dX1_order_19 (by decide) ?_
          refine lv_icmp_eq (tgt := 42) hx hb dX1_order_20 (by decide) (fun _ => ?_) (fun c_ => False.elim ((fun z => z (by rw [hx1])) c_))
          refine lv_iload_n hx hb dX1_order_42 rfl (lv_at hl 0 rfl) ?_
          exact W.iret (v := (nI (1 + j))) hx hb hr (fun t ht hW => ⟨⟨_, g, rfl, (by rw [fz_Aord, ea, fz_nz (by omega) h0, nI_clamp (by omega), ← fz_ord_ok hm h0 hi, hF]; rfl), by show va_P _ _ _ t.heap; rw [ht]; exact hP⟩, hS.F ht⟩) hS.2.2 dX1_order_43
        · refine lv_iload_n hx hb dX1_order_18 rfl (lv_at hl 1 rfl) ?_
          refine lv_iconst (v := nI 1) hx hb dX1_order_19 (by decide) ?_
          refine lv_icmp_eq (tgt := 42) hx hb dX1_order_20 (by decide) (fun c_ => False.elim ((fun z => hx1 ((nI_eq (by omega) (by decide)).mp z)) c_)) (fun _ => ?_)
          refine lv_iload_n hx hb dX1_order_23 rfl (lv_at hl 0 rfl) ?_
          refine lv_bipush (v := nI 100) hx hb dX1_order_24 (by decide) ?_
          refine lv_icmp_ge (tgt := 42) hx hb dX1_order_26 (by decide) (fun c_ => False.elim ((nI_ge (show 1 + j < 100 by omega) (by decide)) c_)) (fun _ => ?_)
          refine lv_aload_n hx hb dX1_order_29 rfl (lv_at hl 3 rfl) ?_
          refine lv_iload_n hx hb dX1_order_30 rfl (lv_at hl 1 rfl) ?_
          refine lv_iload_n hx hb dX1_order_31 rfl (lv_at hl 2 rfl) ?_
          refine fz_callMm (As := [.int (nI x), .int (nI i)]) (rest := []) ⟨hx, hb, hml, hown, hts⟩ (mX1_product l hne hm (a := x) (b := i) (by omega) (by omega)) (cwV 2 hts (lw_V q178 q180 qs12 q19 q181) rfl rfl rfl cd_X1_product ⟨Nat.le_of_ble_eq_true rfl, Nat.le_of_ble_eq_true rfl⟩) hP hK hS (fun _ z => z) rfl hl.1 rfl (Nat.le_of_ble_eq_true rfl) dX1_order_32 ⟨Nat.zero_le _, Nat.zero_le _⟩ (fun r_ g_ H locs hr_ hP _ hS => ?_)
          have hP : va_P D vwCl (fz_wM h hd dd q p k g_) H := hP
          have hr_ : r_ = (nI (fz_mul q x i)) := hr_
          subst hr_
          refine lv_istore_n (lv' := [(2, .int (nI (fz_mul q x i))), (3, .int (nI (1 + j))), (1, .int (nI i)), (0, .ref h)]) hx hb dX1_order_35 rfl hl (by decide) rfl (fun ls hl => ?_)
          refine lv_iinc (v := (nI (1 + (j + 1)))) (lv' := [(3, .int (nI (1 + (j + 1)))), (2, .int (nI (fz_mul q x i))), (1, .int (nI i)), (0, .ref h)]) hx hb dX1_order_36 hl (k := 1) rfl (nv_inc _) (by decide) rfl (fun ls hl => ?_)
          refine lv_goto (tgt := 18) hx hb dX1_order_39 (by decide) ?_
          exact ih (0, g_) H locs ls ⟨fz_mul q x i, fz_mul_lt hm x i, by rw [hF, hs, fz_ord, fz_beq_f hx1, cond_false]; omega, hP, hS, lv_sub hl [0, 1, 2, 3] rfl⟩
    · have h0 : i = 0 := (nI_eq (by omega) (by decide)).mp c_9
      refine lv_iconst (v := -1) hx hb dX1_order_12 (by decide) ?_
      exact W.iret (v := (-1)) hx hb hr (fun t ht hW => ⟨⟨_, f, rfl, (by rw [fz_Aord, ea, h0]; rfl), by show va_P _ _ _ t.heap; rw [ht]; exact hP⟩, hS.F ht⟩) hS.2.2 dX1_order_13
set_option maxHeartbeats 4000000 in
set_option maxRecDepth 100000 in
theorem mX1_roots (l : Launch) {D : va_G} {h hd : Nat} {dd : ClassId} {q p k : Nat} {f : Nat → Int32} (hne : h ≠ hd) (hm : fz_Ok q p k) (a n : Int32) : Met l yX1_roots (ws_ yX1_roots cX1_roots 5 (some .int)) ({ frames := 5, cells := 0, slots := 0, locals := 120 }) (va_Pc [.ref h, .int a, .int n] (fz_BM D h hd dd q p k f)) (va_Qi (fun (r : Int32) (g : Nat → Int32) => r = fz_Arts q a n) (fun g t => va_P D vwCl (fz_wM h hd dd q p k g) t.heap) (fz_AM h hd)) 0 0 (fz_AM h hd) := by
  obtain ⟨hp2, hp3, hk4, hk6, hq64, hq81, hpk⟩ := fz_facts hm
  refine Met.ofW (cc := cX1_roots) (maxL := 5) (ret := (some .int)) (by decide) rfl ?_
  intro P e s m args below meth c s₁ B hml hv
  obtain ⟨rfl, hP, hK⟩ := hv
  have hx := B.exec
  have hb := B.bytes
  have hr := B.returns
  have hts := atoms_spec (ws := ws_ yX1_roots cX1_roots 5 (some .int)) B.pre
  have hts : ∀ w ∈ lw_all, w.before _ s = true := fun w h => hts w (List.mem_cons_of_mem _ h)
  have hown : s.vm.findClass RX1 = some m.cls := findClass_of_methodNamed B.named
  have hlocks := B.notSynchronized
  have hl := lv_entry ([.ref h, .int a, .int n]) (n := 5) (Nat.le_of_ble_eq_true rfl)
  rw [lg_entry_eq]
  generalize (lg_sl ([.ref h, .int a, .int n]) ++ List.replicate (5 - (lg_sl ([.ref h, .int a, .int n])).length) Slot.unset).toArray = ls at hl ⊢
  have hl : lv_has ls 5 [(0, .ref h), (1, .int a), (2, .int n)] := hl
  have hS : va_S (fz_AM h hd) s.heap s.heap [] := va_S.rf
  cases ea : fz_el q a with
  | false =>
    refine lv_aload_n hx hb dX1_roots_0 rfl (lv_at hl 0 rfl) ?_
    refine lv_iload_n hx hb dX1_roots_1 rfl (lv_at hl 1 rfl) ?_
    refine fz_callM (As := [.int a]) (rest := []) ⟨hx, hb, hml, hown, hts⟩ (mX1_bad l a) (cwV 1 hts (lw_V q158 q160 qs8 q19 q161) rfl rfl rfl cd_X1_bad ⟨Nat.le_of_ble_eq_true rfl, Nat.le_of_ble_eq_true rfl⟩) hP hK rfl hl.1 rfl (Nat.le_of_ble_eq_true rfl) dX1_roots_2 ⟨Nat.zero_le _, Nat.zero_le _⟩ (fun r_ hr_ => ?_)
    have hr_ : r_ = (nI 1) := by rw [hr_, ea]; rfl
    subst hr_
    refine lv_if_ne (tgt := 19) hx hb dX1_roots_5 (by decide) (fun _ => ?_) (fun c_ => False.elim ((fun z => absurd z (by decide)) c_))
    refine lv_iconst (v := -1) hx hb dX1_roots_19 (by decide) ?_
    exact W.iret (v := (-1)) hx hb hr (fun t ht hW => ⟨⟨_, f, rfl, (by rw [fz_Arts, ea]; rfl), by show va_P _ _ _ t.heap; rw [ht]; exact hP⟩, hS.F ht⟩) hS.2.2 dX1_roots_20
  | true =>
    obtain ⟨i, hi, rfl⟩ := fz_el_of (by omega) ea
    cases en : fz_rg1 n with
    | false =>
      refine lv_aload_n hx hb dX1_roots_0 rfl (lv_at hl 0 rfl) ?_
      refine lv_iload_n hx hb dX1_roots_1 rfl (lv_at hl 1 rfl) ?_
      refine fz_callM (As := [.int (nI i)]) (rest := []) ⟨hx, hb, hml, hown, hts⟩ (mX1_bad l (nI i)) (cwV 1 hts (lw_V q158 q160 qs8 q19 q161) rfl rfl rfl cd_X1_bad ⟨Nat.le_of_ble_eq_true rfl, Nat.le_of_ble_eq_true rfl⟩) hP hK rfl hl.1 rfl (Nat.le_of_ble_eq_true rfl) dX1_roots_2 ⟨Nat.zero_le _, Nat.zero_le _⟩ (fun r_ hr_ => ?_)
      have hr_ : r_ = (nI 0) := by rw [hr_, ea]; rfl
      subst hr_
      refine lv_if_ne (tgt := 19) hx hb dX1_roots_5 (by decide) (fun c_ => False.elim ((fun z => z rfl) c_)) (fun _ => ?_)
      refine lv_iload_n hx hb dX1_roots_8 rfl (lv_at hl 2 rfl) ?_
      refine lv_iconst (v := nI 1) hx hb dX1_roots_9 (by decide) ?_
      refine lv_icmp_lt (tgt := 19) hx hb dX1_roots_10 (by decide) (fun c_10 => ?_) (fun c_10 => ?_)
      · refine lv_iconst (v := -1) hx hb dX1_roots_19 (by decide) ?_
        exact W.iret (v := (-1)) hx hb hr (fun t ht hW => ⟨⟨_, f, rfl, (by rw [fz_Arts, ea, en]; rfl), by show va_P _ _ _ t.heap; rw [ht]; exact hP⟩, hS.F ht⟩) hS.2.2 dX1_roots_20
      · refine lv_iload_n hx hb dX1_roots_13 rfl (lv_at hl 2 rfl) ?_
        refine lv_ldc hx hb hown (hts _ q198) dX1_roots_14 ?_
        refine fz_top (y := nI 1000000) rfl ?_
        refine lv_icmp_le (tgt := 21) hx hb dX1_roots_16 (by decide) (fun c_16 => ?_) (fun c_16 => ?_)
        · exact absurd (fz_rg1_t c_10 c_16) (by rw [en]; decide)
        · refine lv_iconst (v := -1) hx hb dX1_roots_19 (by decide) ?_
          exact W.iret (v := (-1)) hx hb hr (fun t ht hW => ⟨⟨_, f, rfl, (by rw [fz_Arts, ea, en]; rfl), by show va_P _ _ _ t.heap; rw [ht]; exact hP⟩, hS.F ht⟩) hS.2.2 dX1_roots_20
    | true =>
      obtain ⟨j, hj1, hj, rfl⟩ := fz_rg1_of en
      refine lv_aload_n hx hb dX1_roots_0 rfl (lv_at hl 0 rfl) ?_
      refine lv_iload_n hx hb dX1_roots_1 rfl (lv_at hl 1 rfl) ?_
      refine fz_callM (As := [.int (nI i)]) (rest := []) ⟨hx, hb, hml, hown, hts⟩ (mX1_bad l (nI i)) (cwV 1 hts (lw_V q158 q160 qs8 q19 q161) rfl rfl rfl cd_X1_bad ⟨Nat.le_of_ble_eq_true rfl, Nat.le_of_ble_eq_true rfl⟩) hP hK rfl hl.1 rfl (Nat.le_of_ble_eq_true rfl) dX1_roots_2 ⟨Nat.zero_le _, Nat.zero_le _⟩ (fun r_ hr_ => ?_)
      have hr_ : r_ = (nI 0) := by rw [hr_, ea]; rfl
      subst hr_
      refine lv_if_ne (tgt := 19) hx hb dX1_roots_5 (by decide) (fun c_ => False.elim ((fun z => z rfl) c_)) (fun _ => ?_)
      refine lv_iload_n hx hb dX1_roots_8 rfl (lv_at hl 2 rfl) ?_
      refine lv_iconst (v := nI 1) hx hb dX1_roots_9 (by decide) ?_
      refine lv_icmp_lt (tgt := 19) hx hb dX1_roots_10 (by decide) (fun c_ => False.elim ((nI_nlt hj1 (by omega)) c_)) (fun _ => ?_)
      refine lv_iload_n hx hb dX1_roots_13 rfl (lv_at hl 2 rfl) ?_
      refine lv_ldc hx hb hown (hts _ q198) dX1_roots_14 ?_
      refine fz_top (y := nI 1000000) rfl ?_
      refine lv_icmp_le (tgt := 21) hx hb dX1_roots_16 (by decide) (fun _ => ?_) (fun c_ => False.elim ((fun z => z (nI_le hj (by decide))) c_))
      refine lv_iconst (v := nI 0) hx hb dX1_roots_21 (by decide) ?_
      refine lv_istore_n (lv' := [(3, .int (nI 0)), (0, .ref h), (1, .int (nI i)), (2, .int (nI j))]) hx hb dX1_roots_22 rfl hl (by decide) rfl (fun ls hl => ?_)
      refine lv_iconst (v := nI 0) hx hb dX1_roots_23 (by decide) ?_
      refine lv_istore (lv' := [(4, .int (nI 0)), (3, .int (nI 0)), (0, .ref h), (1, .int (nI i)), (2, .int (nI j))]) hx hb dX1_roots_24 hl (by decide) rfl (fun ls hl => ?_)
      refine fz_loopH (G := Nat → Int32) q (fun x g H locs ls => va_P D vwCl (fz_wM h hd dd q p k g) H ∧ va_S (fz_AM h hd) s.heap H locs ∧ lv_has ls 5 [(4, .int (nI x)), (3, .int (nI (fz_cnt (fun x => Nat.beq (fz_pow q x j) i) x))), (2, .int (nI j)), (1, .int (nI i)), (0, .ref h)]) (fun g H locs ls hI => ?_) (fun x hxq ih g H locs ls hI => ?_) 0 (Nat.zero_le _) f _ _ ls ⟨hP, hS, lv_sub hl [0, 1, 4, 3, 2] rfl⟩
      · obtain ⟨hP, hS, hl⟩ := hI
        refine lv_iload hx hb dX1_roots_26 (lv_at hl 0 rfl) ?_
        refine lv_aload_n hx hb dX1_roots_28 rfl (lv_at hl 4 rfl) ?_
        refine va_get (D := D) (ci := 1) (v := .int (nI q)) (C := RX1) (T := TX1) (N := 4) hx hb hts in_X1 hown hK hP 0 rfl rfl 0 (by decide) (hts _ q137) (fun _ h9 => h9) rfl dX1_roots_29 ?_
        refine lv_icmp_ge (tgt := 55) hx hb dX1_roots_32 (by decide) (fun _ => ?_) (fun c_ => False.elim ((fun z => z (nI_le (Nat.le_refl q) (by omega))) c_))
        refine lv_iload_n hx hb dX1_roots_55 rfl (lv_at hl 1 rfl) ?_
        exact W.iret (v := (nI (fz_cnt (fun x => Nat.beq (fz_pow q x j) i) q))) hx hb hr (fun t ht hW => ⟨⟨_, g, rfl, (by rw [fz_Arts, ea, en, nI_clamp (by omega), nI_clamp (by omega), fz_roots_ok hm hi (by omega)]; rfl), by show va_P _ _ _ t.heap; rw [ht]; exact hP⟩, hS.F ht⟩) hS.2.2 dX1_roots_56
      · obtain ⟨hP, hS, hl⟩ := hI
        have hpl := fz_pow_lt hm x j
        by_cases he : fz_pow q x j = i
        · refine lv_iload hx hb dX1_roots_26 (lv_at hl 0 rfl) ?_
          refine lv_aload_n hx hb dX1_roots_28 rfl (lv_at hl 4 rfl) ?_
          refine va_get (D := D) (ci := 1) (v := .int (nI q)) (C := RX1) (T := TX1) (N := 4) hx hb hts in_X1 hown hK hP 0 rfl rfl 0 (by decide) (hts _ q137) (fun _ h9 => h9) rfl dX1_roots_29 ?_
          refine lv_icmp_ge (tgt := 55) hx hb dX1_roots_32 (by decide) (fun c_ => False.elim ((nI_ge hxq (by omega)) c_)) (fun _ => ?_)
          refine lv_aload_n hx hb dX1_roots_35 rfl (lv_at hl 4 rfl) ?_
          refine lv_iload hx hb dX1_roots_36 (lv_at hl 0 rfl) ?_
          refine lv_iload_n hx hb dX1_roots_38 rfl (lv_at hl 2 rfl) ?_
          refine fz_callMm (As := [.int (nI x), .int (nI j)]) (rest := []) ⟨hx, hb, hml, hown, hts⟩ (mX1_raised l hne hm (a := x) (n := j) (by omega) (by omega)) (cwV 2 hts (lw_V q199 q201 qs15 q19 q202) rfl rfl rfl cd_X1_raised ⟨Nat.le_of_ble_eq_true rfl, Nat.le_of_ble_eq_true rfl⟩) hP hK hS (fun _ z => z) rfl hl.1 rfl (Nat.le_of_ble_eq_true rfl) dX1_roots_39 ⟨Nat.zero_le _, Nat.zero_le _⟩ (fun r_ g_ H locs hr_ hP _ hS => ?_)
          have hP : va_P D vwCl (fz_wM h hd dd q p k g_) H := hP
          have hr_ : r_ = (nI (fz_pow q x j)) := hr_
          subst hr_
          refine lv_iload_n hx hb dX1_roots_42 rfl (lv_at hl 3 rfl) ?_
          refine lv_icmp_ne (tgt := 49) hx hb dX1_roots_43 (by decide) (fun c_ => False.elim ((fun z => z (by rw [he])) c_)) (fun _ => ?_)
          refine lv_iinc (v := (nI (fz_cnt (fun x => Nat.beq (fz_pow q x j) i) (x + 1)))) (lv' := [(3, .int (nI (fz_cnt (fun x => Nat.beq (fz_pow q x j) i) (x + 1)))), (4, .int (nI x)), (2, .int (nI j)), (1, .int (nI i)), (0, .ref h)]) hx hb dX1_roots_46 hl (k := 1) rfl (by rw [nv_inc, fz_cnt, fz_beq_t he]; rfl) (by decide) rfl (fun ls hl => ?_)
          refine lv_iinc (v := (nI (x + 1))) (lv' := [(4, .int (nI (x + 1))), (3, .int (nI (fz_cnt (fun x => Nat.beq (fz_pow q x j) i) (x + 1)))), (2, .int (nI j)), (1, .int (nI i)), (0, .ref h)]) hx hb dX1_roots_49 hl (k := 1) rfl (nv_inc _) (by decide) rfl (fun ls hl => ?_)
          refine lv_goto (tgt := 26) hx hb dX1_roots_52 (by decide) ?_
          exact ih _ H locs ls ⟨hP, hS, lv_sub hl [0, 1, 2, 3, 4] rfl⟩
        · refine lv_iload hx hb dX1_roots_26 (lv_at hl 0 rfl) ?_
          refine lv_aload_n hx hb dX1_roots_28 rfl (lv_at hl 4 rfl) ?_
          refine va_get (D := D) (ci := 1) (v := .int (nI q)) (C := RX1) (T := TX1) (N := 4) hx hb hts in_X1 hown hK hP 0 rfl rfl 0 (by decide) (hts _ q137) (fun _ h9 => h9) rfl dX1_roots_29 ?_
          refine lv_icmp_ge (tgt := 55) hx hb dX1_roots_32 (by decide) (fun c_ => False.elim ((nI_ge hxq (by omega)) c_)) (fun _ => ?_)
          refine lv_aload_n hx hb dX1_roots_35 rfl (lv_at hl 4 rfl) ?_
          refine lv_iload hx hb dX1_roots_36 (lv_at hl 0 rfl) ?_
          refine lv_iload_n hx hb dX1_roots_38 rfl (lv_at hl 2 rfl) ?_
          refine fz_callMm (As := [.int (nI x), .int (nI j)]) (rest := []) ⟨hx, hb, hml, hown, hts⟩ (mX1_raised l hne hm (a := x) (n := j) (by omega) (by omega)) (cwV 2 hts (lw_V q199 q201 qs15 q19 q202) rfl rfl rfl cd_X1_raised ⟨Nat.le_of_ble_eq_true rfl, Nat.le_of_ble_eq_true rfl⟩) hP hK hS (fun _ z => z) rfl hl.1 rfl (Nat.le_of_ble_eq_true rfl) dX1_roots_39 ⟨Nat.zero_le _, Nat.zero_le _⟩ (fun r_ g_ H locs hr_ hP _ hS => ?_)
          have hP : va_P D vwCl (fz_wM h hd dd q p k g_) H := hP
          have hr_ : r_ = (nI (fz_pow q x j)) := hr_
          subst hr_
          refine lv_iload_n hx hb dX1_roots_42 rfl (lv_at hl 3 rfl) ?_
          refine lv_icmp_ne (tgt := 49) hx hb dX1_roots_43 (by decide) (fun _ => ?_) (fun c_ => False.elim ((fun y => (he ((nI_eq (by omega) (by omega)).mp y))) c_))
          refine lv_iinc (v := (nI (x + 1))) (lv' := [(4, .int (nI (x + 1))), (3, .int (nI (fz_cnt (fun x => Nat.beq (fz_pow q x j) i) x))), (2, .int (nI j)), (1, .int (nI i)), (0, .ref h)]) hx hb dX1_roots_49 hl (k := 0) rfl (nv_inc _) (by decide) rfl (fun ls hl => ?_)
          refine lv_goto (tgt := 26) hx hb dX1_roots_52 (by decide) ?_
          have hc : fz_cnt (fun x => Nat.beq (fz_pow q x j) i) x = fz_cnt (fun x => Nat.beq (fz_pow q x j) i) (x + 1) := by rw [fz_cnt, fz_beq_f he]; rfl
          rw [hc] at hl
          exact ih _ H locs ls ⟨hP, hS, lv_sub hl [0, 1, 2, 3, 4] rfl⟩
set_option maxHeartbeats 4000000 in
set_option maxRecDepth 100000 in
theorem mX1_trace (l : Launch) {D : va_G} {h hd : Nat} {dd : ClassId} {q p k : Nat} {f : Nat → Int32} (hne : h ≠ hd) (hm : fz_Ok q p k) (a z : Int32) : Met l yX1_trace (ws_ yX1_trace cX1_trace 6 (some .int)) ({ frames := 5, cells := 0, slots := 0, locals := 120 }) (va_Pc [.ref h, .int a, .int z] (fz_BM D h hd dd q p k f)) (va_Qi (fun (r : Int32) (g : Nat → Int32) => r = fz_Atr q p k a z) (fun g t => va_P D vwCl (fz_wM h hd dd q p k g) t.heap) (fz_AM h hd)) 0 0 (fz_AM h hd) := by
  obtain ⟨hp2, hp3, hk4, hk6, hq64, hq81, hpk⟩ := fz_facts hm
  refine Met.ofW (cc := cX1_trace) (maxL := 6) (ret := (some .int)) (by decide) rfl ?_
  intro P e s m args below meth c s₁ B hml hv
  obtain ⟨rfl, hP, hK⟩ := hv
  have hx := B.exec
  have hb := B.bytes
  have hr := B.returns
  have hts := atoms_spec (ws := ws_ yX1_trace cX1_trace 6 (some .int)) B.pre
  have hts : ∀ w ∈ lw_all, w.before _ s = true := fun w h => hts w (List.mem_cons_of_mem _ h)
  have hown : s.vm.findClass RX1 = some m.cls := findClass_of_methodNamed B.named
  have hlocks := B.notSynchronized
  have hl := lv_entry ([.ref h, .int a, .int z]) (n := 6) (Nat.le_of_ble_eq_true rfl)
  rw [lg_entry_eq]
  generalize (lg_sl ([.ref h, .int a, .int z]) ++ List.replicate (6 - (lg_sl ([.ref h, .int a, .int z])).length) Slot.unset).toArray = ls at hl ⊢
  have hl : lv_has ls 6 [(0, .ref h), (1, .int a), (2, .int z)] := hl
  have hS : va_S (fz_AM h hd) s.heap s.heap [] := va_S.rf
  cases ea : fz_el q a with
  | false =>
    refine lv_aload_n hx hb dX1_trace_0 rfl (lv_at hl 0 rfl) ?_
    refine lv_iload_n hx hb dX1_trace_1 rfl (lv_at hl 1 rfl) ?_
    refine fz_callM (As := [.int a]) (rest := []) ⟨hx, hb, hml, hown, hts⟩ (mX1_bad l a) (cwV 1 hts (lw_V q158 q160 qs8 q19 q161) rfl rfl rfl cd_X1_bad ⟨Nat.le_of_ble_eq_true rfl, Nat.le_of_ble_eq_true rfl⟩) hP hK rfl hl.1 rfl (Nat.le_of_ble_eq_true rfl) dX1_trace_2 ⟨Nat.zero_le _, Nat.zero_le _⟩ (fun r_ hr_ => ?_)
    have hr_ : r_ = (nI 1) := by rw [hr_, ea]; rfl
    subst hr_
    refine lv_if_ne (tgt := 16) hx hb dX1_trace_5 (by decide) (fun _ => ?_) (fun c_ => False.elim ((fun z => absurd z (by decide)) c_))
    refine lv_iconst (v := -1) hx hb dX1_trace_16 (by decide) ?_
    exact W.iret (v := (-1)) hx hb hr (fun t ht hW => ⟨⟨_, f, rfl, (by rw [fz_Atr, ea]; rfl), by show va_P _ _ _ t.heap; rw [ht]; exact hP⟩, hS.F ht⟩) hS.2.2 dX1_trace_17
  | true =>
    obtain ⟨i, hi, rfl⟩ := fz_el_of (by omega) ea
    by_cases hz : fz_si q z = 0
    · refine lv_aload_n hx hb dX1_trace_0 rfl (lv_at hl 0 rfl) ?_
      refine lv_iload_n hx hb dX1_trace_1 rfl (lv_at hl 1 rfl) ?_
      refine fz_callM (As := [.int (nI i)]) (rest := []) ⟨hx, hb, hml, hown, hts⟩ (mX1_bad l (nI i)) (cwV 1 hts (lw_V q158 q160 qs8 q19 q161) rfl rfl rfl cd_X1_bad ⟨Nat.le_of_ble_eq_true rfl, Nat.le_of_ble_eq_true rfl⟩) hP hK rfl hl.1 rfl (Nat.le_of_ble_eq_true rfl) dX1_trace_2 ⟨Nat.zero_le _, Nat.zero_le _⟩ (fun r_ hr_ => ?_)
      have hr_ : r_ = (nI 0) := by rw [hr_, ea]; rfl
      subst hr_
      refine lv_if_ne (tgt := 16) hx hb dX1_trace_5 (by decide) (fun c_ => False.elim ((fun z => z rfl) c_)) (fun _ => ?_)
      refine lv_aload_n hx hb dX1_trace_8 rfl (lv_at hl 0 rfl) ?_
      refine lv_iload_n hx hb dX1_trace_9 rfl (lv_at hl 2 rfl) ?_
      refine fz_callM (As := [.int z]) (rest := []) ⟨hx, hb, hml, hown, hts⟩ (mX1_steps l hm z) (cwV 1 hts (lw_V q219 q221 qs16 q19 q222) rfl rfl rfl cd_X1_steps ⟨Nat.le_of_ble_eq_true rfl, Nat.le_of_ble_eq_true rfl⟩) hP hK rfl hl.1 rfl (Nat.le_of_ble_eq_true rfl) dX1_trace_10 ⟨Nat.zero_le _, Nat.zero_le _⟩ (fun r_ hr_ => ?_)
      have hr_ : r_ = (nI 0) := by rw [hr_, hz]
      subst hr_
      refine lv_if_ne (tgt := 18) hx hb dX1_trace_13 (by decide) (fun c_ => False.elim ((fun z => z rfl) c_)) (fun _ => ?_)
      refine lv_iconst (v := -1) hx hb dX1_trace_16 (by decide) ?_
      exact W.iret (v := (-1)) hx hb hr (fun t ht hW => ⟨⟨_, f, rfl, (by rw [fz_Atr, ea, fz_beq_t hz]; rfl), by show va_P _ _ _ t.heap; rw [ht]; exact hP⟩, hS.F ht⟩) hS.2.2 dX1_trace_17
    · obtain ⟨w, rfl, hw, hw81, hpw, hw6, hwst⟩ := fz_si_of hm hz
      refine lv_aload_n hx hb dX1_trace_0 rfl (lv_at hl 0 rfl) ?_
      refine lv_iload_n hx hb dX1_trace_1 rfl (lv_at hl 1 rfl) ?_
      refine fz_callM (As := [.int (nI i)]) (rest := []) ⟨hx, hb, hml, hown, hts⟩ (mX1_bad l (nI i)) (cwV 1 hts (lw_V q158 q160 qs8 q19 q161) rfl rfl rfl cd_X1_bad ⟨Nat.le_of_ble_eq_true rfl, Nat.le_of_ble_eq_true rfl⟩) hP hK rfl hl.1 rfl (Nat.le_of_ble_eq_true rfl) dX1_trace_2 ⟨Nat.zero_le _, Nat.zero_le _⟩ (fun r_ hr_ => ?_)
      have hr_ : r_ = (nI 0) := by rw [hr_, ea]; rfl
      subst hr_
      refine lv_if_ne (tgt := 16) hx hb dX1_trace_5 (by decide) (fun c_ => False.elim ((fun z => z rfl) c_)) (fun _ => ?_)
      refine lv_aload_n hx hb dX1_trace_8 rfl (lv_at hl 0 rfl) ?_
      refine lv_iload_n hx hb dX1_trace_9 rfl (lv_at hl 2 rfl) ?_
      refine fz_callM (As := [.int (nI w)]) (rest := []) ⟨hx, hb, hml, hown, hts⟩ (mX1_steps l hm (nI w)) (cwV 1 hts (lw_V q219 q221 qs16 q19 q222) rfl rfl rfl cd_X1_steps ⟨Nat.le_of_ble_eq_true rfl, Nat.le_of_ble_eq_true rfl⟩) hP hK rfl hl.1 rfl (Nat.le_of_ble_eq_true rfl) dX1_trace_10 ⟨Nat.zero_le _, Nat.zero_le _⟩ (fun r_ hr_ => ?_)
      have hr_ : r_ = (nI (fz_si q (nI w))) := hr_
      subst hr_
      refine lv_if_ne (tgt := 18) hx hb dX1_trace_13 (by decide) (fun _ => ?_) (fun c_ => False.elim ((fun y => (hz ((nI_eq (by omega) (by decide)).mp y))) c_))
      refine lv_iconst (v := nI 0) hx hb dX1_trace_18 (by decide) ?_
      refine lv_istore_n (lv' := [(3, .int (nI 0)), (0, .ref h), (1, .int (nI i)), (2, .int (nI w))]) hx hb dX1_trace_19 rfl hl (by decide) rfl (fun ls hl => ?_)
      refine lv_iload_n hx hb dX1_trace_20 rfl (lv_at hl 2 rfl) ?_
      refine lv_istore (lv' := [(4, .int (nI i)), (3, .int (nI 0)), (0, .ref h), (1, .int (nI i)), (2, .int (nI w))]) hx hb dX1_trace_21 hl (by decide) rfl (fun ls hl => ?_)
      refine lv_iconst (v := nI 0) hx hb dX1_trace_23 (by decide) ?_
      refine lv_istore (lv' := [(5, .int (nI 0)), (4, .int (nI i)), (3, .int (nI 0)), (0, .ref h), (1, .int (nI i)), (2, .int (nI w))]) hx hb dX1_trace_24 hl (by decide) rfl (fun ls hl => ?_)
      refine fz_loopH (G := Nat → Int32) (fz_si q (nI w)) (fun j g H locs ls => va_P D vwCl (fz_wM h hd dd q p k g) H ∧ va_S (fz_AM h hd) s.heap H locs ∧ lv_has ls 6 [(5, .int (nI j)), (4, .int (nI (fz_tt q i w j))), (3, .int (nI (fz_ts q p k i w j))), (2, .int (nI w)), (0, .ref h)]) (fun g H locs ls hI => ?_) (fun j hj ih g H locs ls hI => ?_) 0 (Nat.zero_le _) f _ _ ls ⟨hP, hS, lv_sub hl [0, 1, 2, 5, 3] rfl⟩
      · obtain ⟨hP, hS, hl⟩ := hI
        refine lv_iload hx hb dX1_trace_26 (lv_at hl 0 rfl) ?_
        refine lv_aload_n hx hb dX1_trace_28 rfl (lv_at hl 4 rfl) ?_
        refine lv_iload_n hx hb dX1_trace_29 rfl (lv_at hl 3 rfl) ?_
        refine fz_callM (As := [.int (nI w)]) (rest := [.int (nI ((fz_si q (nI w))))]) ⟨hx, hb, hml, hown, hts⟩ (mX1_steps l hm (nI w)) (cwV 1 hts (lw_V q219 q221 qs16 q19 q222) rfl rfl rfl cd_X1_steps ⟨Nat.le_of_ble_eq_true rfl, Nat.le_of_ble_eq_true rfl⟩) hP hK rfl hl.1 rfl (Nat.le_of_ble_eq_true rfl) dX1_trace_30 ⟨Nat.zero_le _, Nat.zero_le _⟩ (fun r_ hr_ => ?_)
        have hr_ : r_ = (nI (fz_si q (nI w))) := hr_
        subst hr_
        refine lv_icmp_ge (tgt := 59) hx hb dX1_trace_33 (by decide) (fun _ => ?_) (fun c_ => False.elim ((fun z => z (nI_le (Nat.le_refl (fz_si q (nI w))) (by omega))) c_))
        refine lv_iload_n hx hb dX1_trace_59 rfl (lv_at hl 2 rfl) ?_
        exact W.iret (v := (nI (fz_ts q p k i w ((fz_si q (nI w)))))) hx hb hr (fun t ht hW => ⟨⟨_, g, rfl, (by rw [fz_Atr, ea, fz_beq_f hz, nI_clamp (by omega), nI_clamp (by omega)]; rfl), by show va_P _ _ _ t.heap; rw [ht]; exact hP⟩, hS.F ht⟩) hS.2.2 dX1_trace_60
      · obtain ⟨hP, hS, hl⟩ := hI
        have t1 := fz_tt_lt hm hi w j
        have t2 := fz_ts_lt hm i w j
        refine lv_iload hx hb dX1_trace_26 (lv_at hl 0 rfl) ?_
        refine lv_aload_n hx hb dX1_trace_28 rfl (lv_at hl 4 rfl) ?_
        refine lv_iload_n hx hb dX1_trace_29 rfl (lv_at hl 3 rfl) ?_
        refine fz_callM (As := [.int (nI w)]) (rest := [.int (nI j)]) ⟨hx, hb, hml, hown, hts⟩ (mX1_steps l hm (nI w)) (cwV 1 hts (lw_V q219 q221 qs16 q19 q222) rfl rfl rfl cd_X1_steps ⟨Nat.le_of_ble_eq_true rfl, Nat.le_of_ble_eq_true rfl⟩) hP hK rfl hl.1 rfl (Nat.le_of_ble_eq_true rfl) dX1_trace_30 ⟨Nat.zero_le _, Nat.zero_le _⟩ (fun r_ hr_ => ?_)
        have hr_ : r_ = (nI (fz_si q (nI w))) := hr_
        subst hr_
        refine lv_icmp_ge (tgt := 59) hx hb dX1_trace_33 (by decide) (fun c_ => False.elim ((nI_ge hj (by omega)) c_)) (fun _ => ?_)
        refine lv_aload_n hx hb dX1_trace_36 rfl (lv_at hl 4 rfl) ?_
        refine lv_iload_n hx hb dX1_trace_37 rfl (lv_at hl 2 rfl) ?_
        refine lv_iload hx hb dX1_trace_38 (lv_at hl 1 rfl) ?_
        refine fz_callM (As := [.int (nI (fz_ts q p k i w j)), .int (nI (fz_tt q i w j))]) (rest := []) ⟨hx, hb, hml, hown, hts⟩ (mX1_sum l hm (a := fz_ts q p k i w j) (b := fz_tt q i w j) (by omega) (by omega)) (cwV 2 hts (lw_V q162 q164 qs9 q19 q165) rfl rfl rfl cd_X1_sum ⟨Nat.le_of_ble_eq_true rfl, Nat.le_of_ble_eq_true rfl⟩) hP hK rfl hl.1 rfl (Nat.le_of_ble_eq_true rfl) dX1_trace_40 ⟨Nat.zero_le _, Nat.zero_le _⟩ (fun r_ hr_ => ?_)
        have hr_ : r_ = (nI (fz_ts q p k i w (j + 1))) := hr_
        subst hr_
        refine lv_istore_n (lv' := [(3, .int (nI (fz_ts q p k i w (j + 1)))), (5, .int (nI j)), (4, .int (nI (fz_tt q i w j))), (2, .int (nI w)), (0, .ref h)]) hx hb dX1_trace_43 rfl hl (by decide) rfl (fun ls hl => ?_)
        refine lv_aload_n hx hb dX1_trace_44 rfl (lv_at hl 4 rfl) ?_
        refine lv_iload hx hb dX1_trace_45 (lv_at hl 2 rfl) ?_
        refine lv_iload_n hx hb dX1_trace_47 rfl (lv_at hl 3 rfl) ?_
        refine fz_callMm (As := [.int (nI (fz_tt q i w j)), .int (nI w)]) (rest := []) ⟨hx, hb, hml, hown, hts⟩ (mX1_raised l hne hm (a := fz_tt q i w j) (n := w) t1 (by omega)) (cwV 2 hts (lw_V q199 q201 qs15 q19 q202) rfl rfl rfl cd_X1_raised ⟨Nat.le_of_ble_eq_true rfl, Nat.le_of_ble_eq_true rfl⟩) hP hK hS (fun _ z => z) rfl hl.1 rfl (Nat.le_of_ble_eq_true rfl) dX1_trace_48 ⟨Nat.zero_le _, Nat.zero_le _⟩ (fun r_ g_ H locs hr_ hP _ hS => ?_)
        have hP : va_P D vwCl (fz_wM h hd dd q p k g_) H := hP
        have hr_ : r_ = (nI (fz_tt q i w (j + 1))) := hr_
        subst hr_
        refine lv_istore (lv' := [(4, .int (nI (fz_tt q i w (j + 1)))), (3, .int (nI (fz_ts q p k i w (j + 1)))), (5, .int (nI j)), (2, .int (nI w)), (0, .ref h)]) hx hb dX1_trace_51 hl (by decide) rfl (fun ls hl => ?_)
        refine lv_iinc (v := (nI (j + 1))) (lv' := [(5, .int (nI (j + 1))), (4, .int (nI (fz_tt q i w (j + 1)))), (3, .int (nI (fz_ts q p k i w (j + 1)))), (2, .int (nI w)), (0, .ref h)]) hx hb dX1_trace_53 hl (k := 2) rfl (nv_inc _) (by decide) rfl (fun ls hl => ?_)
        refine lv_goto (tgt := 26) hx hb dX1_trace_56 (by decide) ?_
        exact ih _ H locs ls ⟨hP, hS, lv_sub hl [0, 1, 2, 3, 4] rfl⟩
set_option maxHeartbeats 4000000 in
set_option maxRecDepth 100000 in
theorem mX1_home (l : Launch) {D : va_G} {h hd : Nat} {dd : ClassId} {q p k : Nat} {f : Nat → Int32} (hne : h ≠ hd) (hm : fz_Ok q p k) (a : Int32) : Met l yX1_home (ws_ yX1_home cX1_home 3 (some .int)) ({ frames := 5, cells := 0, slots := 0, locals := 120 }) (va_Pc [.ref h, .int a] (fz_BM D h hd dd q p k f)) (va_Qi (fun (r : Int32) (g : Nat → Int32) => r = fz_Ahm q a) (fun g t => va_P D vwCl (fz_wM h hd dd q p k g) t.heap) (fz_AM h hd)) 0 0 (fz_AM h hd) := by
  obtain ⟨hp2, hp3, hk4, hk6, hq64, hq81, hpk⟩ := fz_facts hm
  refine Met.ofW (cc := cX1_home) (maxL := 3) (ret := (some .int)) (by decide) rfl ?_
  intro P e s m args below meth c s₁ B hml hv
  obtain ⟨rfl, hP, hK⟩ := hv
  have hx := B.exec
  have hb := B.bytes
  have hr := B.returns
  have hts := atoms_spec (ws := ws_ yX1_home cX1_home 3 (some .int)) B.pre
  have hts : ∀ w ∈ lw_all, w.before _ s = true := fun w h => hts w (List.mem_cons_of_mem _ h)
  have hown : s.vm.findClass RX1 = some m.cls := findClass_of_methodNamed B.named
  have hlocks := B.notSynchronized
  have hl := lv_entry ([.ref h, .int a]) (n := 3) (Nat.le_of_ble_eq_true rfl)
  rw [lg_entry_eq]
  generalize (lg_sl ([.ref h, .int a]) ++ List.replicate (3 - (lg_sl ([.ref h, .int a])).length) Slot.unset).toArray = ls at hl ⊢
  have hl : lv_has ls 3 [(0, .ref h), (1, .int a)] := hl
  have hS : va_S (fz_AM h hd) s.heap s.heap [] := va_S.rf
  cases ea : fz_el q a with
  | false =>
    refine lv_aload_n hx hb dX1_home_0 rfl (lv_at hl 0 rfl) ?_
    refine lv_iload_n hx hb dX1_home_1 rfl (lv_at hl 1 rfl) ?_
    refine fz_callM (As := [.int a]) (rest := []) ⟨hx, hb, hml, hown, hts⟩ (mX1_bad l a) (cwV 1 hts (lw_V q158 q160 qs8 q19 q161) rfl rfl rfl cd_X1_bad ⟨Nat.le_of_ble_eq_true rfl, Nat.le_of_ble_eq_true rfl⟩) hP hK rfl hl.1 rfl (Nat.le_of_ble_eq_true rfl) dX1_home_2 ⟨Nat.zero_le _, Nat.zero_le _⟩ (fun r_ hr_ => ?_)
    have hr_ : r_ = (nI 1) := by rw [hr_, ea]; rfl
    subst hr_
    refine lv_if_eq (tgt := 10) hx hb dX1_home_5 (by decide) (fun c_ => False.elim ((fun z => absurd z (by decide)) c_)) (fun _ => ?_)
    refine lv_iconst (v := -1) hx hb dX1_home_8 (by decide) ?_
    exact W.iret (v := (-1)) hx hb hr (fun t ht hW => ⟨⟨_, f, rfl, (by rw [fz_Ahm, ea]; rfl), by show va_P _ _ _ t.heap; rw [ht]; exact hP⟩, hS.F ht⟩) hS.2.2 dX1_home_9
  | true =>
    obtain ⟨i, hi, rfl⟩ := fz_el_of (by omega) ea
    refine lv_aload_n hx hb dX1_home_0 rfl (lv_at hl 0 rfl) ?_
    refine lv_iload_n hx hb dX1_home_1 rfl (lv_at hl 1 rfl) ?_
    refine fz_callM (As := [.int (nI i)]) (rest := []) ⟨hx, hb, hml, hown, hts⟩ (mX1_bad l (nI i)) (cwV 1 hts (lw_V q158 q160 qs8 q19 q161) rfl rfl rfl cd_X1_bad ⟨Nat.le_of_ble_eq_true rfl, Nat.le_of_ble_eq_true rfl⟩) hP hK rfl hl.1 rfl (Nat.le_of_ble_eq_true rfl) dX1_home_2 ⟨Nat.zero_le _, Nat.zero_le _⟩ (fun r_ hr_ => ?_)
    have hr_ : r_ = (nI 0) := by rw [hr_, ea]; rfl
    subst hr_
    refine lv_if_eq (tgt := 10) hx hb dX1_home_5 (by decide) (fun _ => ?_) (fun c_ => False.elim ((fun z => z rfl) c_))
    refine lv_iconst (v := nI 2) hx hb dX1_home_10 (by decide) ?_
    refine lv_istore_n (lv' := [(2, .int (nI 2)), (0, .ref h), (1, .int (nI i))]) hx hb dX1_home_11 rfl hl (by decide) rfl (fun ls hl => ?_)
    refine fz_loopH (G := Nat → Int32) q (fun x g H locs ls => 2 ≤ x ∧ fz_fnd (fz_hp q i) (q - 2) 2 = fz_fnd (fz_hp q i) (q - x) x ∧ va_P D vwCl (fz_wM h hd dd q p k g) H ∧ va_S (fz_AM h hd) s.heap H locs ∧ lv_has ls 3 [(2, .int (nI x)), (1, .int (nI i)), (0, .ref h)]) (fun g H locs ls hI => ?_) (fun x hxq ih g H locs ls hI => ?_) 2 (by omega) f _ _ ls ⟨Nat.le_refl 2, rfl, hP, hS, lv_sub hl [0, 2, 1] rfl⟩
    · obtain ⟨-, hF, hP, hS, hl⟩ := hI
      refine lv_iload_n hx hb dX1_home_12 rfl (lv_at hl 0 rfl) ?_
      refine lv_aload_n hx hb dX1_home_13 rfl (lv_at hl 2 rfl) ?_
      refine va_get (D := D) (ci := 1) (v := .int (nI q)) (C := RX1) (T := TX1) (N := 4) hx hb hts in_X1 hown hK hP 0 rfl rfl 0 (by decide) (hts _ q137) (fun _ h9 => h9) rfl dX1_home_14 ?_
      refine lv_icmp_ge (tgt := 46) hx hb dX1_home_17 (by decide) (fun _ => ?_) (fun c_ => False.elim ((fun z => z (nI_le (Nat.le_refl q) (by omega))) c_))
      refine lv_aload_n hx hb dX1_home_46 rfl (lv_at hl 2 rfl) ?_
      refine va_get (D := D) (ci := 1) (v := .int (nI q)) (C := RX1) (T := TX1) (N := 4) hx hb hts in_X1 hown hK hP 0 rfl rfl 0 (by decide) (hts _ q137) (fun _ h9 => h9) rfl dX1_home_47 ?_
      exact W.iret (v := (nI q)) hx hb hr (fun t ht hW => ⟨⟨_, g, rfl, (by rw [fz_Ahm, ea, nI_clamp (by omega), fz_home, hF, Nat.sub_self]; rfl), by show va_P _ _ _ t.heap; rw [ht]; exact hP⟩, hS.F ht⟩) hS.2.2 dX1_home_50
    · obtain ⟨hx2, hF, hP, hS, hl⟩ := hI
      have hsi := fz_si_n hm (show x < 2 ^ 31 by omega)
      by_cases hs0 : fz_st q x = 0
      · refine lv_iload_n hx hb dX1_home_12 rfl (lv_at hl 0 rfl) ?_
        refine lv_aload_n hx hb dX1_home_13 rfl (lv_at hl 2 rfl) ?_
        refine va_get (D := D) (ci := 1) (v := .int (nI q)) (C := RX1) (T := TX1) (N := 4) hx hb hts in_X1 hown hK hP 0 rfl rfl 0 (by decide) (hts _ q137) (fun _ h9 => h9) rfl dX1_home_14 ?_
        refine lv_icmp_ge (tgt := 46) hx hb dX1_home_17 (by decide) (fun c_ => False.elim ((nI_ge hxq (by omega)) c_)) (fun _ => ?_)
        refine lv_aload_n hx hb dX1_home_20 rfl (lv_at hl 2 rfl) ?_
        refine lv_iload_n hx hb dX1_home_21 rfl (lv_at hl 0 rfl) ?_
        refine fz_callM (As := [.int (nI x)]) (rest := []) ⟨hx, hb, hml, hown, hts⟩ (mX1_steps l hm (nI x)) (cwV 1 hts (lw_V q219 q221 qs16 q19 q222) rfl rfl rfl cd_X1_steps ⟨Nat.le_of_ble_eq_true rfl, Nat.le_of_ble_eq_true rfl⟩) hP hK rfl hl.1 rfl (Nat.le_of_ble_eq_true rfl) dX1_home_22 ⟨Nat.zero_le _, Nat.zero_le _⟩ (fun r_ hr_ => ?_)
        have hr_ : r_ = (nI 0) := by rw [hr_, hsi, hs0]
        subst hr_
        refine lv_if_le (tgt := 40) hx hb dX1_home_25 (by decide) (fun _ => ?_) (fun c_ => False.elim ((fun z => z (Int32.le_refl 0)) c_))
        refine lv_iinc (v := (nI (x + 1))) (lv' := [(2, .int (nI (x + 1))), (1, .int (nI i)), (0, .ref h)]) hx hb dX1_home_40 hl (k := 0) rfl (nv_inc _) (by decide) rfl (fun ls hl => ?_)
        refine lv_goto (tgt := 12) hx hb dX1_home_43 (by decide) ?_
        exact ih _ H locs ls ⟨by omega, by rw [hF, fz_fnd_miss hxq (by rw [fz_hp, hs0]; rfl)], hP, hS, lv_sub hl [0, 1, 2] rfl⟩
      · have hst7 := fz_st_le q x
        have hpl := fz_pow_lt hm i x
        refine lv_iload_n hx hb dX1_home_12 rfl (lv_at hl 0 rfl) ?_
        refine lv_aload_n hx hb dX1_home_13 rfl (lv_at hl 2 rfl) ?_
        refine va_get (D := D) (ci := 1) (v := .int (nI q)) (C := RX1) (T := TX1) (N := 4) hx hb hts in_X1 hown hK hP 0 rfl rfl 0 (by decide) (hts _ q137) (fun _ h9 => h9) rfl dX1_home_14 ?_
        refine lv_icmp_ge (tgt := 46) hx hb dX1_home_17 (by decide) (fun c_ => False.elim ((nI_ge hxq (by omega)) c_)) (fun _ => ?_)
        refine lv_aload_n hx hb dX1_home_20 rfl (lv_at hl 2 rfl) ?_
        refine lv_iload_n hx hb dX1_home_21 rfl (lv_at hl 0 rfl) ?_
        refine fz_callM (As := [.int (nI x)]) (rest := []) ⟨hx, hb, hml, hown, hts⟩ (mX1_steps l hm (nI x)) (cwV 1 hts (lw_V q219 q221 qs16 q19 q222) rfl rfl rfl cd_X1_steps ⟨Nat.le_of_ble_eq_true rfl, Nat.le_of_ble_eq_true rfl⟩) hP hK rfl hl.1 rfl (Nat.le_of_ble_eq_true rfl) dX1_home_22 ⟨Nat.zero_le _, Nat.zero_le _⟩ (fun r_ hr_ => ?_)
        have hr_ : r_ = (nI (fz_st q x)) := by rw [hr_, hsi]
        subst hr_
        refine lv_if_le (tgt := 40) hx hb dX1_home_25 (by decide) (fun c_ => False.elim ((nI_nle (Nat.pos_of_ne_zero hs0) (by omega)) c_)) (fun _ => ?_)
        refine lv_aload_n hx hb dX1_home_28 rfl (lv_at hl 2 rfl) ?_
        refine lv_iload_n hx hb dX1_home_29 rfl (lv_at hl 1 rfl) ?_
        refine lv_iload_n hx hb dX1_home_30 rfl (lv_at hl 0 rfl) ?_
        refine fz_callMm (As := [.int (nI i), .int (nI x)]) (rest := []) ⟨hx, hb, hml, hown, hts⟩ (mX1_raised l hne hm (a := i) (n := x) (by omega) (by omega)) (cwV 2 hts (lw_V q199 q201 qs15 q19 q202) rfl rfl rfl cd_X1_raised ⟨Nat.le_of_ble_eq_true rfl, Nat.le_of_ble_eq_true rfl⟩) hP hK hS (fun _ z => z) rfl hl.1 rfl (Nat.le_of_ble_eq_true rfl) dX1_home_31 ⟨Nat.zero_le _, Nat.zero_le _⟩ (fun r_ g_ H locs hr_ hP _ hS => ?_)
        have hP : va_P D vwCl (fz_wM h hd dd q p k g_) H := hP
        have hr_ : r_ = (nI (fz_pow q i x)) := hr_
        subst hr_
        refine lv_iload_n hx hb dX1_home_34 rfl (lv_at hl 1 rfl) ?_
        refine lv_icmp_ne (tgt := 40) hx hb dX1_home_35 (by decide) (fun c_35 => ?_) (fun c_35 => ?_)
        · have hnq : fz_pow q i x ≠ i := fun z => c_35 (by rw [z])
          refine lv_iinc (v := (nI (x + 1))) (lv' := [(2, .int (nI (x + 1))), (1, .int (nI i)), (0, .ref h)]) hx hb dX1_home_40 hl (k := 0) rfl (nv_inc _) (by decide) rfl (fun ls hl => ?_)
          refine lv_goto (tgt := 12) hx hb dX1_home_43 (by decide) ?_
          exact ih _ H locs ls ⟨by omega, by rw [hF, fz_fnd_miss hxq (by rw [fz_hp, fz_beq_f hnq, Bool.and_false])], hP, hS, lv_sub hl [0, 1, 2] rfl⟩
        · have heq : fz_pow q i x = i := (nI_eq (by omega) (by omega)).mp c_35
          refine lv_iload_n hx hb dX1_home_38 rfl (lv_at hl 0 rfl) ?_
          exact W.iret (v := (nI x)) hx hb hr (fun t ht hW => ⟨⟨_, g_, rfl, (by rw [fz_Ahm, ea, nI_clamp (by omega), fz_home, hF, fz_fnd_hit hxq (by rw [fz_hp, fz_beq_t heq, Bool.and_true]; exact Nat.ble_eq_true_of_le (Nat.pos_of_ne_zero hs0))]; rfl), by show va_P _ _ _ t.heap; rw [ht]; exact hP⟩, hS.F ht⟩) hS.2.2 dX1_home_39
set_option maxHeartbeats 4000000 in
set_option maxRecDepth 100000 in
theorem mX1_logarithm (l : Launch) {D : va_G} {h hd : Nat} {dd : ClassId} {q p k : Nat} {f : Nat → Int32} (hne : h ≠ hd) (hm : fz_Ok q p k) (y a : Int32) : Met l yX1_logarithm (ws_ yX1_logarithm cX1_logarithm 5 (some .int)) ({ frames := 4, cells := 0, slots := 0, locals := 95 }) (va_Pc [.ref h, .int y, .int a] (fz_BM D h hd dd q p k f)) (va_Qi (fun (r : Int32) (g : Nat → Int32) => r = fz_Alog q y a) (fun g t => va_P D vwCl (fz_wM h hd dd q p k g) t.heap) (fz_AM h hd)) 0 0 (fz_AM h hd) := by
  obtain ⟨hp2, hp3, hk4, hk6, hq64, hq81, hpk⟩ := fz_facts hm
  refine Met.ofW (cc := cX1_logarithm) (maxL := 5) (ret := (some .int)) (by decide) rfl ?_
  intro P e s m args below meth c s₁ B hml hv
  obtain ⟨rfl, hP, hK⟩ := hv
  have hx := B.exec
  have hb := B.bytes
  have hr := B.returns
  have hts := atoms_spec (ws := ws_ yX1_logarithm cX1_logarithm 5 (some .int)) B.pre
  have hts : ∀ w ∈ lw_all, w.before _ s = true := fun w h => hts w (List.mem_cons_of_mem _ h)
  have hown : s.vm.findClass RX1 = some m.cls := findClass_of_methodNamed B.named
  have hlocks := B.notSynchronized
  have hl := lv_entry ([.ref h, .int y, .int a]) (n := 5) (Nat.le_of_ble_eq_true rfl)
  rw [lg_entry_eq]
  generalize (lg_sl ([.ref h, .int y, .int a]) ++ List.replicate (5 - (lg_sl ([.ref h, .int y, .int a])).length) Slot.unset).toArray = ls at hl ⊢
  have hl : lv_has ls 5 [(0, .ref h), (1, .int y), (2, .int a)] := hl
  have hS : va_S (fz_AM h hd) s.heap s.heap [] := va_S.rf
  cases eg : fz_el q y with
  | false =>
    refine lv_aload_n hx hb dX1_logarithm_0 rfl (lv_at hl 0 rfl) ?_
    refine lv_iload_n hx hb dX1_logarithm_1 rfl (lv_at hl 1 rfl) ?_
    refine fz_callM (As := [.int y]) (rest := []) ⟨hx, hb, hml, hown, hts⟩ (mX1_bad l y) (cwV 1 hts (lw_V q158 q160 qs8 q19 q161) rfl rfl rfl cd_X1_bad ⟨Nat.le_of_ble_eq_true rfl, Nat.le_of_ble_eq_true rfl⟩) hP hK rfl hl.1 rfl (Nat.le_of_ble_eq_true rfl) dX1_logarithm_2 ⟨Nat.zero_le _, Nat.zero_le _⟩ (fun r_ hr_ => ?_)
    have hr_ : r_ = (nI 1) := by rw [hr_, eg]; rfl
    subst hr_
    refine lv_if_ne (tgt := 24) hx hb dX1_logarithm_5 (by decide) (fun _ => ?_) (fun c_ => False.elim ((fun z => absurd z (by decide)) c_))
    refine lv_iconst (v := -1) hx hb dX1_logarithm_24 (by decide) ?_
    exact W.iret (v := (-1)) hx hb hr (fun t ht hW => ⟨⟨_, f, rfl, (by rw [fz_Alog, eg]; rfl), by show va_P _ _ _ t.heap; rw [ht]; exact hP⟩, hS.F ht⟩) hS.2.2 dX1_logarithm_25
  | true =>
    obtain ⟨i, hi, rfl⟩ := fz_el_of (by omega) eg
    cases ea : fz_el q a with
    | false =>
      refine lv_aload_n hx hb dX1_logarithm_0 rfl (lv_at hl 0 rfl) ?_
      refine lv_iload_n hx hb dX1_logarithm_1 rfl (lv_at hl 1 rfl) ?_
      refine fz_callM (As := [.int (nI i)]) (rest := []) ⟨hx, hb, hml, hown, hts⟩ (mX1_bad l (nI i)) (cwV 1 hts (lw_V q158 q160 qs8 q19 q161) rfl rfl rfl cd_X1_bad ⟨Nat.le_of_ble_eq_true rfl, Nat.le_of_ble_eq_true rfl⟩) hP hK rfl hl.1 rfl (Nat.le_of_ble_eq_true rfl) dX1_logarithm_2 ⟨Nat.zero_le _, Nat.zero_le _⟩ (fun r_ hr_ => ?_)
      have hr_ : r_ = (nI 0) := by rw [hr_, eg]; rfl
      subst hr_
      refine lv_if_ne (tgt := 24) hx hb dX1_logarithm_5 (by decide) (fun c_ => False.elim ((fun z => z rfl) c_)) (fun _ => ?_)
      refine lv_aload_n hx hb dX1_logarithm_8 rfl (lv_at hl 0 rfl) ?_
      refine lv_iload_n hx hb dX1_logarithm_9 rfl (lv_at hl 2 rfl) ?_
      refine fz_callM (As := [.int a]) (rest := []) ⟨hx, hb, hml, hown, hts⟩ (mX1_bad l a) (cwV 1 hts (lw_V q158 q160 qs8 q19 q161) rfl rfl rfl cd_X1_bad ⟨Nat.le_of_ble_eq_true rfl, Nat.le_of_ble_eq_true rfl⟩) hP hK rfl hl.1 rfl (Nat.le_of_ble_eq_true rfl) dX1_logarithm_10 ⟨Nat.zero_le _, Nat.zero_le _⟩ (fun r_ hr_ => ?_)
      have hr_ : r_ = (nI 1) := by rw [hr_, ea]; rfl
      subst hr_
      refine lv_if_ne (tgt := 24) hx hb dX1_logarithm_13 (by decide) (fun _ => ?_) (fun c_ => False.elim ((fun z => absurd z (by decide)) c_))
      refine lv_iconst (v := -1) hx hb dX1_logarithm_24 (by decide) ?_
      exact W.iret (v := (-1)) hx hb hr (fun t ht hW => ⟨⟨_, f, rfl, (by rw [fz_Alog, eg, ea]; rfl), by show va_P _ _ _ t.heap; rw [ht]; exact hP⟩, hS.F ht⟩) hS.2.2 dX1_logarithm_25
    | true =>
      obtain ⟨j, hj, rfl⟩ := fz_el_of (by omega) ea
      refine lv_aload_n hx hb dX1_logarithm_0 rfl (lv_at hl 0 rfl) ?_
      refine lv_iload_n hx hb dX1_logarithm_1 rfl (lv_at hl 1 rfl) ?_
      refine fz_callM (As := [.int (nI i)]) (rest := []) ⟨hx, hb, hml, hown, hts⟩ (mX1_bad l (nI i)) (cwV 1 hts (lw_V q158 q160 qs8 q19 q161) rfl rfl rfl cd_X1_bad ⟨Nat.le_of_ble_eq_true rfl, Nat.le_of_ble_eq_true rfl⟩) hP hK rfl hl.1 rfl (Nat.le_of_ble_eq_true rfl) dX1_logarithm_2 ⟨Nat.zero_le _, Nat.zero_le _⟩ (fun r_ hr_ => ?_)
      have hr_ : r_ = (nI 0) := by rw [hr_, eg]; rfl
      subst hr_
      refine lv_if_ne (tgt := 24) hx hb dX1_logarithm_5 (by decide) (fun c_ => False.elim ((fun z => z rfl) c_)) (fun _ => ?_)
      refine lv_aload_n hx hb dX1_logarithm_8 rfl (lv_at hl 0 rfl) ?_
      refine lv_iload_n hx hb dX1_logarithm_9 rfl (lv_at hl 2 rfl) ?_
      refine fz_callM (As := [.int (nI j)]) (rest := []) ⟨hx, hb, hml, hown, hts⟩ (mX1_bad l (nI j)) (cwV 1 hts (lw_V q158 q160 qs8 q19 q161) rfl rfl rfl cd_X1_bad ⟨Nat.le_of_ble_eq_true rfl, Nat.le_of_ble_eq_true rfl⟩) hP hK rfl hl.1 rfl (Nat.le_of_ble_eq_true rfl) dX1_logarithm_10 ⟨Nat.zero_le _, Nat.zero_le _⟩ (fun r_ hr_ => ?_)
      have hr_ : r_ = (nI 0) := by rw [hr_, ea]; rfl
      subst hr_
      refine lv_if_ne (tgt := 24) hx hb dX1_logarithm_13 (by decide) (fun c_ => False.elim ((fun z => z rfl) c_)) (fun _ => ?_)
      refine lv_iload_n hx hb dX1_logarithm_16 rfl (lv_at hl 1 rfl) ?_
      refine lv_if_eq (tgt := 24) hx hb dX1_logarithm_17 (by decide) (fun c_17 => ?_) (fun c_17 => ?_)
      · have h0 : i = 0 := (nI_eq (by omega) (by decide)).mp c_17
        refine lv_iconst (v := -1) hx hb dX1_logarithm_24 (by decide) ?_
        exact W.iret (v := (-1)) hx hb hr (fun t ht hW => ⟨⟨_, f, rfl, (by rw [fz_Alog, eg, ea, h0]; rfl), by show va_P _ _ _ t.heap; rw [ht]; exact hP⟩, hS.F ht⟩) hS.2.2 dX1_logarithm_25
      · have h0 : i ≠ 0 := fun z => c_17 (by rw [z]; rfl)
        refine lv_iload_n hx hb dX1_logarithm_20 rfl (lv_at hl 2 rfl) ?_
        refine lv_if_ne (tgt := 26) hx hb dX1_logarithm_21 (by decide) (fun c_21 => ?_) (fun c_21 => ?_)
        · have h1 : j ≠ 0 := fun z => c_21 (by rw [z]; rfl)
          refine lv_iconst (v := nI 1) hx hb dX1_logarithm_26 (by decide) ?_
          refine lv_istore_n (lv' := [(3, .int (nI 1)), (0, .ref h), (1, .int (nI i)), (2, .int (nI j))]) hx hb dX1_logarithm_27 rfl hl (by decide) rfl (fun ls hl => ?_)
          refine lv_iconst (v := nI 0) hx hb dX1_logarithm_28 (by decide) ?_
          refine lv_istore (lv' := [(4, .int (nI 0)), (3, .int (nI 1)), (0, .ref h), (1, .int (nI i)), (2, .int (nI j))]) hx hb dX1_logarithm_29 hl (by decide) rfl (fun ls hl => ?_)
          refine fz_loopH (G := Nat → Int32) q (fun x g H locs ls => fz_fnd (fun n => Nat.beq (fz_pow q i n) j) q 0 = fz_fnd (fun n => Nat.beq (fz_pow q i n) j) (q - x) x ∧ va_P D vwCl (fz_wM h hd dd q p k g) H ∧ va_S (fz_AM h hd) s.heap H locs ∧ lv_has ls 5 [(4, .int (nI x)), (3, .int (nI (fz_pow q i x))), (2, .int (nI j)), (1, .int (nI i)), (0, .ref h)]) (fun g H locs ls hI => ?_) (fun x hxq ih g H locs ls hI => ?_) 0 (Nat.zero_le _) f _ _ ls ⟨rfl, hP, hS, lv_sub hl [0, 1, 4, 3, 2] rfl⟩
          · obtain ⟨hF, hP, hS, hl⟩ := hI
            refine lv_iload hx hb dX1_logarithm_31 (lv_at hl 0 rfl) ?_
            refine lv_aload_n hx hb dX1_logarithm_33 rfl (lv_at hl 4 rfl) ?_
            refine va_get (D := D) (ci := 1) (v := .int (nI q)) (C := RX1) (T := TX1) (N := 4) hx hb hts in_X1 hown hK hP 0 rfl rfl 0 (by decide) (hts _ q137) (fun _ h9 => h9) rfl dX1_logarithm_34 ?_
            refine lv_icmp_ge (tgt := 61) hx hb dX1_logarithm_37 (by decide) (fun _ => ?_) (fun c_ => False.elim ((fun z => z (nI_le (Nat.le_refl q) (by omega))) c_))
            refine lv_iconst (v := -1) hx hb dX1_logarithm_61 (by decide) ?_
            exact W.iret (v := (-1)) hx hb hr (fun t ht hW => ⟨⟨_, g, rfl, (by rw [fz_Alog, eg, ea, fz_nz (by omega) h0, fz_nz (by omega) h1, nI_clamp (by omega), nI_clamp (by omega), ← fz_log_ok hm h0 hi h1 hj, hF, Nat.sub_self]; rfl), by show va_P _ _ _ t.heap; rw [ht]; exact hP⟩, hS.F ht⟩) hS.2.2 dX1_logarithm_62
          · obtain ⟨hF, hP, hS, hl⟩ := hI
            have hpl := fz_pow_lt hm i x
            refine lv_iload hx hb dX1_logarithm_31 (lv_at hl 0 rfl) ?_
            refine lv_aload_n hx hb dX1_logarithm_33 rfl (lv_at hl 4 rfl) ?_
            refine va_get (D := D) (ci := 1) (v := .int (nI q)) (C := RX1) (T := TX1) (N := 4) hx hb hts in_X1 hown hK hP 0 rfl rfl 0 (by decide) (hts _ q137) (fun _ h9 => h9) rfl dX1_logarithm_34 ?_
            refine lv_icmp_ge (tgt := 61) hx hb dX1_logarithm_37 (by decide) (fun c_ => False.elim ((nI_ge hxq (by omega)) c_)) (fun _ => ?_)
            refine lv_iload_n hx hb dX1_logarithm_40 rfl (lv_at hl 1 rfl) ?_
            refine lv_iload_n hx hb dX1_logarithm_41 rfl (lv_at hl 2 rfl) ?_
            refine lv_icmp_ne (tgt := 48) hx hb dX1_logarithm_42 (by decide) (fun c_42 => ?_) (fun c_42 => ?_)
            · have hnq : fz_pow q i x ≠ j := fun z => c_42 (by rw [z])
              refine lv_aload_n hx hb dX1_logarithm_48 rfl (lv_at hl 4 rfl) ?_
              refine lv_iload_n hx hb dX1_logarithm_49 rfl (lv_at hl 1 rfl) ?_
              refine lv_iload_n hx hb dX1_logarithm_50 rfl (lv_at hl 3 rfl) ?_
              refine fz_callMm (As := [.int (nI (fz_pow q i x)), .int (nI i)]) (rest := []) ⟨hx, hb, hml, hown, hts⟩ (mX1_product l hne hm (a := fz_pow q i x) (b := i) hpl hi) (cwV 2 hts (lw_V q178 q180 qs12 q19 q181) rfl rfl rfl cd_X1_product ⟨Nat.le_of_ble_eq_true rfl, Nat.le_of_ble_eq_true rfl⟩) hP hK hS (fun _ z => z) rfl hl.1 rfl (Nat.le_of_ble_eq_true rfl) dX1_logarithm_51 ⟨Nat.zero_le _, Nat.zero_le _⟩ (fun r_ g_ H locs hr_ hP _ hS => ?_)
              have hP : va_P D vwCl (fz_wM h hd dd q p k g_) H := hP
              have hr_ : r_ = (nI (fz_pow q i (x + 1))) := by rw [hr_, fz_pow_s hm hi]
              subst hr_
              refine lv_istore_n (lv' := [(3, .int (nI (fz_pow q i (x + 1)))), (4, .int (nI x)), (2, .int (nI j)), (1, .int (nI i)), (0, .ref h)]) hx hb dX1_logarithm_54 rfl hl (by decide) rfl (fun ls hl => ?_)
              refine lv_iinc (v := (nI (x + 1))) (lv' := [(4, .int (nI (x + 1))), (3, .int (nI (fz_pow q i (x + 1)))), (2, .int (nI j)), (1, .int (nI i)), (0, .ref h)]) hx hb dX1_logarithm_55 hl (k := 1) rfl (nv_inc _) (by decide) rfl (fun ls hl => ?_)
              refine lv_goto (tgt := 31) hx hb dX1_logarithm_58 (by decide) ?_
              exact ih _ H locs ls ⟨by rw [hF, fz_fnd_miss (P := fun n => Nat.beq (fz_pow q i n) j) hxq (fz_beq_f hnq)], hP, hS, lv_sub hl [0, 1, 2, 3, 4] rfl⟩
            · have heq : fz_pow q i x = j := (nI_eq (by omega) (by omega)).mp c_42
              refine lv_iload hx hb dX1_logarithm_45 (lv_at hl 0 rfl) ?_
              exact W.iret (v := (nI x)) hx hb hr (fun t ht hW => ⟨⟨_, g, rfl, (by rw [fz_Alog, eg, ea, fz_nz (by omega) h0, fz_nz (by omega) h1, nI_clamp (by omega), nI_clamp (by omega), ← fz_log_ok hm h0 hi h1 hj, hF, fz_fnd_hit (P := fun n => Nat.beq (fz_pow q i n) j) hxq (fz_beq_t heq)]; rfl), by show va_P _ _ _ t.heap; rw [ht]; exact hP⟩, hS.F ht⟩) hS.2.2 dX1_logarithm_47
        · have h1 : j = 0 := (nI_eq (by omega) (by decide)).mp c_21
          refine lv_iconst (v := -1) hx hb dX1_logarithm_24 (by decide) ?_
          exact W.iret (v := (-1)) hx hb hr (fun t ht hW => ⟨⟨_, f, rfl, (by rw [fz_Alog, eg, ea, fz_nz (by omega) h0, h1]; rfl), by show va_P _ _ _ t.heap; rw [ht]; exact hP⟩, hS.F ht⟩) hS.2.2 dX1_logarithm_25
set_option maxHeartbeats 4000000 in
set_option maxRecDepth 100000 in
theorem mX1_use (l : Launch) {D : va_G} {h hd : Nat} {dd : ClassId} {q p k : Nat} {f : Nat → Int32} (hne : h ≠ hd) (a : Int32) : Met l yX1_use (ws_ yX1_use cX1_use 2 (some .int)) ({ frames := 0, cells := 0, slots := 0, locals := 0 }) (va_Pc [.ref h, .int a] (fz_BM D h hd dd q p k f)) (va_Qi (fun (r : Int32) (g : Nat → Int32) => r = fz_ur a) (fun g t => va_P D vwCl (fz_wM h hd dd (fz_uq q a) (fz_up p a) (fz_uk k a) g) t.heap) (fz_AM h hd)) 0 0 (fz_AM h hd) := by
  refine Met.ofW (cc := cX1_use) (maxL := 2) (ret := (some .int)) (by decide) rfl ?_
  intro P e s m args below meth c s₁ B hml hv
  obtain ⟨rfl, hP, hK⟩ := hv
  have hx := B.exec
  have hb := B.bytes
  have hr := B.returns
  have hts := atoms_spec (ws := ws_ yX1_use cX1_use 2 (some .int)) B.pre
  have hts : ∀ w ∈ lw_all, w.before _ s = true := fun w h => hts w (List.mem_cons_of_mem _ h)
  have hown : s.vm.findClass RX1 = some m.cls := findClass_of_methodNamed B.named
  have hlocks := B.notSynchronized
  have hl := lv_entry ([.ref h, .int a]) (n := 2) (Nat.le_of_ble_eq_true rfl)
  rw [lg_entry_eq]
  generalize (lg_sl ([.ref h, .int a]) ++ List.replicate (2 - (lg_sl ([.ref h, .int a])).length) Slot.unset).toArray = ls at hl ⊢
  have hl : lv_has ls 2 [(0, .ref h), (1, .int a)] := hl
  have hS : va_S (fz_AM h hd) s.heap s.heap [] := va_S.rf
  by_cases ea : a = nI 64
  · subst ea
    have e1 : fz_uq q (nI 64) = 64 := by rw [fz_uq]; rfl
    have e2 : fz_up p (nI 64) = 2 := by rw [fz_up]; rfl
    have e3 : fz_uk k (nI 64) = 6 := by rw [fz_uk]; rfl
    refine lv_iload_n hx hb dX1_use_0 rfl (lv_at hl 1 rfl) ?_
    refine lv_bipush (v := nI 64) hx hb dX1_use_1 (by decide) ?_
    refine lv_icmp_eq (tgt := 14) hx hb dX1_use_3 (by decide) (fun _ => ?_) (fun c_ => False.elim ((fun z => z rfl) c_))
    refine lv_aload_n hx hb dX1_use_14 rfl (lv_at hl 0 rfl) ?_
    refine lv_iload_n hx hb dX1_use_15 rfl (lv_at hl 1 rfl) ?_
    refine va_put (D := D) (ci := 1) (v := .int (nI 64)) (ty := .int) (C := RX1) (T := TX1) (N := 4) hx hb hts in_X1 tyX1 tyX1_ok nmX1 hown hK hP (fz_dM hne) hS 0 rfl rfl 0 (by decide) (hts _ q137) (fun _ h9 => h9) rfl (by decide +kernel) rfl rfl (Nat.le_of_ble_eq_true rfl) dX1_use_16 (fun H locs hP hD hS => ?_)
    have hP : va_P D vwCl (fz_wM h hd dd 64 p k f) H := hP
    refine lv_aload_n hx hb dX1_use_19 rfl (lv_at hl 0 rfl) ?_
    refine lv_iload_n hx hb dX1_use_20 rfl (lv_at hl 1 rfl) ?_
    refine lv_bipush (v := nI 64) hx hb dX1_use_21 (by decide) ?_
    refine lv_icmp_ne (tgt := 30) hx hb dX1_use_23 (by decide) (fun c_ => False.elim ((fun z => z rfl) c_)) (fun _ => ?_)
    refine lv_iconst (v := nI 2) hx hb dX1_use_26 (by decide) ?_
    refine lv_goto (tgt := 31) hx hb dX1_use_27 (by decide) ?_
    refine va_put (D := D) (ci := 1) (v := .int (nI 2)) (ty := .int) (C := RX1) (T := TX1) (N := 4) hx hb hts in_X1 tyX1 tyX1_ok nmX1 hown hK hP (fz_dM hne) hS 0 rfl rfl 1 (by decide) (hts _ q138) (fun _ h9 => h9) rfl (by decide +kernel) rfl rfl (Nat.le_of_ble_eq_true rfl) dX1_use_31 (fun H locs hP hD hS => ?_)
    have hP : va_P D vwCl (fz_wM h hd dd 64 2 k f) H := hP
    refine lv_aload_n hx hb dX1_use_34 rfl (lv_at hl 0 rfl) ?_
    refine lv_iload_n hx hb dX1_use_35 rfl (lv_at hl 1 rfl) ?_
    refine lv_bipush (v := nI 64) hx hb dX1_use_36 (by decide) ?_
    refine lv_icmp_ne (tgt := 46) hx hb dX1_use_38 (by decide) (fun c_ => False.elim ((fun z => z rfl) c_)) (fun _ => ?_)
    refine lv_bipush (v := nI 6) hx hb dX1_use_41 (by decide) ?_
    refine lv_goto (tgt := 47) hx hb dX1_use_43 (by decide) ?_
    refine va_put (D := D) (ci := 1) (v := .int (nI 6)) (ty := .int) (C := RX1) (T := TX1) (N := 4) hx hb hts in_X1 tyX1 tyX1_ok nmX1 hown hK hP (fz_dM hne) hS 0 rfl rfl 2 (by decide) (hts _ q139) (fun _ h9 => h9) rfl (by decide +kernel) rfl rfl (Nat.le_of_ble_eq_true rfl) dX1_use_47 (fun H locs hP hD hS => ?_)
    have hP : va_P D vwCl (fz_wM h hd dd 64 2 6 f) H := hP
    refine lv_iconst (v := nI 0) hx hb dX1_use_50 (by decide) ?_
    have hP : va_P D vwCl (fz_wM h hd dd (fz_uq q (nI 64)) (fz_up p (nI 64)) (fz_uk k (nI 64)) f) H := by rw [e1, e2, e3]; exact hP
    exact W.iret (v := (nI 0)) hx hb hr (fun t ht hW => ⟨⟨_, f, rfl, rfl, by show va_P _ _ _ t.heap; rw [ht]; exact hP⟩, hS.F ht⟩) hS.2.2 dX1_use_51
  by_cases eb : a = nI 81
  · subst eb
    have e1 : fz_uq q (nI 81) = 81 := by rw [fz_uq]; rfl
    have e2 : fz_up p (nI 81) = 3 := by rw [fz_up]; rfl
    have e3 : fz_uk k (nI 81) = 4 := by rw [fz_uk]; rfl
    refine lv_iload_n hx hb dX1_use_0 rfl (lv_at hl 1 rfl) ?_
    refine lv_bipush (v := nI 64) hx hb dX1_use_1 (by decide) ?_
    refine lv_icmp_eq (tgt := 14) hx hb dX1_use_3 (by decide) (fun c_ => False.elim ((fun z => absurd z (by decide)) c_)) (fun _ => ?_)
    refine lv_iload_n hx hb dX1_use_6 rfl (lv_at hl 1 rfl) ?_
    refine lv_bipush (v := nI 81) hx hb dX1_use_7 (by decide) ?_
    refine lv_icmp_eq (tgt := 14) hx hb dX1_use_9 (by decide) (fun _ => ?_) (fun c_ => False.elim ((fun z => z rfl) c_))
    refine lv_aload_n hx hb dX1_use_14 rfl (lv_at hl 0 rfl) ?_
    refine lv_iload_n hx hb dX1_use_15 rfl (lv_at hl 1 rfl) ?_
    refine va_put (D := D) (ci := 1) (v := .int (nI 81)) (ty := .int) (C := RX1) (T := TX1) (N := 4) hx hb hts in_X1 tyX1 tyX1_ok nmX1 hown hK hP (fz_dM hne) hS 0 rfl rfl 0 (by decide) (hts _ q137) (fun _ h9 => h9) rfl (by decide +kernel) rfl rfl (Nat.le_of_ble_eq_true rfl) dX1_use_16 (fun H locs hP hD hS => ?_)
    have hP : va_P D vwCl (fz_wM h hd dd 81 p k f) H := hP
    refine lv_aload_n hx hb dX1_use_19 rfl (lv_at hl 0 rfl) ?_
    refine lv_iload_n hx hb dX1_use_20 rfl (lv_at hl 1 rfl) ?_
    refine lv_bipush (v := nI 64) hx hb dX1_use_21 (by decide) ?_
    refine lv_icmp_ne (tgt := 30) hx hb dX1_use_23 (by decide) (fun _ => ?_) (fun c_ => False.elim ((fun z => absurd z (by decide)) c_))
    refine lv_iconst (v := nI 3) hx hb dX1_use_30 (by decide) ?_
    refine va_put (D := D) (ci := 1) (v := .int (nI 3)) (ty := .int) (C := RX1) (T := TX1) (N := 4) hx hb hts in_X1 tyX1 tyX1_ok nmX1 hown hK hP (fz_dM hne) hS 0 rfl rfl 1 (by decide) (hts _ q138) (fun _ h9 => h9) rfl (by decide +kernel) rfl rfl (Nat.le_of_ble_eq_true rfl) dX1_use_31 (fun H locs hP hD hS => ?_)
    have hP : va_P D vwCl (fz_wM h hd dd 81 3 k f) H := hP
    refine lv_aload_n hx hb dX1_use_34 rfl (lv_at hl 0 rfl) ?_
    refine lv_iload_n hx hb dX1_use_35 rfl (lv_at hl 1 rfl) ?_
    refine lv_bipush (v := nI 64) hx hb dX1_use_36 (by decide) ?_
    refine lv_icmp_ne (tgt := 46) hx hb dX1_use_38 (by decide) (fun _ => ?_) (fun c_ => False.elim ((fun z => absurd z (by decide)) c_))
    refine lv_iconst (v := nI 4) hx hb dX1_use_46 (by decide) ?_
    refine va_put (D := D) (ci := 1) (v := .int (nI 4)) (ty := .int) (C := RX1) (T := TX1) (N := 4) hx hb hts in_X1 tyX1 tyX1_ok nmX1 hown hK hP (fz_dM hne) hS 0 rfl rfl 2 (by decide) (hts _ q139) (fun _ h9 => h9) rfl (by decide +kernel) rfl rfl (Nat.le_of_ble_eq_true rfl) dX1_use_47 (fun H locs hP hD hS => ?_)
    have hP : va_P D vwCl (fz_wM h hd dd 81 3 4 f) H := hP
    refine lv_iconst (v := nI 0) hx hb dX1_use_50 (by decide) ?_
    have hP : va_P D vwCl (fz_wM h hd dd (fz_uq q (nI 81)) (fz_up p (nI 81)) (fz_uk k (nI 81)) f) H := by rw [e1, e2, e3]; exact hP
    exact W.iret (v := (nI 0)) hx hb hr (fun t ht hW => ⟨⟨_, f, rfl, rfl, by show va_P _ _ _ t.heap; rw [ht]; exact hP⟩, hS.F ht⟩) hS.2.2 dX1_use_51
  refine lv_iload_n hx hb dX1_use_0 rfl (lv_at hl 1 rfl) ?_
  refine lv_bipush (v := nI 64) hx hb dX1_use_1 (by decide) ?_
  refine lv_icmp_eq (tgt := 14) hx hb dX1_use_3 (by decide) (fun c_ => False.elim (ea c_)) (fun _ => ?_)
  refine lv_iload_n hx hb dX1_use_6 rfl (lv_at hl 1 rfl) ?_
  refine lv_bipush (v := nI 81) hx hb dX1_use_7 (by decide) ?_
  refine lv_icmp_eq (tgt := 14) hx hb dX1_use_9 (by decide) (fun c_ => False.elim (eb c_)) (fun _ => ?_)
  refine lv_iconst (v := -1) hx hb dX1_use_12 (by decide) ?_
  have hP : va_P D vwCl (fz_wM h hd dd (fz_uq q a) (fz_up p a) (fz_uk k a) f) s.heap := by rw [fz_uq, if_neg ea, if_neg eb, fz_up, if_neg ea, if_neg eb, fz_uk, if_neg ea, if_neg eb]; exact hP
  exact W.iret (v := (-1)) hx hb hr (fun t ht hW => ⟨⟨_, f, rfl, (by rw [fz_ur, if_neg ea, if_neg eb]), by show va_P _ _ _ t.heap; rw [ht]; exact hP⟩, hS.F ht⟩) hS.2.2 dX1_use_13
set_option maxHeartbeats 4000000 in
set_option maxRecDepth 100000 in
theorem mX1_init (l : Launch) {D : va_G} {h sz : Nat} : Met l yX1_init (ws_ yX1_init cX1_init 1 none) ({ frames := 1, cells := 1, slots := 12, locals := 12 }) (va_Pc [.ref h] (fun U => U.heap.size = sz ∧ va_P D vwCl [(h, .inr (1, [.int (nI 0), .int (nI 0), .int (nI 0), .null]))] U.heap ∧ va_K D vwCl [] U)) (va_Qv (fun _ : Unit => True) (fun _ t => fz_IM D h sz t) (fz_AI h sz)) 1 12 (fz_AI h sz) := by
  refine Met.ofW (cc := cX1_init) (maxL := 1) (ret := none) (by decide) rfl ?_
  intro P e s m args below meth c s₁ B hml hv
  obtain ⟨rfl, hsz, hP, hK⟩ := hv
  have hx := B.exec
  have hb := B.bytes
  have hr := B.returns
  have hts := atoms_spec (ws := ws_ yX1_init cX1_init 1 none) B.pre
  have hts : ∀ w ∈ lw_all, w.before _ s = true := fun w h => hts w (List.mem_cons_of_mem _ h)
  have hown : s.vm.findClass RX1 = some m.cls := findClass_of_methodNamed B.named
  have hlocks := B.notSynchronized
  have hl := lv_entry ([.ref h]) (n := 1) (Nat.le_of_ble_eq_true rfl)
  rw [lg_entry_eq]
  generalize (lg_sl ([.ref h]) ++ List.replicate (1 - (lg_sl ([.ref h])).length) Slot.unset).toArray = ls at hl ⊢
  have hl : lv_has ls 1 [(0, .ref h)] := hl
  subst hsz
  have hin : meth.name = "<init>" := (name_of_methodNamed B.named B.method).1
  have hA : ∀ q : Nat, s.heap.size ≤ q → fz_AI h s.heap.size q := fun q z => Or.inr z
  have hS : va_S (fz_AI h s.heap.size) s.heap s.heap [] := va_S.rf
  have hD : va_D (fz_AI h s.heap.size) [(h, .inr (1, [.int (nI 0), .int (nI 0), .int (nI 0), .null]))] := fz_dI
  refine lv_aload_n hx hb dX1_init_0 rfl (lv_at hl 0 rfl) ?_
  refine W.objInit hx hb hown (hts _ q136) (hts _ q26) (hts _ q27) rfl (by rw [hml]; exact hl.1) rfl dX1_init_1 (Nat.le_of_ble_eq_true rfl) (Nat.le_of_ble_eq_true rfl) ?_
  refine W.eq (g2 := F0 m 4 ls []) rfl ?_
  refine lv_aload_n hx hb dX1_init_4 rfl (lv_at hl 0 rfl) ?_
  refine lv_bipush (v := nI 64) hx hb dX1_init_5 (by decide) ?_
  refine va_put (D := D) (ci := 1) (v := .int (nI 64)) (ty := .int) (C := RX1) (T := TX1) (N := 4) hx hb hts in_X1 tyX1 tyX1_ok nmX1 hown hK hP hD hS 0 rfl rfl 0 (by decide) (hts _ q137) (fun _ h9 => h9) rfl (by decide +kernel) rfl rfl (Nat.le_of_ble_eq_true rfl) dX1_init_7 (fun H locs hP hD hS => ?_)
  have hP : va_P D vwCl [(h, .inr (1, [.int (nI 64), .int (nI 0), .int (nI 0), .null]))] H := hP
  have hD : va_D (fz_AI h s.heap.size) [(h, .inr (1, [.int (nI 64), .int (nI 0), .int (nI 0), .null]))] := hD
  refine lv_aload_n hx hb dX1_init_10 rfl (lv_at hl 0 rfl) ?_
  refine lv_iconst (v := nI 2) hx hb dX1_init_11 (by decide) ?_
  refine va_put (D := D) (ci := 1) (v := .int (nI 2)) (ty := .int) (C := RX1) (T := TX1) (N := 4) hx hb hts in_X1 tyX1 tyX1_ok nmX1 hown hK hP hD hS 0 rfl rfl 1 (by decide) (hts _ q138) (fun _ h9 => h9) rfl (by decide +kernel) rfl rfl (Nat.le_of_ble_eq_true rfl) dX1_init_12 (fun H locs hP hD hS => ?_)
  have hP : va_P D vwCl [(h, .inr (1, [.int (nI 64), .int (nI 2), .int (nI 0), .null]))] H := hP
  have hD : va_D (fz_AI h s.heap.size) [(h, .inr (1, [.int (nI 64), .int (nI 2), .int (nI 0), .null]))] := hD
  refine lv_aload_n hx hb dX1_init_15 rfl (lv_at hl 0 rfl) ?_
  refine lv_bipush (v := nI 6) hx hb dX1_init_16 (by decide) ?_
  refine va_put (D := D) (ci := 1) (v := .int (nI 6)) (ty := .int) (C := RX1) (T := TX1) (N := 4) hx hb hts in_X1 tyX1 tyX1_ok nmX1 hown hK hP hD hS 0 rfl rfl 2 (by decide) (hts _ q139) (fun _ h9 => h9) rfl (by decide +kernel) rfl rfl (Nat.le_of_ble_eq_true rfl) dX1_init_18 (fun H locs hP hD hS => ?_)
  have hP : va_P D vwCl [(h, .inr (1, [.int (nI 64), .int (nI 2), .int (nI 6), .null]))] H := hP
  have hD : va_D (fz_AI h s.heap.size) [(h, .inr (1, [.int (nI 64), .int (nI 2), .int (nI 6), .null]))] := hD
  refine lv_aload_n hx hb dX1_init_21 rfl (lv_at hl 0 rfl) ?_
  refine lv_bipush (v := nI 12) hx hb dX1_init_22 (by decide) ?_
  refine va_newa (atype := .int) (ty := .int) (N' := 12) (a0 := (12, .inl (fun _ => nI 0))) hx hb (hts _ q59) rfl hK hP hD hS hA (fun cA => rfl) (by decide) (by decide) (by decide) (Nat.le_of_ble_eq_true rfl) (Nat.le_of_ble_eq_true rfl) dX1_init_24 (fun hd dd H hK hP hD hS => ?_)
  have hP : va_P D vwCl [(h, .inr (1, [.int (nI 64), .int (nI 2), .int (nI 6), .null])), (hd, .inl (dd, 12, .inl (fun _ => nI 0)))] H := hP
  have hD : va_D (fz_AI h s.heap.size) [(h, .inr (1, [.int (nI 64), .int (nI 2), .int (nI 6), .null])), (hd, .inl (dd, 12, .inl (fun _ => nI 0)))] := hD
  refine va_putF (D := D) (ci := 1) (v := .ref hd) (ty := (.array .int)) (C := RX1) (T := TX1) (N := 4) hx hb hts in_X1 tyX1 tyX1_ok nmX1 hown hK hP hD hS 0 rfl rfl 3 (by decide) (hts _ q140) (fun _ h9 => h9) rfl hin rfl (by decide +kernel) rfl rfl (Nat.le_of_ble_eq_true rfl) dX1_init_26 (fun H locs hP hD hS => ?_)
  have hP : va_P D vwCl (fz_wM h hd dd 64 2 6 (fun _ => nI 0)) H := hP
  have hD : va_D (fz_AI h s.heap.size) [(h, .inr (1, [.int (nI 64), .int (nI 2), .int (nI 6), .ref hd])), (hd, .inl (dd, 12, .inl (fun _ => nI 0)))] := hD
  have hne : h ≠ hd := fun z => absurd (hD.1 0 1 _ _ rfl rfl z) (by decide)
  have hK : va_K D vwCl (fz_tM dd) s := hK
  have hsz : hd = h ∨ s.heap.size ≤ hd := hD.2 1 _ rfl
  refine W.widen (k := 1) (n := 12) (Nat.le_of_ble_eq_true rfl) (Nat.le_of_ble_eq_true rfl) ?_
  exact W.vret hx hb hr (fun t ht hW => ⟨⟨(), rfl, trivial, ⟨hd, dd, _, hne, by omega, by show va_P _ _ _ t.heap; rw [ht]; exact hP, va_K.moved hW.alike hK⟩⟩, hS.F ht⟩) hS.2.2 dX1_init_29
end
section
/-! THE CLAIM OUT OF ONE WALK OF THE LAW'S BODY. Your part is whole_start (and what it stands on); all else here is the same for every law, but numbers. -/
def R_law : String := "FieldTowerLaw"
def lw_P (b : Addr) (xs : List Int32) (args : Array Value) (s : State) : Prop := args = #[.ref b] ∧ s.IntsAt b xs ∧ xs.length ≤ 192 ∧ (Jvm.Cond.and given_1 narrow_1).before args s = true
def lw_Q (_ : Array Value) (s : State) (o : Outcome) (t : State) : Prop := o = .returned (some (.int 1)) ∧ Framed s o t [] 600000 7290000
def lw_Z (below : List Frame) (a : Array Value) (s : State) : State → Prop := fun t => ∃ o, t.status = .running ∧ Ended t below o ∧ lw_Q a s o t
/-- the law's own end, with 1 on the stack, nothing written that was there before, its room as the claim has it -/
theorem lw_ret {p : Program} {l : Launch} {e : Env} {s : State} {m : MethodId} {below : List Frame} {meth : Method} {c : Code} {b : Nat} (hx : p.tables.exec = Jvm.exec) (hb : c.code = code) (hr : meth.sig.returnType = ret) (hlocks : meth.locks = false) {pc : Nat} {H : Heap} {ls : Array Slot} (hdg : decode code pc = .ok (.ireturn, 1)) : W p l e room_1 s m #[Value.ref b] below meth c H [] 600000 7290000 (lw_Z below #[Value.ref b] s) (F0 m pc ls [.int 1]) := by
  intro T hT X
  obtain ⟨fs, hret, hrun, hended, hW, hframe⟩ := X.leave (v := some (.int 1)) (hlocks := hlocks) (fun h => by rw [hr] at h; cases h)
  have hmeth' : T.vm.method? m = some meth := X.method'
  refine ⟨T.setFrames fs, ?_, .returned (some (.int 1)), hrun, hended, rfl, ⟨_, rfl⟩, hW, hframe⟩
  jvm_step X.here [X.here.top, hx, hb, hdg, hmeth', hr, ret, narrow_b1]
  (try refine ⟨rfl, ?_⟩); (try refine ⟨rfl, ?_⟩)
  first | (intro acts; rw [hret _ acts rfl rfl rfl]) | rw [hret _ _ rfl rfl rfl]
  exact Steps.refl _
/-- what holds at the law's entry: the machine, the code, the tables' words (any of lw_tbl by 'hts w (by decide +kernel)'), the script of L ints xs at the cell b, what the Statement gives of the start (any of its parts by flat_of_before) -/
def lw_At (p : Program) (s : State) (m : MethodId) (meth : Method) (c : Code) (b L : Nat) (xs : Nat → Int32) : Prop :=
  p.tables.exec = Jvm.exec ∧ c.code = code ∧ meth.sig.returnType = ret ∧ c.maxLocals = 4 ∧ s.vm.findClass R_law = some m.cls ∧ (∀ w ∈ lw_tbl, w.before #[Value.ref b] s = true) ∧ va_X b L xs s s.heap ∧ b < s.heap.size ∧ meth.locks = false ∧ (Jvm.Cond.and given_1 narrow_1).before #[Value.ref b] s = true
/-! THE LAW: its loop -/
def lw_I (D : va_G) (h h1 h2 h3 : Nat) (d1 d2 d3 : ClassId) (hM hd : Nat) (dd : ClassId) (b : Nat) (s : State) (j : Nat) (H : Heap) (locs : List Loc) (ls : Array Slot) : Prop := ∃ (q p k : Nat) (f1 f2 f3 f : Nat → Int32), fz_Ok q p k ∧ fz_XOk q f1 f2 ∧ va_P D vwCl (fz_wX h h1 h2 h3 d1 d2 d3 q p k f1 f2 f3) H ∧ va_P D vwCl (fz_wM hM hd dd q p k f) H ∧ va_S (fun a => s.heap.size ≤ a) s.heap H locs ∧ lv_has ls 4 [(3, .int (nI (3 * j))), (2, .ref hM), (1, .ref h), (0, .ref b)]
theorem fz_keepX {D : va_G} {h h1 h2 h3 : Nat} {d1 d2 d3 : ClassId} {q p k : Nat} {f1 f2 f3 : Nat → Int32} {H H1 : Heap} {B : Nat → Prop} (hP : va_P D vwCl (fz_wX h h1 h2 h3 d1 d2 d3 q p k f1 f2 f3) H) (hB : ∀ a, fz_AX h h1 h2 h3 a → a < H.size → ¬ B a) (hk : ∀ a : Nat, a < H.size → ¬ B a → H1[a]? = H[a]?) : va_P D vwCl (fz_wX h h1 h2 h3 d1 d2 d3 q p k f1 f2 f3) H1 :=
  hP.kept (fun i x hi => hk x.1 ((hP i x hi).lt) (hB x.1 (by
    match i, hi with
    | 0, hi => cases hi; exact Or.inl rfl
    | 1, hi => cases hi; exact Or.inr (Or.inl rfl)
    | 2, hi => cases hi; exact Or.inr (Or.inr (Or.inl rfl))
    | 3, hi => cases hi; exact Or.inr (Or.inr (Or.inr rfl))
    | i + 4, hi => simp at hi) ((hP i x hi).lt)))
theorem fz_keepM {D : va_G} {h hd : Nat} {dd : ClassId} {q p k : Nat} {f : Nat → Int32} {H H1 : Heap} {B : Nat → Prop} (hP : va_P D vwCl (fz_wM h hd dd q p k f) H) (hB : ∀ a, fz_AM h hd a → ¬ B a) (hk : ∀ a : Nat, a < H.size → ¬ B a → H1[a]? = H[a]?) : va_P D vwCl (fz_wM h hd dd q p k f) H1 :=
  hP.kept (fun i x hi => hk x.1 ((hP i x hi).lt) (hB x.1 (by
    match i, hi with
    | 0, hi => cases hi; exact Or.inl rfl
    | 1, hi => cases hi; exact Or.inr rfl
    | i + 2, hi => simp at hi)))
theorem fz_cmp {j L : Nat} (hL : L ≤ 192) (hj : 3 * j ≤ 192) : nI L - nI 3 < nI (3 * j) ↔ L < 3 * j + 3 := by
  rw [Int32.lt_iff_toInt_lt, pk_sub_toInt (by omega) (by decide), nI_toInt (by omega)]
  omega
theorem fz_sld {P : Program} {l : Launch} {e : Env} {R : Room} {s : State} {m : MethodId} {args : Array Value} {below : List Frame} {meth : Method} {c : Code} {H : Heap} {locs : List Loc} {cells slots : Nat} {Q : State → Prop} {cc : ByteArray} {pc : Nat} {ls : Array Slot} {rest : List Value} (hx : P.tables.exec = Jvm.exec) (hb : c.code = cc) {b L : Nat} {xs : Nat → Int32} (hX : va_X b L xs s s.heap) (hbl : b < s.heap.size) (hS : va_S (fun a => s.heap.size ≤ a) s.heap H locs) {i : Nat} (hi : i < L) (hL : L ≤ 192) (hd : decode cc pc = .ok (.iaload, 1))
    (kk : W P l e R s m args below meth c H locs cells slots Q (F0 m (pc + 1) ls (.int (xs i) :: rest))) : W P l e R s m args below meth c H locs cells slots Q (F0 m pc ls (.int (nI i) :: .ref b :: rest)) :=
  va_sld hx hb hX hbl (Nat.not_le.mpr hbl) hS (vp_in_nI hi (by omega)) hd (by rw [nI_clamp (by omega)]; exact kk)
set_option maxHeartbeats 4000000 in
set_option maxRecDepth 100000 in
theorem law_c0 {P : Program} {l : Launch} {e : Env} {s : State} {m : MethodId} {below : List Frame} {meth : Method} {c : Code} {b L : Nat} {xs : Nat → Int32} {D : va_G} {h h1 h2 h3 hM hd : Nat} {d1 d2 d3 dd : ClassId} (hL : L ≤ 192) (hx : P.tables.exec = Jvm.exec) (hb : c.code = code) (hml : c.maxLocals = 4) (hown : s.vm.findClass R_law = some m.cls) (hts : ∀ w ∈ lw_all, w.before #[Value.ref b] s = true) (hXs : va_X b L xs s s.heap) (hbl : b < s.heap.size) (hne : fz_nX h h1 h2 h3) (hneM : hM ≠ hd) (hAX : ∀ a, fz_AX h h1 h2 h3 a → s.heap.size ≤ a) (hAM : ∀ a, fz_AM hM hd a → s.heap.size ≤ a) (hsep : ∀ a, fz_AX h h1 h2 h3 a → ¬ fz_AM hM hd a) (hKX : va_K D vwCl (fz_tX d1 d2 d3) s) (hKM : va_K D vwCl (fz_tM dd) s) {j : Nat} (hj : 3 * j + 3 ≤ L) (k405 : ∀ (H : Heap) (locs : List Loc) (ls : Array Slot), lw_I D h h1 h2 h3 d1 d2 d3 hM hd dd b s j H locs ls → W P l e room_1 s m #[Value.ref b] below meth c H locs 6 275 (lw_Z below #[Value.ref b] s) (F0 m 405 ls [])) : ∀ (H : Heap) (locs : List Loc) (ls : Array Slot), lw_I D h h1 h2 h3 d1 d2 d3 hM hd dd b s j H locs ls → W P l e room_1 s m #[Value.ref b] below meth c H locs 6 275 (lw_Z below #[Value.ref b] s) (F0 m 92 ls []) := by
  intro H locs ls hI
  obtain ⟨q, p, k, f1, f2, f3, f, hm, hT, hPX, hPM, hS, hl⟩ := hI
  refine lv_aload_n hx hb dL_law_92 rfl (lv_at hl 2 rfl) ?_
  refine lv_aload_n hx hb dL_law_93 rfl (lv_at hl 3 rfl) ?_
  refine lv_iload_n hx hb dL_law_94 rfl (lv_at hl 0 rfl) ?_
  refine lv_iconst (v := nI 1) hx hb dL_law_95 (by decide) ?_
  refine nv_iadd hx hb dL_law_96 ?_
  refine fz_sld hx hb hXs hbl hS (by omega) hL dL_law_97 ?_
  refine fz_callXm (As := [.int (xs (3 * j + 1))]) (rest := []) ⟨hx, hb, hml, hown, hts⟩ (mX0_use l hne hT (xs (3 * j + 1))) (cwV 1 hts (lw_V q60 q61 q62 q18 q63) rfl rfl rfl cd_X0_use ⟨Nat.le_of_ble_eq_true rfl, Nat.le_of_ble_eq_true rfl⟩) hPX hKX hS hAX rfl hl.1 rfl (Nat.le_of_ble_eq_true rfl) dL_law_98 ⟨Nat.le_of_ble_eq_true rfl, Nat.le_of_ble_eq_true rfl⟩ (fun r_ g3_ H1 locs1 hr_ hP1 hk1 hS1 => ?_)
  obtain ⟨g1, g2, g3⟩ := g3_
  obtain ⟨hr_, hT1⟩ := hr_
  have hr_ : r_ = fz_ur (xs (3 * j + 1)) := hr_
  subst hr_
  have hPM := fz_keepM hPM (fun a z y => hsep a y z) hk1
  have hPX := hP1
  have hS := hS1
  refine lv_aload_n hx hb dL_law_101 rfl (lv_at hl 1 rfl) ?_
  refine lv_aload_n hx hb dL_law_102 rfl (lv_at hl 3 rfl) ?_
  refine lv_iload_n hx hb dL_law_103 rfl (lv_at hl 0 rfl) ?_
  refine lv_iconst (v := nI 1) hx hb dL_law_104 (by decide) ?_
  refine nv_iadd hx hb dL_law_105 ?_
  refine fz_sld hx hb hXs hbl hS (by omega) hL dL_law_106 ?_
  refine fz_callMm (As := [.int (xs (3 * j + 1))]) (rest := [.int (fz_ur (xs (3 * j + 1)))]) ⟨hx, hb, hml, hown, hts⟩ (mX1_use l hneM (xs (3 * j + 1))) (cwV 1 hts (lw_V q150 q151 q152 q19 q153) rfl rfl rfl cd_X1_use ⟨Nat.le_of_ble_eq_true rfl, Nat.le_of_ble_eq_true rfl⟩) hPM hKM hS hAM rfl hl.1 rfl (Nat.le_of_ble_eq_true rfl) dL_law_107 ⟨Nat.le_of_ble_eq_true rfl, Nat.le_of_ble_eq_true rfl⟩ (fun r_ g H1 locs1 hr_ hP1 hk1 hS1 => ?_)
  have hr_ : r_ = fz_ur (xs (3 * j + 1)) := hr_
  subst hr_
  have hPX := fz_keepX hPX (fun a z _ => hsep a z) hk1
  have hPM := hP1
  have hS := hS1
  refine lv_icmp_eq (tgt := 405) hx hb dL_law_110 (by decide) (fun _ => ?_) (fun c_ => False.elim ((fun z => z rfl) c_))
  exact k405 _ _ ls ⟨_, _, _, g1, g2, g3, g, fz_u_ok hm (xs (3 * j + 1)), hT1, hPX, hPM, hS, hl⟩
set_option maxHeartbeats 4000000 in
set_option maxRecDepth 100000 in
theorem law_c1 {P : Program} {l : Launch} {e : Env} {s : State} {m : MethodId} {below : List Frame} {meth : Method} {c : Code} {b L : Nat} {xs : Nat → Int32} {D : va_G} {h h1 h2 h3 hM hd : Nat} {d1 d2 d3 dd : ClassId} (hL : L ≤ 192) (hx : P.tables.exec = Jvm.exec) (hb : c.code = code) (hml : c.maxLocals = 4) (hown : s.vm.findClass R_law = some m.cls) (hts : ∀ w ∈ lw_all, w.before #[Value.ref b] s = true) (hXs : va_X b L xs s s.heap) (hbl : b < s.heap.size) (hne : fz_nX h h1 h2 h3) (hneM : hM ≠ hd) (hAX : ∀ a, fz_AX h h1 h2 h3 a → s.heap.size ≤ a) (hAM : ∀ a, fz_AM hM hd a → s.heap.size ≤ a) (hsep : ∀ a, fz_AX h h1 h2 h3 a → ¬ fz_AM hM hd a) (hKX : va_K D vwCl (fz_tX d1 d2 d3) s) (hKM : va_K D vwCl (fz_tM dd) s) {j : Nat} (hj : 3 * j + 3 ≤ L) (k405 : ∀ (H : Heap) (locs : List Loc) (ls : Array Slot), lw_I D h h1 h2 h3 d1 d2 d3 hM hd dd b s j H locs ls → W P l e room_1 s m #[Value.ref b] below meth c H locs 6 275 (lw_Z below #[Value.ref b] s) (F0 m 405 ls [])) : ∀ (H : Heap) (locs : List Loc) (ls : Array Slot), lw_I D h h1 h2 h3 d1 d2 d3 hM hd dd b s j H locs ls → W P l e room_1 s m #[Value.ref b] below meth c H locs 6 275 (lw_Z below #[Value.ref b] s) (F0 m 115 ls []) := by
  intro H locs ls hI
  obtain ⟨q, p, k, f1, f2, f3, f, hm, hT, hPX, hPM, hS, hl⟩ := hI
  refine lv_aload_n hx hb dL_law_115 rfl (lv_at hl 2 rfl) ?_
  refine lv_aload_n hx hb dL_law_116 rfl (lv_at hl 3 rfl) ?_
  refine lv_iload_n hx hb dL_law_117 rfl (lv_at hl 0 rfl) ?_
  refine lv_iconst (v := nI 1) hx hb dL_law_118 (by decide) ?_
  refine nv_iadd hx hb dL_law_119 ?_
  refine fz_sld hx hb hXs hbl hS (by omega) hL dL_law_120 ?_
  refine lv_aload_n hx hb dL_law_121 rfl (lv_at hl 3 rfl) ?_
  refine lv_iload_n hx hb dL_law_122 rfl (lv_at hl 0 rfl) ?_
  refine lv_iconst (v := nI 2) hx hb dL_law_123 (by decide) ?_
  refine nv_iadd hx hb dL_law_124 ?_
  refine fz_sld hx hb hXs hbl hS (by omega) hL dL_law_125 ?_
  refine fz_callX (As := [.int (xs (3 * j + 1)), .int (xs (3 * j + 2))]) (rest := []) ⟨hx, hb, hml, hown, hts⟩ (mX0_add l hm (xs (3 * j + 1)) (xs (3 * j + 2))) (cwV 2 hts (lw_V q64 q65 q66 q18 q67) rfl rfl rfl cd_X0_add ⟨Nat.le_of_ble_eq_true rfl, Nat.le_of_ble_eq_true rfl⟩) hPX hKX rfl hl.1 rfl (Nat.le_of_ble_eq_true rfl) dL_law_126 ⟨Nat.le_of_ble_eq_true rfl, Nat.le_of_ble_eq_true rfl⟩ (fun r_ hr_ => ?_)
  have hr_ : r_ = fz_Aadd q p k (xs (3 * j + 1)) (xs (3 * j + 2)) := hr_
  subst hr_
  refine lv_aload_n hx hb dL_law_129 rfl (lv_at hl 1 rfl) ?_
  refine lv_aload_n hx hb dL_law_130 rfl (lv_at hl 3 rfl) ?_
  refine lv_iload_n hx hb dL_law_131 rfl (lv_at hl 0 rfl) ?_
  refine lv_iconst (v := nI 1) hx hb dL_law_132 (by decide) ?_
  refine nv_iadd hx hb dL_law_133 ?_
  refine fz_sld hx hb hXs hbl hS (by omega) hL dL_law_134 ?_
  refine lv_aload_n hx hb dL_law_135 rfl (lv_at hl 3 rfl) ?_
  refine lv_iload_n hx hb dL_law_136 rfl (lv_at hl 0 rfl) ?_
  refine lv_iconst (v := nI 2) hx hb dL_law_137 (by decide) ?_
  refine nv_iadd hx hb dL_law_138 ?_
  refine fz_sld hx hb hXs hbl hS (by omega) hL dL_law_139 ?_
  refine fz_callM (As := [.int (xs (3 * j + 1)), .int (xs (3 * j + 2))]) (rest := [.int (fz_Aadd q p k (xs (3 * j + 1)) (xs (3 * j + 2)))]) ⟨hx, hb, hml, hown, hts⟩ (mX1_add l hm (xs (3 * j + 1)) (xs (3 * j + 2))) (cwV 2 hts (lw_V q154 q155 q156 q19 q157) rfl rfl rfl cd_X1_add ⟨Nat.le_of_ble_eq_true rfl, Nat.le_of_ble_eq_true rfl⟩) hPM hKM rfl hl.1 rfl (Nat.le_of_ble_eq_true rfl) dL_law_140 ⟨Nat.le_of_ble_eq_true rfl, Nat.le_of_ble_eq_true rfl⟩ (fun r_ hr_ => ?_)
  have hr_ : r_ = fz_Aadd q p k (xs (3 * j + 1)) (xs (3 * j + 2)) := hr_
  subst hr_
  refine lv_icmp_eq (tgt := 405) hx hb dL_law_143 (by decide) (fun _ => ?_) (fun c_ => False.elim ((fun z => z rfl) c_))
  exact k405 _ _ ls ⟨q, p, k, f1, f2, f3, f, hm, hT, hPX, hPM, hS, hl⟩
set_option maxHeartbeats 4000000 in
set_option maxRecDepth 100000 in
theorem law_c2 {P : Program} {l : Launch} {e : Env} {s : State} {m : MethodId} {below : List Frame} {meth : Method} {c : Code} {b L : Nat} {xs : Nat → Int32} {D : va_G} {h h1 h2 h3 hM hd : Nat} {d1 d2 d3 dd : ClassId} (hL : L ≤ 192) (hx : P.tables.exec = Jvm.exec) (hb : c.code = code) (hml : c.maxLocals = 4) (hown : s.vm.findClass R_law = some m.cls) (hts : ∀ w ∈ lw_all, w.before #[Value.ref b] s = true) (hXs : va_X b L xs s s.heap) (hbl : b < s.heap.size) (hne : fz_nX h h1 h2 h3) (hneM : hM ≠ hd) (hAX : ∀ a, fz_AX h h1 h2 h3 a → s.heap.size ≤ a) (hAM : ∀ a, fz_AM hM hd a → s.heap.size ≤ a) (hsep : ∀ a, fz_AX h h1 h2 h3 a → ¬ fz_AM hM hd a) (hKX : va_K D vwCl (fz_tX d1 d2 d3) s) (hKM : va_K D vwCl (fz_tM dd) s) {j : Nat} (hj : 3 * j + 3 ≤ L) (k405 : ∀ (H : Heap) (locs : List Loc) (ls : Array Slot), lw_I D h h1 h2 h3 d1 d2 d3 hM hd dd b s j H locs ls → W P l e room_1 s m #[Value.ref b] below meth c H locs 6 275 (lw_Z below #[Value.ref b] s) (F0 m 405 ls [])) : ∀ (H : Heap) (locs : List Loc) (ls : Array Slot), lw_I D h h1 h2 h3 d1 d2 d3 hM hd dd b s j H locs ls → W P l e room_1 s m #[Value.ref b] below meth c H locs 6 275 (lw_Z below #[Value.ref b] s) (F0 m 148 ls []) := by
  intro H locs ls hI
  obtain ⟨q, p, k, f1, f2, f3, f, hm, hT, hPX, hPM, hS, hl⟩ := hI
  refine lv_aload_n hx hb dL_law_148 rfl (lv_at hl 2 rfl) ?_
  refine lv_aload_n hx hb dL_law_149 rfl (lv_at hl 3 rfl) ?_
  refine lv_iload_n hx hb dL_law_150 rfl (lv_at hl 0 rfl) ?_
  refine lv_iconst (v := nI 1) hx hb dL_law_151 (by decide) ?_
  refine nv_iadd hx hb dL_law_152 ?_
  refine fz_sld hx hb hXs hbl hS (by omega) hL dL_law_153 ?_
  refine lv_aload_n hx hb dL_law_154 rfl (lv_at hl 3 rfl) ?_
  refine lv_iload_n hx hb dL_law_155 rfl (lv_at hl 0 rfl) ?_
  refine lv_iconst (v := nI 2) hx hb dL_law_156 (by decide) ?_
  refine nv_iadd hx hb dL_law_157 ?_
  refine fz_sld hx hb hXs hbl hS (by omega) hL dL_law_158 ?_
  refine fz_callX (As := [.int (xs (3 * j + 1)), .int (xs (3 * j + 2))]) (rest := []) ⟨hx, hb, hml, hown, hts⟩ (mX0_multiply l hm hT (xs (3 * j + 1)) (xs (3 * j + 2))) (cwV 2 hts (lw_V q76 q77 q78 q18 q79) rfl rfl rfl cd_X0_multiply ⟨Nat.le_of_ble_eq_true rfl, Nat.le_of_ble_eq_true rfl⟩) hPX hKX rfl hl.1 rfl (Nat.le_of_ble_eq_true rfl) dL_law_159 ⟨Nat.le_of_ble_eq_true rfl, Nat.le_of_ble_eq_true rfl⟩ (fun r_ hr_ => ?_)
  have hr_ : r_ = fz_Amul q (xs (3 * j + 1)) (xs (3 * j + 2)) := hr_
  subst hr_
  refine lv_aload_n hx hb dL_law_162 rfl (lv_at hl 1 rfl) ?_
  refine lv_aload_n hx hb dL_law_163 rfl (lv_at hl 3 rfl) ?_
  refine lv_iload_n hx hb dL_law_164 rfl (lv_at hl 0 rfl) ?_
  refine lv_iconst (v := nI 1) hx hb dL_law_165 (by decide) ?_
  refine nv_iadd hx hb dL_law_166 ?_
  refine fz_sld hx hb hXs hbl hS (by omega) hL dL_law_167 ?_
  refine lv_aload_n hx hb dL_law_168 rfl (lv_at hl 3 rfl) ?_
  refine lv_iload_n hx hb dL_law_169 rfl (lv_at hl 0 rfl) ?_
  refine lv_iconst (v := nI 2) hx hb dL_law_170 (by decide) ?_
  refine nv_iadd hx hb dL_law_171 ?_
  refine fz_sld hx hb hXs hbl hS (by omega) hL dL_law_172 ?_
  refine fz_callMm (As := [.int (xs (3 * j + 1)), .int (xs (3 * j + 2))]) (rest := [.int (fz_Amul q (xs (3 * j + 1)) (xs (3 * j + 2)))]) ⟨hx, hb, hml, hown, hts⟩ (mX1_multiply l hneM hm (xs (3 * j + 1)) (xs (3 * j + 2))) (cwV 2 hts (lw_V q174 q175 q176 q19 q177) rfl rfl rfl cd_X1_multiply ⟨Nat.le_of_ble_eq_true rfl, Nat.le_of_ble_eq_true rfl⟩) hPM hKM hS hAM rfl hl.1 rfl (Nat.le_of_ble_eq_true rfl) dL_law_173 ⟨Nat.le_of_ble_eq_true rfl, Nat.le_of_ble_eq_true rfl⟩ (fun r_ g H1 locs1 hr_ hP1 hk1 hS1 => ?_)
  have hr_ : r_ = fz_Amul q (xs (3 * j + 1)) (xs (3 * j + 2)) := hr_
  subst hr_
  have hPX := fz_keepX hPX (fun a z _ => hsep a z) hk1
  have hPM := hP1
  have hS := hS1
  refine lv_icmp_eq (tgt := 405) hx hb dL_law_176 (by decide) (fun _ => ?_) (fun c_ => False.elim ((fun z => z rfl) c_))
  exact k405 _ _ ls ⟨q, p, k, f1, f2, f3, g, hm, hT, hPX, hPM, hS, hl⟩
set_option maxHeartbeats 4000000 in
set_option maxRecDepth 100000 in
theorem law_c3 {P : Program} {l : Launch} {e : Env} {s : State} {m : MethodId} {below : List Frame} {meth : Method} {c : Code} {b L : Nat} {xs : Nat → Int32} {D : va_G} {h h1 h2 h3 hM hd : Nat} {d1 d2 d3 dd : ClassId} (hL : L ≤ 192) (hx : P.tables.exec = Jvm.exec) (hb : c.code = code) (hml : c.maxLocals = 4) (hown : s.vm.findClass R_law = some m.cls) (hts : ∀ w ∈ lw_all, w.before #[Value.ref b] s = true) (hXs : va_X b L xs s s.heap) (hbl : b < s.heap.size) (hne : fz_nX h h1 h2 h3) (hneM : hM ≠ hd) (hAX : ∀ a, fz_AX h h1 h2 h3 a → s.heap.size ≤ a) (hAM : ∀ a, fz_AM hM hd a → s.heap.size ≤ a) (hsep : ∀ a, fz_AX h h1 h2 h3 a → ¬ fz_AM hM hd a) (hKX : va_K D vwCl (fz_tX d1 d2 d3) s) (hKM : va_K D vwCl (fz_tM dd) s) {j : Nat} (hj : 3 * j + 3 ≤ L) (k405 : ∀ (H : Heap) (locs : List Loc) (ls : Array Slot), lw_I D h h1 h2 h3 d1 d2 d3 hM hd dd b s j H locs ls → W P l e room_1 s m #[Value.ref b] below meth c H locs 6 275 (lw_Z below #[Value.ref b] s) (F0 m 405 ls [])) : ∀ (H : Heap) (locs : List Loc) (ls : Array Slot), lw_I D h h1 h2 h3 d1 d2 d3 hM hd dd b s j H locs ls → W P l e room_1 s m #[Value.ref b] below meth c H locs 6 275 (lw_Z below #[Value.ref b] s) (F0 m 181 ls []) := by
  intro H locs ls hI
  obtain ⟨q, p, k, f1, f2, f3, f, hm, hT, hPX, hPM, hS, hl⟩ := hI
  refine lv_aload_n hx hb dL_law_181 rfl (lv_at hl 2 rfl) ?_
  refine lv_aload_n hx hb dL_law_182 rfl (lv_at hl 3 rfl) ?_
  refine lv_iload_n hx hb dL_law_183 rfl (lv_at hl 0 rfl) ?_
  refine lv_iconst (v := nI 1) hx hb dL_law_184 (by decide) ?_
  refine nv_iadd hx hb dL_law_185 ?_
  refine fz_sld hx hb hXs hbl hS (by omega) hL dL_law_186 ?_
  refine fz_callX (As := [.int (xs (3 * j + 1))]) (rest := []) ⟨hx, hb, hml, hown, hts⟩ (mX0_invert l hm hT (xs (3 * j + 1))) (cwV 1 hts (lw_V q84 q85 q86 q18 q87) rfl rfl rfl cd_X0_invert ⟨Nat.le_of_ble_eq_true rfl, Nat.le_of_ble_eq_true rfl⟩) hPX hKX rfl hl.1 rfl (Nat.le_of_ble_eq_true rfl) dL_law_187 ⟨Nat.le_of_ble_eq_true rfl, Nat.le_of_ble_eq_true rfl⟩ (fun r_ hr_ => ?_)
  have hr_ : r_ = fz_Ainv q (xs (3 * j + 1)) := hr_
  subst hr_
  refine lv_aload_n hx hb dL_law_190 rfl (lv_at hl 1 rfl) ?_
  refine lv_aload_n hx hb dL_law_191 rfl (lv_at hl 3 rfl) ?_
  refine lv_iload_n hx hb dL_law_192 rfl (lv_at hl 0 rfl) ?_
  refine lv_iconst (v := nI 1) hx hb dL_law_193 (by decide) ?_
  refine nv_iadd hx hb dL_law_194 ?_
  refine fz_sld hx hb hXs hbl hS (by omega) hL dL_law_195 ?_
  refine fz_callMm (As := [.int (xs (3 * j + 1))]) (rest := [.int (fz_Ainv q (xs (3 * j + 1)))]) ⟨hx, hb, hml, hown, hts⟩ (mX1_invert l hneM hm (xs (3 * j + 1))) (cwV 1 hts (lw_V q190 q191 q192 q19 q193) rfl rfl rfl cd_X1_invert ⟨Nat.le_of_ble_eq_true rfl, Nat.le_of_ble_eq_true rfl⟩) hPM hKM hS hAM rfl hl.1 rfl (Nat.le_of_ble_eq_true rfl) dL_law_196 ⟨Nat.le_of_ble_eq_true rfl, Nat.le_of_ble_eq_true rfl⟩ (fun r_ g H1 locs1 hr_ hP1 hk1 hS1 => ?_)
  have hr_ : r_ = fz_Ainv q (xs (3 * j + 1)) := hr_
  subst hr_
  have hPX := fz_keepX hPX (fun a z _ => hsep a z) hk1
  have hPM := hP1
  have hS := hS1
  refine lv_icmp_eq (tgt := 405) hx hb dL_law_199 (by decide) (fun _ => ?_) (fun c_ => False.elim ((fun z => z rfl) c_))
  exact k405 _ _ ls ⟨q, p, k, f1, f2, f3, g, hm, hT, hPX, hPM, hS, hl⟩
set_option maxHeartbeats 4000000 in
set_option maxRecDepth 100000 in
theorem law_c4 {P : Program} {l : Launch} {e : Env} {s : State} {m : MethodId} {below : List Frame} {meth : Method} {c : Code} {b L : Nat} {xs : Nat → Int32} {D : va_G} {h h1 h2 h3 hM hd : Nat} {d1 d2 d3 dd : ClassId} (hL : L ≤ 192) (hx : P.tables.exec = Jvm.exec) (hb : c.code = code) (hml : c.maxLocals = 4) (hown : s.vm.findClass R_law = some m.cls) (hts : ∀ w ∈ lw_all, w.before #[Value.ref b] s = true) (hXs : va_X b L xs s s.heap) (hbl : b < s.heap.size) (hne : fz_nX h h1 h2 h3) (hneM : hM ≠ hd) (hAX : ∀ a, fz_AX h h1 h2 h3 a → s.heap.size ≤ a) (hAM : ∀ a, fz_AM hM hd a → s.heap.size ≤ a) (hsep : ∀ a, fz_AX h h1 h2 h3 a → ¬ fz_AM hM hd a) (hKX : va_K D vwCl (fz_tX d1 d2 d3) s) (hKM : va_K D vwCl (fz_tM dd) s) {j : Nat} (hj : 3 * j + 3 ≤ L) (k405 : ∀ (H : Heap) (locs : List Loc) (ls : Array Slot), lw_I D h h1 h2 h3 d1 d2 d3 hM hd dd b s j H locs ls → W P l e room_1 s m #[Value.ref b] below meth c H locs 6 275 (lw_Z below #[Value.ref b] s) (F0 m 405 ls [])) : ∀ (H : Heap) (locs : List Loc) (ls : Array Slot), lw_I D h h1 h2 h3 d1 d2 d3 hM hd dd b s j H locs ls → W P l e room_1 s m #[Value.ref b] below meth c H locs 6 275 (lw_Z below #[Value.ref b] s) (F0 m 204 ls []) := by
  intro H locs ls hI
  obtain ⟨q, p, k, f1, f2, f3, f, hm, hT, hPX, hPM, hS, hl⟩ := hI
  refine lv_aload_n hx hb dL_law_204 rfl (lv_at hl 2 rfl) ?_
  refine lv_aload_n hx hb dL_law_205 rfl (lv_at hl 3 rfl) ?_
  refine lv_iload_n hx hb dL_law_206 rfl (lv_at hl 0 rfl) ?_
  refine lv_iconst (v := nI 1) hx hb dL_law_207 (by decide) ?_
  refine nv_iadd hx hb dL_law_208 ?_
  refine fz_sld hx hb hXs hbl hS (by omega) hL dL_law_209 ?_
  refine lv_aload_n hx hb dL_law_210 rfl (lv_at hl 3 rfl) ?_
  refine lv_iload_n hx hb dL_law_211 rfl (lv_at hl 0 rfl) ?_
  refine lv_iconst (v := nI 2) hx hb dL_law_212 (by decide) ?_
  refine nv_iadd hx hb dL_law_213 ?_
  refine fz_sld hx hb hXs hbl hS (by omega) hL dL_law_214 ?_
  refine fz_callX (As := [.int (xs (3 * j + 1)), .int (xs (3 * j + 2))]) (rest := []) ⟨hx, hb, hml, hown, hts⟩ (mX0_power l hm hT (xs (3 * j + 1)) (xs (3 * j + 2))) (cwV 2 hts (lw_V q88 q89 q90 q18 q91) rfl rfl rfl cd_X0_power ⟨Nat.le_of_ble_eq_true rfl, Nat.le_of_ble_eq_true rfl⟩) hPX hKX rfl hl.1 rfl (Nat.le_of_ble_eq_true rfl) dL_law_215 ⟨Nat.le_of_ble_eq_true rfl, Nat.le_of_ble_eq_true rfl⟩ (fun r_ hr_ => ?_)
  have hr_ : r_ = fz_Apow q (xs (3 * j + 1)) (xs (3 * j + 2)) := hr_
  subst hr_
  refine lv_aload_n hx hb dL_law_218 rfl (lv_at hl 1 rfl) ?_
  refine lv_aload_n hx hb dL_law_219 rfl (lv_at hl 3 rfl) ?_
  refine lv_iload_n hx hb dL_law_220 rfl (lv_at hl 0 rfl) ?_
  refine lv_iconst (v := nI 1) hx hb dL_law_221 (by decide) ?_
  refine nv_iadd hx hb dL_law_222 ?_
  refine fz_sld hx hb hXs hbl hS (by omega) hL dL_law_223 ?_
  refine lv_aload_n hx hb dL_law_224 rfl (lv_at hl 3 rfl) ?_
  refine lv_iload_n hx hb dL_law_225 rfl (lv_at hl 0 rfl) ?_
  refine lv_iconst (v := nI 2) hx hb dL_law_226 (by decide) ?_
  refine nv_iadd hx hb dL_law_227 ?_
  refine fz_sld hx hb hXs hbl hS (by omega) hL dL_law_228 ?_
  refine fz_callMm (As := [.int (xs (3 * j + 1)), .int (xs (3 * j + 2))]) (rest := [.int (fz_Apow q (xs (3 * j + 1)) (xs (3 * j + 2)))]) ⟨hx, hb, hml, hown, hts⟩ (mX1_power l hneM hm (xs (3 * j + 1)) (xs (3 * j + 2))) (cwV 2 hts (lw_V q194 q195 q196 q19 q197) rfl rfl rfl cd_X1_power ⟨Nat.le_of_ble_eq_true rfl, Nat.le_of_ble_eq_true rfl⟩) hPM hKM hS hAM rfl hl.1 rfl (Nat.le_of_ble_eq_true rfl) dL_law_229 ⟨Nat.le_of_ble_eq_true rfl, Nat.le_of_ble_eq_true rfl⟩ (fun r_ g H1 locs1 hr_ hP1 hk1 hS1 => ?_)
  have hr_ : r_ = fz_Apow q (xs (3 * j + 1)) (xs (3 * j + 2)) := hr_
  subst hr_
  have hPX := fz_keepX hPX (fun a z _ => hsep a z) hk1
  have hPM := hP1
  have hS := hS1
  refine lv_icmp_eq (tgt := 405) hx hb dL_law_232 (by decide) (fun _ => ?_) (fun c_ => False.elim ((fun z => z rfl) c_))
  exact k405 _ _ ls ⟨q, p, k, f1, f2, f3, g, hm, hT, hPX, hPM, hS, hl⟩
set_option maxHeartbeats 4000000 in
set_option maxRecDepth 100000 in
theorem law_c5 {P : Program} {l : Launch} {e : Env} {s : State} {m : MethodId} {below : List Frame} {meth : Method} {c : Code} {b L : Nat} {xs : Nat → Int32} {D : va_G} {h h1 h2 h3 hM hd : Nat} {d1 d2 d3 dd : ClassId} (hL : L ≤ 192) (hx : P.tables.exec = Jvm.exec) (hb : c.code = code) (hml : c.maxLocals = 4) (hown : s.vm.findClass R_law = some m.cls) (hts : ∀ w ∈ lw_all, w.before #[Value.ref b] s = true) (hXs : va_X b L xs s s.heap) (hbl : b < s.heap.size) (hne : fz_nX h h1 h2 h3) (hneM : hM ≠ hd) (hAX : ∀ a, fz_AX h h1 h2 h3 a → s.heap.size ≤ a) (hAM : ∀ a, fz_AM hM hd a → s.heap.size ≤ a) (hsep : ∀ a, fz_AX h h1 h2 h3 a → ¬ fz_AM hM hd a) (hKX : va_K D vwCl (fz_tX d1 d2 d3) s) (hKM : va_K D vwCl (fz_tM dd) s) {j : Nat} (hj : 3 * j + 3 ≤ L) (k405 : ∀ (H : Heap) (locs : List Loc) (ls : Array Slot), lw_I D h h1 h2 h3 d1 d2 d3 hM hd dd b s j H locs ls → W P l e room_1 s m #[Value.ref b] below meth c H locs 6 275 (lw_Z below #[Value.ref b] s) (F0 m 405 ls [])) : ∀ (H : Heap) (locs : List Loc) (ls : Array Slot), lw_I D h h1 h2 h3 d1 d2 d3 hM hd dd b s j H locs ls → W P l e room_1 s m #[Value.ref b] below meth c H locs 6 275 (lw_Z below #[Value.ref b] s) (F0 m 237 ls []) := by
  intro H locs ls hI
  obtain ⟨q, p, k, f1, f2, f3, f, hm, hT, hPX, hPM, hS, hl⟩ := hI
  refine lv_aload_n hx hb dL_law_237 rfl (lv_at hl 2 rfl) ?_
  refine lv_aload_n hx hb dL_law_238 rfl (lv_at hl 3 rfl) ?_
  refine lv_iload_n hx hb dL_law_239 rfl (lv_at hl 0 rfl) ?_
  refine lv_iconst (v := nI 1) hx hb dL_law_240 (by decide) ?_
  refine nv_iadd hx hb dL_law_241 ?_
  refine fz_sld hx hb hXs hbl hS (by omega) hL dL_law_242 ?_
  refine fz_callX (As := [.int (xs (3 * j + 1))]) (rest := []) ⟨hx, hb, hml, hown, hts⟩ (mX0_order l hm hT (xs (3 * j + 1))) (cwV 1 hts (lw_V q97 q98 q99 q18 q100) rfl rfl rfl cd_X0_order ⟨Nat.le_of_ble_eq_true rfl, Nat.le_of_ble_eq_true rfl⟩) hPX hKX rfl hl.1 rfl (Nat.le_of_ble_eq_true rfl) dL_law_243 ⟨Nat.le_of_ble_eq_true rfl, Nat.le_of_ble_eq_true rfl⟩ (fun r_ hr_ => ?_)
  have hr_ : r_ = fz_Aord q (xs (3 * j + 1)) := hr_
  subst hr_
  refine lv_aload_n hx hb dL_law_246 rfl (lv_at hl 1 rfl) ?_
  refine lv_aload_n hx hb dL_law_247 rfl (lv_at hl 3 rfl) ?_
  refine lv_iload_n hx hb dL_law_248 rfl (lv_at hl 0 rfl) ?_
  refine lv_iconst (v := nI 1) hx hb dL_law_249 (by decide) ?_
  refine nv_iadd hx hb dL_law_250 ?_
  refine fz_sld hx hb hXs hbl hS (by omega) hL dL_law_251 ?_
  refine fz_callMm (As := [.int (xs (3 * j + 1))]) (rest := [.int (fz_Aord q (xs (3 * j + 1)))]) ⟨hx, hb, hml, hown, hts⟩ (mX1_order l hneM hm (xs (3 * j + 1))) (cwV 1 hts (lw_V q203 q204 q205 q19 q206) rfl rfl rfl cd_X1_order ⟨Nat.le_of_ble_eq_true rfl, Nat.le_of_ble_eq_true rfl⟩) hPM hKM hS hAM rfl hl.1 rfl (Nat.le_of_ble_eq_true rfl) dL_law_252 ⟨Nat.le_of_ble_eq_true rfl, Nat.le_of_ble_eq_true rfl⟩ (fun r_ g H1 locs1 hr_ hP1 hk1 hS1 => ?_)
  have hr_ : r_ = fz_Aord q (xs (3 * j + 1)) := hr_
  subst hr_
  have hPX := fz_keepX hPX (fun a z _ => hsep a z) hk1
  have hPM := hP1
  have hS := hS1
  refine lv_icmp_eq (tgt := 405) hx hb dL_law_255 (by decide) (fun _ => ?_) (fun c_ => False.elim ((fun z => z rfl) c_))
  exact k405 _ _ ls ⟨q, p, k, f1, f2, f3, g, hm, hT, hPX, hPM, hS, hl⟩
set_option maxHeartbeats 4000000 in
set_option maxRecDepth 100000 in
theorem law_c6 {P : Program} {l : Launch} {e : Env} {s : State} {m : MethodId} {below : List Frame} {meth : Method} {c : Code} {b L : Nat} {xs : Nat → Int32} {D : va_G} {h h1 h2 h3 hM hd : Nat} {d1 d2 d3 dd : ClassId} (hL : L ≤ 192) (hx : P.tables.exec = Jvm.exec) (hb : c.code = code) (hml : c.maxLocals = 4) (hown : s.vm.findClass R_law = some m.cls) (hts : ∀ w ∈ lw_all, w.before #[Value.ref b] s = true) (hXs : va_X b L xs s s.heap) (hbl : b < s.heap.size) (hne : fz_nX h h1 h2 h3) (hneM : hM ≠ hd) (hAX : ∀ a, fz_AX h h1 h2 h3 a → s.heap.size ≤ a) (hAM : ∀ a, fz_AM hM hd a → s.heap.size ≤ a) (hsep : ∀ a, fz_AX h h1 h2 h3 a → ¬ fz_AM hM hd a) (hKX : va_K D vwCl (fz_tX d1 d2 d3) s) (hKM : va_K D vwCl (fz_tM dd) s) {j : Nat} (hj : 3 * j + 3 ≤ L) (k405 : ∀ (H : Heap) (locs : List Loc) (ls : Array Slot), lw_I D h h1 h2 h3 d1 d2 d3 hM hd dd b s j H locs ls → W P l e room_1 s m #[Value.ref b] below meth c H locs 6 275 (lw_Z below #[Value.ref b] s) (F0 m 405 ls [])) : ∀ (H : Heap) (locs : List Loc) (ls : Array Slot), lw_I D h h1 h2 h3 d1 d2 d3 hM hd dd b s j H locs ls → W P l e room_1 s m #[Value.ref b] below meth c H locs 6 275 (lw_Z below #[Value.ref b] s) (F0 m 260 ls []) := by
  intro H locs ls hI
  obtain ⟨q, p, k, f1, f2, f3, f, hm, hT, hPX, hPM, hS, hl⟩ := hI
  refine lv_aload_n hx hb dL_law_260 rfl (lv_at hl 2 rfl) ?_
  refine lv_aload_n hx hb dL_law_261 rfl (lv_at hl 3 rfl) ?_
  refine lv_iload_n hx hb dL_law_262 rfl (lv_at hl 0 rfl) ?_
  refine lv_iconst (v := nI 1) hx hb dL_law_263 (by decide) ?_
  refine nv_iadd hx hb dL_law_264 ?_
  refine fz_sld hx hb hXs hbl hS (by omega) hL dL_law_265 ?_
  refine fz_callX (As := [.int (xs (3 * j + 1))]) (rest := []) ⟨hx, hb, hml, hown, hts⟩ (mX0_root l hm hT (xs (3 * j + 1))) (cwV 1 hts (lw_V q104 q105 q106 q18 q107) rfl rfl rfl cd_X0_root ⟨Nat.le_of_ble_eq_true rfl, Nat.le_of_ble_eq_true rfl⟩) hPX hKX rfl hl.1 rfl (Nat.le_of_ble_eq_true rfl) dL_law_266 ⟨Nat.le_of_ble_eq_true rfl, Nat.le_of_ble_eq_true rfl⟩ (fun r_ hr_ => ?_)
  have hr_ : r_ = fz_Aroot q (xs (3 * j + 1)) := hr_
  subst hr_
  refine lv_aload_n hx hb dL_law_269 rfl (lv_at hl 1 rfl) ?_
  refine lv_aload_n hx hb dL_law_270 rfl (lv_at hl 3 rfl) ?_
  refine lv_iload_n hx hb dL_law_271 rfl (lv_at hl 0 rfl) ?_
  refine lv_iconst (v := nI 1) hx hb dL_law_272 (by decide) ?_
  refine nv_iadd hx hb dL_law_273 ?_
  refine fz_sld hx hb hXs hbl hS (by omega) hL dL_law_274 ?_
  refine fz_callMm (As := [.int (xs (3 * j + 1))]) (rest := [.int (fz_Aroot q (xs (3 * j + 1)))]) ⟨hx, hb, hml, hown, hts⟩ (mX1_root l hneM hm (xs (3 * j + 1))) (cwV 1 hts (lw_V q207 q208 q209 q19 q210) rfl rfl rfl cd_X1_root ⟨Nat.le_of_ble_eq_true rfl, Nat.le_of_ble_eq_true rfl⟩) hPM hKM hS hAM rfl hl.1 rfl (Nat.le_of_ble_eq_true rfl) dL_law_275 ⟨Nat.le_of_ble_eq_true rfl, Nat.le_of_ble_eq_true rfl⟩ (fun r_ g H1 locs1 hr_ hP1 hk1 hS1 => ?_)
  have hr_ : r_ = fz_Aroot q (xs (3 * j + 1)) := hr_
  subst hr_
  have hPX := fz_keepX hPX (fun a z _ => hsep a z) hk1
  have hPM := hP1
  have hS := hS1
  refine lv_icmp_eq (tgt := 405) hx hb dL_law_278 (by decide) (fun _ => ?_) (fun c_ => False.elim ((fun z => z rfl) c_))
  exact k405 _ _ ls ⟨q, p, k, f1, f2, f3, g, hm, hT, hPX, hPM, hS, hl⟩
set_option maxHeartbeats 4000000 in
set_option maxRecDepth 100000 in
theorem law_c7 {P : Program} {l : Launch} {e : Env} {s : State} {m : MethodId} {below : List Frame} {meth : Method} {c : Code} {b L : Nat} {xs : Nat → Int32} {D : va_G} {h h1 h2 h3 hM hd : Nat} {d1 d2 d3 dd : ClassId} (hL : L ≤ 192) (hx : P.tables.exec = Jvm.exec) (hb : c.code = code) (hml : c.maxLocals = 4) (hown : s.vm.findClass R_law = some m.cls) (hts : ∀ w ∈ lw_all, w.before #[Value.ref b] s = true) (hXs : va_X b L xs s s.heap) (hbl : b < s.heap.size) (hne : fz_nX h h1 h2 h3) (hneM : hM ≠ hd) (hAX : ∀ a, fz_AX h h1 h2 h3 a → s.heap.size ≤ a) (hAM : ∀ a, fz_AM hM hd a → s.heap.size ≤ a) (hsep : ∀ a, fz_AX h h1 h2 h3 a → ¬ fz_AM hM hd a) (hKX : va_K D vwCl (fz_tX d1 d2 d3) s) (hKM : va_K D vwCl (fz_tM dd) s) {j : Nat} (hj : 3 * j + 3 ≤ L) (k405 : ∀ (H : Heap) (locs : List Loc) (ls : Array Slot), lw_I D h h1 h2 h3 d1 d2 d3 hM hd dd b s j H locs ls → W P l e room_1 s m #[Value.ref b] below meth c H locs 6 275 (lw_Z below #[Value.ref b] s) (F0 m 405 ls [])) : ∀ (H : Heap) (locs : List Loc) (ls : Array Slot), lw_I D h h1 h2 h3 d1 d2 d3 hM hd dd b s j H locs ls → W P l e room_1 s m #[Value.ref b] below meth c H locs 6 275 (lw_Z below #[Value.ref b] s) (F0 m 283 ls []) := by
  intro H locs ls hI
  obtain ⟨q, p, k, f1, f2, f3, f, hm, hT, hPX, hPM, hS, hl⟩ := hI
  refine lv_aload_n hx hb dL_law_283 rfl (lv_at hl 2 rfl) ?_
  refine lv_aload_n hx hb dL_law_284 rfl (lv_at hl 3 rfl) ?_
  refine lv_iload_n hx hb dL_law_285 rfl (lv_at hl 0 rfl) ?_
  refine lv_iconst (v := nI 1) hx hb dL_law_286 (by decide) ?_
  refine nv_iadd hx hb dL_law_287 ?_
  refine fz_sld hx hb hXs hbl hS (by omega) hL dL_law_288 ?_
  refine lv_aload_n hx hb dL_law_289 rfl (lv_at hl 3 rfl) ?_
  refine lv_iload_n hx hb dL_law_290 rfl (lv_at hl 0 rfl) ?_
  refine lv_iconst (v := nI 2) hx hb dL_law_291 (by decide) ?_
  refine nv_iadd hx hb dL_law_292 ?_
  refine fz_sld hx hb hXs hbl hS (by omega) hL dL_law_293 ?_
  refine fz_callX (As := [.int (xs (3 * j + 1)), .int (xs (3 * j + 2))]) (rest := []) ⟨hx, hb, hml, hown, hts⟩ (mX0_roots l hm hT (xs (3 * j + 1)) (xs (3 * j + 2))) (cwV 2 hts (lw_V q108 q109 q110 q18 q111) rfl rfl rfl cd_X0_roots ⟨Nat.le_of_ble_eq_true rfl, Nat.le_of_ble_eq_true rfl⟩) hPX hKX rfl hl.1 rfl (Nat.le_of_ble_eq_true rfl) dL_law_294 ⟨Nat.le_of_ble_eq_true rfl, Nat.le_of_ble_eq_true rfl⟩ (fun r_ hr_ => ?_)
  have hr_ : r_ = fz_Arts q (xs (3 * j + 1)) (xs (3 * j + 2)) := hr_
  subst hr_
  refine lv_aload_n hx hb dL_law_297 rfl (lv_at hl 1 rfl) ?_
  refine lv_aload_n hx hb dL_law_298 rfl (lv_at hl 3 rfl) ?_
  refine lv_iload_n hx hb dL_law_299 rfl (lv_at hl 0 rfl) ?_
  refine lv_iconst (v := nI 1) hx hb dL_law_300 (by decide) ?_
  refine nv_iadd hx hb dL_law_301 ?_
  refine fz_sld hx hb hXs hbl hS (by omega) hL dL_law_302 ?_
  refine lv_aload_n hx hb dL_law_303 rfl (lv_at hl 3 rfl) ?_
  refine lv_iload_n hx hb dL_law_304 rfl (lv_at hl 0 rfl) ?_
  refine lv_iconst (v := nI 2) hx hb dL_law_305 (by decide) ?_
  refine nv_iadd hx hb dL_law_306 ?_
  refine fz_sld hx hb hXs hbl hS (by omega) hL dL_law_307 ?_
  refine fz_callMm (As := [.int (xs (3 * j + 1)), .int (xs (3 * j + 2))]) (rest := [.int (fz_Arts q (xs (3 * j + 1)) (xs (3 * j + 2)))]) ⟨hx, hb, hml, hown, hts⟩ (mX1_roots l hneM hm (xs (3 * j + 1)) (xs (3 * j + 2))) (cwV 2 hts (lw_V q211 q212 q213 q19 q214) rfl rfl rfl cd_X1_roots ⟨Nat.le_of_ble_eq_true rfl, Nat.le_of_ble_eq_true rfl⟩) hPM hKM hS hAM rfl hl.1 rfl (Nat.le_of_ble_eq_true rfl) dL_law_308 ⟨Nat.le_of_ble_eq_true rfl, Nat.le_of_ble_eq_true rfl⟩ (fun r_ g H1 locs1 hr_ hP1 hk1 hS1 => ?_)
  have hr_ : r_ = fz_Arts q (xs (3 * j + 1)) (xs (3 * j + 2)) := hr_
  subst hr_
  have hPX := fz_keepX hPX (fun a z _ => hsep a z) hk1
  have hPM := hP1
  have hS := hS1
  refine lv_icmp_eq (tgt := 405) hx hb dL_law_311 (by decide) (fun _ => ?_) (fun c_ => False.elim ((fun z => z rfl) c_))
  exact k405 _ _ ls ⟨q, p, k, f1, f2, f3, g, hm, hT, hPX, hPM, hS, hl⟩
set_option maxHeartbeats 4000000 in
set_option maxRecDepth 100000 in
theorem law_c8 {P : Program} {l : Launch} {e : Env} {s : State} {m : MethodId} {below : List Frame} {meth : Method} {c : Code} {b L : Nat} {xs : Nat → Int32} {D : va_G} {h h1 h2 h3 hM hd : Nat} {d1 d2 d3 dd : ClassId} (hL : L ≤ 192) (hx : P.tables.exec = Jvm.exec) (hb : c.code = code) (hml : c.maxLocals = 4) (hown : s.vm.findClass R_law = some m.cls) (hts : ∀ w ∈ lw_all, w.before #[Value.ref b] s = true) (hXs : va_X b L xs s s.heap) (hbl : b < s.heap.size) (hne : fz_nX h h1 h2 h3) (hneM : hM ≠ hd) (hAX : ∀ a, fz_AX h h1 h2 h3 a → s.heap.size ≤ a) (hAM : ∀ a, fz_AM hM hd a → s.heap.size ≤ a) (hsep : ∀ a, fz_AX h h1 h2 h3 a → ¬ fz_AM hM hd a) (hKX : va_K D vwCl (fz_tX d1 d2 d3) s) (hKM : va_K D vwCl (fz_tM dd) s) {j : Nat} (hj : 3 * j + 3 ≤ L) (k405 : ∀ (H : Heap) (locs : List Loc) (ls : Array Slot), lw_I D h h1 h2 h3 d1 d2 d3 hM hd dd b s j H locs ls → W P l e room_1 s m #[Value.ref b] below meth c H locs 6 275 (lw_Z below #[Value.ref b] s) (F0 m 405 ls [])) : ∀ (H : Heap) (locs : List Loc) (ls : Array Slot), lw_I D h h1 h2 h3 d1 d2 d3 hM hd dd b s j H locs ls → W P l e room_1 s m #[Value.ref b] below meth c H locs 6 275 (lw_Z below #[Value.ref b] s) (F0 m 316 ls []) := by
  intro H locs ls hI
  obtain ⟨q, p, k, f1, f2, f3, f, hm, hT, hPX, hPM, hS, hl⟩ := hI
  refine lv_aload_n hx hb dL_law_316 rfl (lv_at hl 2 rfl) ?_
  refine lv_aload_n hx hb dL_law_317 rfl (lv_at hl 3 rfl) ?_
  refine lv_iload_n hx hb dL_law_318 rfl (lv_at hl 0 rfl) ?_
  refine lv_iconst (v := nI 1) hx hb dL_law_319 (by decide) ?_
  refine nv_iadd hx hb dL_law_320 ?_
  refine fz_sld hx hb hXs hbl hS (by omega) hL dL_law_321 ?_
  refine lv_aload_n hx hb dL_law_322 rfl (lv_at hl 3 rfl) ?_
  refine lv_iload_n hx hb dL_law_323 rfl (lv_at hl 0 rfl) ?_
  refine lv_iconst (v := nI 2) hx hb dL_law_324 (by decide) ?_
  refine nv_iadd hx hb dL_law_325 ?_
  refine fz_sld hx hb hXs hbl hS (by omega) hL dL_law_326 ?_
  refine fz_callX (As := [.int (xs (3 * j + 1)), .int (xs (3 * j + 2))]) (rest := []) ⟨hx, hb, hml, hown, hts⟩ (mX0_trace l hm hT (xs (3 * j + 1)) (xs (3 * j + 2))) (cwV 2 hts (lw_V q112 q113 q114 q18 q115) rfl rfl rfl cd_X0_trace ⟨Nat.le_of_ble_eq_true rfl, Nat.le_of_ble_eq_true rfl⟩) hPX hKX rfl hl.1 rfl (Nat.le_of_ble_eq_true rfl) dL_law_327 ⟨Nat.le_of_ble_eq_true rfl, Nat.le_of_ble_eq_true rfl⟩ (fun r_ hr_ => ?_)
  have hr_ : r_ = fz_Atr q p k (xs (3 * j + 1)) (xs (3 * j + 2)) := hr_
  subst hr_
  refine lv_aload_n hx hb dL_law_330 rfl (lv_at hl 1 rfl) ?_
  refine lv_aload_n hx hb dL_law_331 rfl (lv_at hl 3 rfl) ?_
  refine lv_iload_n hx hb dL_law_332 rfl (lv_at hl 0 rfl) ?_
  refine lv_iconst (v := nI 1) hx hb dL_law_333 (by decide) ?_
  refine nv_iadd hx hb dL_law_334 ?_
  refine fz_sld hx hb hXs hbl hS (by omega) hL dL_law_335 ?_
  refine lv_aload_n hx hb dL_law_336 rfl (lv_at hl 3 rfl) ?_
  refine lv_iload_n hx hb dL_law_337 rfl (lv_at hl 0 rfl) ?_
  refine lv_iconst (v := nI 2) hx hb dL_law_338 (by decide) ?_
  refine nv_iadd hx hb dL_law_339 ?_
  refine fz_sld hx hb hXs hbl hS (by omega) hL dL_law_340 ?_
  refine fz_callMm (As := [.int (xs (3 * j + 1)), .int (xs (3 * j + 2))]) (rest := [.int (fz_Atr q p k (xs (3 * j + 1)) (xs (3 * j + 2)))]) ⟨hx, hb, hml, hown, hts⟩ (mX1_trace l hneM hm (xs (3 * j + 1)) (xs (3 * j + 2))) (cwV 2 hts (lw_V q215 q216 q217 q19 q218) rfl rfl rfl cd_X1_trace ⟨Nat.le_of_ble_eq_true rfl, Nat.le_of_ble_eq_true rfl⟩) hPM hKM hS hAM rfl hl.1 rfl (Nat.le_of_ble_eq_true rfl) dL_law_341 ⟨Nat.le_of_ble_eq_true rfl, Nat.le_of_ble_eq_true rfl⟩ (fun r_ g H1 locs1 hr_ hP1 hk1 hS1 => ?_)
  have hr_ : r_ = fz_Atr q p k (xs (3 * j + 1)) (xs (3 * j + 2)) := hr_
  subst hr_
  have hPX := fz_keepX hPX (fun a z _ => hsep a z) hk1
  have hPM := hP1
  have hS := hS1
  refine lv_icmp_eq (tgt := 405) hx hb dL_law_344 (by decide) (fun _ => ?_) (fun c_ => False.elim ((fun z => z rfl) c_))
  exact k405 _ _ ls ⟨q, p, k, f1, f2, f3, g, hm, hT, hPX, hPM, hS, hl⟩
set_option maxHeartbeats 4000000 in
set_option maxRecDepth 100000 in
theorem law_c9 {P : Program} {l : Launch} {e : Env} {s : State} {m : MethodId} {below : List Frame} {meth : Method} {c : Code} {b L : Nat} {xs : Nat → Int32} {D : va_G} {h h1 h2 h3 hM hd : Nat} {d1 d2 d3 dd : ClassId} (hL : L ≤ 192) (hx : P.tables.exec = Jvm.exec) (hb : c.code = code) (hml : c.maxLocals = 4) (hown : s.vm.findClass R_law = some m.cls) (hts : ∀ w ∈ lw_all, w.before #[Value.ref b] s = true) (hXs : va_X b L xs s s.heap) (hbl : b < s.heap.size) (hne : fz_nX h h1 h2 h3) (hneM : hM ≠ hd) (hAX : ∀ a, fz_AX h h1 h2 h3 a → s.heap.size ≤ a) (hAM : ∀ a, fz_AM hM hd a → s.heap.size ≤ a) (hsep : ∀ a, fz_AX h h1 h2 h3 a → ¬ fz_AM hM hd a) (hKX : va_K D vwCl (fz_tX d1 d2 d3) s) (hKM : va_K D vwCl (fz_tM dd) s) {j : Nat} (hj : 3 * j + 3 ≤ L) (k405 : ∀ (H : Heap) (locs : List Loc) (ls : Array Slot), lw_I D h h1 h2 h3 d1 d2 d3 hM hd dd b s j H locs ls → W P l e room_1 s m #[Value.ref b] below meth c H locs 6 275 (lw_Z below #[Value.ref b] s) (F0 m 405 ls [])) : ∀ (H : Heap) (locs : List Loc) (ls : Array Slot), lw_I D h h1 h2 h3 d1 d2 d3 hM hd dd b s j H locs ls → W P l e room_1 s m #[Value.ref b] below meth c H locs 6 275 (lw_Z below #[Value.ref b] s) (F0 m 349 ls []) := by
  intro H locs ls hI
  obtain ⟨q, p, k, f1, f2, f3, f, hm, hT, hPX, hPM, hS, hl⟩ := hI
  refine lv_aload_n hx hb dL_law_349 rfl (lv_at hl 2 rfl) ?_
  refine lv_aload_n hx hb dL_law_350 rfl (lv_at hl 3 rfl) ?_
  refine lv_iload_n hx hb dL_law_351 rfl (lv_at hl 0 rfl) ?_
  refine lv_iconst (v := nI 1) hx hb dL_law_352 (by decide) ?_
  refine nv_iadd hx hb dL_law_353 ?_
  refine fz_sld hx hb hXs hbl hS (by omega) hL dL_law_354 ?_
  refine fz_callX (As := [.int (xs (3 * j + 1))]) (rest := []) ⟨hx, hb, hml, hown, hts⟩ (mX0_home l hm hT (xs (3 * j + 1))) (cwV 1 hts (lw_V q120 q121 q122 q18 q123) rfl rfl rfl cd_X0_home ⟨Nat.le_of_ble_eq_true rfl, Nat.le_of_ble_eq_true rfl⟩) hPX hKX rfl hl.1 rfl (Nat.le_of_ble_eq_true rfl) dL_law_355 ⟨Nat.le_of_ble_eq_true rfl, Nat.le_of_ble_eq_true rfl⟩ (fun r_ hr_ => ?_)
  have hr_ : r_ = fz_Ahm q (xs (3 * j + 1)) := hr_
  subst hr_
  refine lv_aload_n hx hb dL_law_358 rfl (lv_at hl 1 rfl) ?_
  refine lv_aload_n hx hb dL_law_359 rfl (lv_at hl 3 rfl) ?_
  refine lv_iload_n hx hb dL_law_360 rfl (lv_at hl 0 rfl) ?_
  refine lv_iconst (v := nI 1) hx hb dL_law_361 (by decide) ?_
  refine nv_iadd hx hb dL_law_362 ?_
  refine fz_sld hx hb hXs hbl hS (by omega) hL dL_law_363 ?_
  refine fz_callMm (As := [.int (xs (3 * j + 1))]) (rest := [.int (fz_Ahm q (xs (3 * j + 1)))]) ⟨hx, hb, hml, hown, hts⟩ (mX1_home l hneM hm (xs (3 * j + 1))) (cwV 1 hts (lw_V q223 q224 q225 q19 q226) rfl rfl rfl cd_X1_home ⟨Nat.le_of_ble_eq_true rfl, Nat.le_of_ble_eq_true rfl⟩) hPM hKM hS hAM rfl hl.1 rfl (Nat.le_of_ble_eq_true rfl) dL_law_364 ⟨Nat.le_of_ble_eq_true rfl, Nat.le_of_ble_eq_true rfl⟩ (fun r_ g H1 locs1 hr_ hP1 hk1 hS1 => ?_)
  have hr_ : r_ = fz_Ahm q (xs (3 * j + 1)) := hr_
  subst hr_
  have hPX := fz_keepX hPX (fun a z _ => hsep a z) hk1
  have hPM := hP1
  have hS := hS1
  refine lv_icmp_eq (tgt := 405) hx hb dL_law_367 (by decide) (fun _ => ?_) (fun c_ => False.elim ((fun z => z rfl) c_))
  exact k405 _ _ ls ⟨q, p, k, f1, f2, f3, g, hm, hT, hPX, hPM, hS, hl⟩
set_option maxHeartbeats 4000000 in
set_option maxRecDepth 100000 in
theorem law_c10 {P : Program} {l : Launch} {e : Env} {s : State} {m : MethodId} {below : List Frame} {meth : Method} {c : Code} {b L : Nat} {xs : Nat → Int32} {D : va_G} {h h1 h2 h3 hM hd : Nat} {d1 d2 d3 dd : ClassId} (hL : L ≤ 192) (hx : P.tables.exec = Jvm.exec) (hb : c.code = code) (hml : c.maxLocals = 4) (hown : s.vm.findClass R_law = some m.cls) (hts : ∀ w ∈ lw_all, w.before #[Value.ref b] s = true) (hXs : va_X b L xs s s.heap) (hbl : b < s.heap.size) (hne : fz_nX h h1 h2 h3) (hneM : hM ≠ hd) (hAX : ∀ a, fz_AX h h1 h2 h3 a → s.heap.size ≤ a) (hAM : ∀ a, fz_AM hM hd a → s.heap.size ≤ a) (hsep : ∀ a, fz_AX h h1 h2 h3 a → ¬ fz_AM hM hd a) (hKX : va_K D vwCl (fz_tX d1 d2 d3) s) (hKM : va_K D vwCl (fz_tM dd) s) {j : Nat} (hj : 3 * j + 3 ≤ L) (k405 : ∀ (H : Heap) (locs : List Loc) (ls : Array Slot), lw_I D h h1 h2 h3 d1 d2 d3 hM hd dd b s j H locs ls → W P l e room_1 s m #[Value.ref b] below meth c H locs 6 275 (lw_Z below #[Value.ref b] s) (F0 m 405 ls [])) : ∀ (H : Heap) (locs : List Loc) (ls : Array Slot), lw_I D h h1 h2 h3 d1 d2 d3 hM hd dd b s j H locs ls → W P l e room_1 s m #[Value.ref b] below meth c H locs 6 275 (lw_Z below #[Value.ref b] s) (F0 m 372 ls []) := by
  intro H locs ls hI
  obtain ⟨q, p, k, f1, f2, f3, f, hm, hT, hPX, hPM, hS, hl⟩ := hI
  refine lv_aload_n hx hb dL_law_372 rfl (lv_at hl 2 rfl) ?_
  refine lv_aload_n hx hb dL_law_373 rfl (lv_at hl 3 rfl) ?_
  refine lv_iload_n hx hb dL_law_374 rfl (lv_at hl 0 rfl) ?_
  refine lv_iconst (v := nI 1) hx hb dL_law_375 (by decide) ?_
  refine nv_iadd hx hb dL_law_376 ?_
  refine fz_sld hx hb hXs hbl hS (by omega) hL dL_law_377 ?_
  refine lv_aload_n hx hb dL_law_378 rfl (lv_at hl 3 rfl) ?_
  refine lv_iload_n hx hb dL_law_379 rfl (lv_at hl 0 rfl) ?_
  refine lv_iconst (v := nI 2) hx hb dL_law_380 (by decide) ?_
  refine nv_iadd hx hb dL_law_381 ?_
  refine fz_sld hx hb hXs hbl hS (by omega) hL dL_law_382 ?_
  refine fz_callX (As := [.int (xs (3 * j + 1)), .int (xs (3 * j + 2))]) (rest := []) ⟨hx, hb, hml, hown, hts⟩ (mX0_logarithm l hm hT (xs (3 * j + 1)) (xs (3 * j + 2))) (cwV 2 hts (lw_V q124 q125 q126 q18 q127) rfl rfl rfl cd_X0_logarithm ⟨Nat.le_of_ble_eq_true rfl, Nat.le_of_ble_eq_true rfl⟩) hPX hKX rfl hl.1 rfl (Nat.le_of_ble_eq_true rfl) dL_law_383 ⟨Nat.le_of_ble_eq_true rfl, Nat.le_of_ble_eq_true rfl⟩ (fun r_ hr_ => ?_)
  have hr_ : r_ = fz_Alog q (xs (3 * j + 1)) (xs (3 * j + 2)) := hr_
  subst hr_
  refine lv_aload_n hx hb dL_law_386 rfl (lv_at hl 1 rfl) ?_
  refine lv_aload_n hx hb dL_law_387 rfl (lv_at hl 3 rfl) ?_
  refine lv_iload_n hx hb dL_law_388 rfl (lv_at hl 0 rfl) ?_
  refine lv_iconst (v := nI 1) hx hb dL_law_389 (by decide) ?_
  refine nv_iadd hx hb dL_law_390 ?_
  refine fz_sld hx hb hXs hbl hS (by omega) hL dL_law_391 ?_
  refine lv_aload_n hx hb dL_law_392 rfl (lv_at hl 3 rfl) ?_
  refine lv_iload_n hx hb dL_law_393 rfl (lv_at hl 0 rfl) ?_
  refine lv_iconst (v := nI 2) hx hb dL_law_394 (by decide) ?_
  refine nv_iadd hx hb dL_law_395 ?_
  refine fz_sld hx hb hXs hbl hS (by omega) hL dL_law_396 ?_
  refine fz_callMm (As := [.int (xs (3 * j + 1)), .int (xs (3 * j + 2))]) (rest := [.int (fz_Alog q (xs (3 * j + 1)) (xs (3 * j + 2)))]) ⟨hx, hb, hml, hown, hts⟩ (mX1_logarithm l hneM hm (xs (3 * j + 1)) (xs (3 * j + 2))) (cwV 2 hts (lw_V q227 q228 q229 q19 q230) rfl rfl rfl cd_X1_logarithm ⟨Nat.le_of_ble_eq_true rfl, Nat.le_of_ble_eq_true rfl⟩) hPM hKM hS hAM rfl hl.1 rfl (Nat.le_of_ble_eq_true rfl) dL_law_397 ⟨Nat.le_of_ble_eq_true rfl, Nat.le_of_ble_eq_true rfl⟩ (fun r_ g H1 locs1 hr_ hP1 hk1 hS1 => ?_)
  have hr_ : r_ = fz_Alog q (xs (3 * j + 1)) (xs (3 * j + 2)) := hr_
  subst hr_
  have hPX := fz_keepX hPX (fun a z _ => hsep a z) hk1
  have hPM := hP1
  have hS := hS1
  refine lv_icmp_eq (tgt := 405) hx hb dL_law_400 (by decide) (fun _ => ?_) (fun c_ => False.elim ((fun z => z rfl) c_))
  exact k405 _ _ ls ⟨q, p, k, f1, f2, f3, g, hm, hT, hPX, hPM, hS, hl⟩
end
section
set_option maxHeartbeats 4000000 in
set_option maxRecDepth 100000 in
theorem law_loop {P : Program} {l : Launch} {e : Env} {s : State} {m : MethodId} {below : List Frame} {meth : Method} {c : Code} {b L : Nat} {xs : Nat → Int32} {D : va_G} {h h1 h2 h3 hM hd : Nat} {d1 d2 d3 dd : ClassId} (hL : L ≤ 192) (hx : P.tables.exec = Jvm.exec) (hb : c.code = code) (hml : c.maxLocals = 4) (hown : s.vm.findClass R_law = some m.cls) (hts : ∀ w ∈ lw_all, w.before #[Value.ref b] s = true) (hXs : va_X b L xs s s.heap) (hbl : b < s.heap.size) (hne : fz_nX h h1 h2 h3) (hneM : hM ≠ hd) (hAX : ∀ a, fz_AX h h1 h2 h3 a → s.heap.size ≤ a) (hAM : ∀ a, fz_AM hM hd a → s.heap.size ≤ a) (hsep : ∀ a, fz_AX h h1 h2 h3 a → ¬ fz_AM hM hd a) (hKX : va_K D vwCl (fz_tX d1 d2 d3) s) (hKM : va_K D vwCl (fz_tM dd) s) (hr : meth.sig.returnType = ret) (hlocks : meth.locks = false) : ∀ (H : Heap) (locs : List Loc) (ls : Array Slot), lw_I D h h1 h2 h3 d1 d2 d3 hM hd dd b s 0 H locs ls → W P l e room_1 s m #[Value.ref b] below meth c H locs 6 275 (lw_Z below #[Value.ref b] s) (F0 m 18 ls []) := by
  intro H locs ls hI
  refine fz_loopH (G := Unit) (L / 3) (fun j _ H locs ls => lw_I D h h1 h2 h3 d1 d2 d3 hM hd dd b s j H locs ls) (fun _ H locs ls hI => ?_) (fun j hj ih _ H locs ls hI => ?_) 0 (Nat.zero_le _) () _ _ ls hI
  · obtain ⟨q, p, k, f1, f2, f3, f, hm, hT, hPX, hPM, hS, hl⟩ := hI
    refine lv_iload_n hx hb dL_law_18 rfl (lv_at hl 0 rfl) ?_
    refine lv_aload_n hx hb dL_law_19 rfl (lv_at hl 3 rfl) ?_
    refine va_slen hx hb hXs hbl (Nat.not_le.mpr hbl) hS dL_law_20 ?_
    refine lv_iconst (v := nI 3) hx hb dL_law_21 (by decide) ?_
    refine lv_isub hx hb dL_law_22 ?_
    refine lv_icmp_gt (tgt := 411) hx hb dL_law_23 (by decide) (fun _ => ?_) (fun c_ => False.elim (c_ ((fz_cmp hL (by omega)).mpr (by omega))))
    refine lv_iconst (v := 1) hx hb dL_law_411 (by decide) ?_
    refine va_forget hS.2.2 ?_
    refine W.widen (k := 600000) (n := 7290000) (Nat.le_of_ble_eq_true rfl) (Nat.le_of_ble_eq_true rfl) ?_
    exact lw_ret hx hb hr hlocks dL_law_412
  · have hj3 : 3 * j + 3 ≤ L := by omega
    have k405 : ∀ (H : Heap) (locs : List Loc) (ls : Array Slot), lw_I D h h1 h2 h3 d1 d2 d3 hM hd dd b s j H locs ls → W P l e room_1 s m #[Value.ref b] below meth c H locs 6 275 (lw_Z below #[Value.ref b] s) (F0 m 405 ls []) := by
      intro H locs ls hI
      obtain ⟨q, p, k, f1, f2, f3, f, hm, hT, hPX, hPM, hS, hl⟩ := hI
      refine lv_iinc (v := nI (3 * (j + 1))) (lv' := [(3, .int (nI (3 * (j + 1)))), (2, .ref hM), (1, .ref h), (0, .ref b)]) hx hb dL_law_405 hl (k := 0) rfl (nI_add (3 * j) 3) (by decide) rfl (fun ls hl => ?_)
      refine lv_goto (tgt := 18) hx hb dL_law_408 (by decide) ?_
      exact ih () _ _ ls ⟨q, p, k, f1, f2, f3, f, hm, hT, hPX, hPM, hS, hl⟩
    have hI0 := hI
    obtain ⟨q, p, k, f1, f2, f3, f, hm, hT, hPX, hPM, hS, hl⟩ := hI
    refine lv_iload_n hx hb dL_law_18 rfl (lv_at hl 0 rfl) ?_
    refine lv_aload_n hx hb dL_law_19 rfl (lv_at hl 3 rfl) ?_
    refine va_slen hx hb hXs hbl (Nat.not_le.mpr hbl) hS dL_law_20 ?_
    refine lv_iconst (v := nI 3) hx hb dL_law_21 (by decide) ?_
    refine lv_isub hx hb dL_law_22 ?_
    refine lv_icmp_gt (tgt := 411) hx hb dL_law_23 (by decide) (fun c_ => False.elim (absurd ((fz_cmp hL (by omega)).mp c_) (by omega))) (fun _ => ?_)
    refine lv_aload_n hx hb dL_law_26 rfl (lv_at hl 3 rfl) ?_
    refine lv_iload_n hx hb dL_law_27 rfl (lv_at hl 0 rfl) ?_
    refine fz_sld hx hb hXs hbl hS (by omega) hL dL_law_28 ?_
    refine lv_bipush (v := nI 15) hx hb dL_law_29 (by decide) ?_
    refine lv_iand hx hb dL_law_31 ?_
    obtain ⟨t, ht, et⟩ := pk_andE (xs (3 * j)) (m := nI 15) 4 (by decide)
    refine fz_top et ?_
    rcases (show t = 0 ∨ t = 1 ∨ t = 2 ∨ t = 3 ∨ t = 4 ∨ t = 5 ∨ t = 6 ∨ t = 7 ∨ t = 8 ∨ t = 9 ∨ t = 10 ∨ 11 ≤ t by omega) with rfl | rfl | rfl | rfl | rfl | rfl | rfl | rfl | rfl | rfl | rfl | h11
    · refine lv_tableIn (off := 60) (tgt := 92) hx hb dL_law_32 (by decide) (by decide) (by decide) (by decide) ?_
      exact law_c0 hL hx hb hml hown hts hXs hbl hne hneM hAX hAM hsep hKX hKM hj3 k405 _ _ ls hI0
    · refine lv_tableIn (off := 83) (tgt := 115) hx hb dL_law_32 (by decide) (by decide) (by decide) (by decide) ?_
      exact law_c1 hL hx hb hml hown hts hXs hbl hne hneM hAX hAM hsep hKX hKM hj3 k405 _ _ ls hI0
    · refine lv_tableIn (off := 116) (tgt := 148) hx hb dL_law_32 (by decide) (by decide) (by decide) (by decide) ?_
      exact law_c2 hL hx hb hml hown hts hXs hbl hne hneM hAX hAM hsep hKX hKM hj3 k405 _ _ ls hI0
    · refine lv_tableIn (off := 149) (tgt := 181) hx hb dL_law_32 (by decide) (by decide) (by decide) (by decide) ?_
      exact law_c3 hL hx hb hml hown hts hXs hbl hne hneM hAX hAM hsep hKX hKM hj3 k405 _ _ ls hI0
    · refine lv_tableIn (off := 172) (tgt := 204) hx hb dL_law_32 (by decide) (by decide) (by decide) (by decide) ?_
      exact law_c4 hL hx hb hml hown hts hXs hbl hne hneM hAX hAM hsep hKX hKM hj3 k405 _ _ ls hI0
    · refine lv_tableIn (off := 205) (tgt := 237) hx hb dL_law_32 (by decide) (by decide) (by decide) (by decide) ?_
      exact law_c5 hL hx hb hml hown hts hXs hbl hne hneM hAX hAM hsep hKX hKM hj3 k405 _ _ ls hI0
    · refine lv_tableIn (off := 228) (tgt := 260) hx hb dL_law_32 (by decide) (by decide) (by decide) (by decide) ?_
      exact law_c6 hL hx hb hml hown hts hXs hbl hne hneM hAX hAM hsep hKX hKM hj3 k405 _ _ ls hI0
    · refine lv_tableIn (off := 251) (tgt := 283) hx hb dL_law_32 (by decide) (by decide) (by decide) (by decide) ?_
      exact law_c7 hL hx hb hml hown hts hXs hbl hne hneM hAX hAM hsep hKX hKM hj3 k405 _ _ ls hI0
    · refine lv_tableIn (off := 284) (tgt := 316) hx hb dL_law_32 (by decide) (by decide) (by decide) (by decide) ?_
      exact law_c8 hL hx hb hml hown hts hXs hbl hne hneM hAX hAM hsep hKX hKM hj3 k405 _ _ ls hI0
    · refine lv_tableIn (off := 317) (tgt := 349) hx hb dL_law_32 (by decide) (by decide) (by decide) (by decide) ?_
      exact law_c9 hL hx hb hml hown hts hXs hbl hne hneM hAX hAM hsep hKX hKM hj3 k405 _ _ ls hI0
    · refine lv_tableIn (off := 340) (tgt := 372) hx hb dL_law_32 (by decide) (by decide) (by decide) (by decide) ?_
      exact law_c10 hL hx hb hml hown hts hXs hbl hne hneM hAX hAM hsep hKX hKM hj3 k405 _ _ ls hI0
    · refine lv_tableOut (tgt := 405) hx hb dL_law_32 (Or.inr (by rw [nI_toInt (by omega)]; omega)) (by decide) ?_
      exact k405 _ _ ls hI0
theorem fz_classes {s0 : State} {b0 : Addr} (ht0 : ∀ w ∈ lw_tbl, w.before #[Value.ref b0] s0 = true) : ∃ (dC : Nat → ClassId) (dI : Nat → Nat → Nat), ∀ (k : Nat) (q : vw_C), vwCl[k]? = some q → u_Kn s0 q.1 q.2.1 q.2.2 (dC k) (dI k) := by
  obtain ⟨c0_, iS0, hKn0⟩ := u_known (C := RX0) (T := TX0) (N := 6) (n := 6) ht0 (fun w h => lw_all_tbl (in_X0 w h)) (ht0 _ (lw_all_tbl q21))
  obtain ⟨c1_, iS1, hKn1⟩ := u_known (C := RX1) (T := TX1) (N := 4) (n := 4) ht0 (fun w h => lw_all_tbl (in_X1 w h)) (ht0 _ (lw_all_tbl q132))
  refine ⟨fun k => if k = 0 then c0_ else c1_, fun k => if k = 0 then iS0 else iS1, ?_⟩
  intro k q hq
  match k, hq with
  | 0, hq => cases hq; exact hKn0
  | 1, hq => cases hq; exact hKn1
  | k + 2, hq => simp [vwCl] at hq
set_option maxHeartbeats 4000000 in
set_option maxRecDepth 100000 in
theorem whole_start {p : Program} {e : Env} {s : State} {m : MethodId} {below : List Frame} {meth : Method} {c : Code} (l : Launch) {b L : Nat} {xs : Nat → Int32} (hL : L ≤ 192) (C0 : lw_At p s m meth c b L xs) : W p l e room_1 s m #[Value.ref b] below meth c s.heap [] 0 0 (lw_Z below #[Value.ref b] s) (entryFrame m ([Value.ref b] : List Value).toArray 4) := by
  obtain ⟨hx, hb, hr, hml, hown, hts0, hXs, hbl, hlocks, -⟩ := C0
  have hts : ∀ w ∈ lw_all, w.before #[Value.ref b] s = true := fun w h => hts0 w (lw_all_tbl h)
  obtain ⟨dC, dI, hKc⟩ := fz_classes hts0
  have hK : va_K (dC, dI) vwCl [] s := ⟨hKc, fun k q z => by simp at z⟩
  have hP : va_P (dC, dI) vwCl [] s.heap := fun k q z => by simp at z
  have hD : va_D (fun a => s.heap.size ≤ a) [] := ⟨fun i j x y z => by simp at z, fun k q z => by simp at z⟩
  have hA : ∀ q : Nat, s.heap.size ≤ q → (fun a => s.heap.size ≤ a) q := fun q z => z
  have hS : va_S (fun a => s.heap.size ≤ a) s.heap s.heap [] := va_S.rf
  have hl := lv_entry ([.ref b]) (n := 4) (Nat.le_of_ble_eq_true rfl)
  rw [lg_entry_eq]
  generalize (lg_sl ([.ref b]) ++ List.replicate (4 - (lg_sl ([.ref b])).length) Slot.unset).toArray = ls at hl ⊢
  have hl : lv_has ls 4 [(0, .ref b)] := hl
  refine va_new (ci := 0) (fs := [.int (nI 0), .int (nI 0), .int (nI 0), .null, .null, .null]) (C := RX0) (T := TX0) (N := 6) hx hb hts in_X0 tyX0 tyX0_ok hown (hts _ q20) (hts _ q21) (hts _ q18) hK hP hD hS hA rfl (fun j hj => by rcases (show j = 0 ∨ j = 1 ∨ j = 2 ∨ j = 3 ∨ j = 4 ∨ j = 5 by omega) with rfl | rfl | rfl | rfl | rfl | rfl <;> rfl) (Nat.le_of_ble_eq_true rfl) (Nat.le_of_ble_eq_true rfl) dL_law_0 (fun h H hP hD hS => ?_)
  have hP : va_P (dC, dI) vwCl [(h, .inr (0, [.int (nI 0), .int (nI 0), .int (nI 0), .null, .null, .null]))] H := hP
  have hD : va_D (fun a => s.heap.size ≤ a) [(h, .inr (0, [.int (nI 0), .int (nI 0), .int (nI 0), .null, .null, .null]))] := hD
  have hh : s.heap.size ≤ h := hD.2 0 _ rfl
  refine lv_dup hx hb dL_law_3 rfl ?_
  have hFr : ∀ q, fz_AI h H.size q → s.heap.size ≤ q := fun q z => by
      rcases z with z | z
      · rw [z]; exact hh
      · exact Nat.le_trans hS.1 z
  refine va_callv (va_runI (As := []) (rest := [.ref h]) ⟨hx, hb, hml, hown, hts⟩ (mX0_init l (D := (dC, dI)) (h := h) (sz := H.size)) (cwI 0 hts (lw_meth q24) rfl rfl rfl (hts _ q18) (hts _ q22) (hts _ q23) rfl (by decide +kernel) ⟨Nat.le_of_ble_eq_true rfl, Nat.le_of_ble_eq_true rfl⟩) ⟨fun a U g mk q => by obtain ⟨q0, q1, qP, qK⟩ := q; exact ⟨q0, q1, qP, va_K.moved (u := U) (U := U.calling g mk a) (Vm.Alike.refl U.vm) qK⟩, fun U hU hW => ⟨rfl, by rw [hU], by rw [hU]; exact hP, va_K.moved hW.alike hK⟩⟩ rfl rfl hl.1 rfl (lv_room (Nat.le_of_ble_eq_true rfl)) dL_law_4 ⟨Nat.le_of_ble_eq_true rfl, Nat.le_of_ble_eq_true rfl⟩) hS (fun q _ z => hFr q z) hFr (fun u t H1 locs ht hvm _ hB hz1 hk1 hS1 => ?_)
  obtain ⟨h1, h2, h3, d1, d2, d3, f1, f2, f3, hne, hT, hn3, hPX, hKX⟩ := hB
  rw [ht] at hPX
  have hKX := va_K.moved hvm.symm hKX
  have hAX : ∀ a, fz_AX h h1 h2 h3 a → s.heap.size ≤ a := fun a z => by
      have z2 := hS.1
      rcases z with z | z | z | z <;> omega
  have hS := hS1
  generalize H1 = H at hPX hS ⊢
  refine lv_astore_n (lv' := [(1, .ref h), (0, .ref b)]) hx hb dL_law_7 rfl hl (by decide) rfl (fun ls hl => ?_)
  have hDX : va_D (fun a => s.heap.size ≤ a) (fz_wX h h1 h2 h3 d1 d2 d3 64 2 6 f1 f2 f3) := (fz_dX hne).weaken (fun _ _ _ z => hAX _ z)
  refine va_new (ci := 1) (fs := [.int (nI 0), .int (nI 0), .int (nI 0), .null]) (C := RX1) (T := TX1) (N := 4) hx hb hts in_X1 tyX1 tyX1_ok hown (hts _ q131) (hts _ q132) (hts _ q19) hKX hPX hDX hS hA rfl (fun j hj => by rcases (show j = 0 ∨ j = 1 ∨ j = 2 ∨ j = 3 by omega) with rfl | rfl | rfl | rfl <;> rfl) (Nat.le_of_ble_eq_true rfl) (Nat.le_of_ble_eq_true rfl) dL_law_8 (fun hM H hP hD hS => ?_)
  have hPX := hP.sub (ws' := fz_wX h h1 h2 h3 d1 d2 d3 64 2 6 f1 f2 f3) [0, 1, 2, 3] rfl
  have hPM := hP.sub (ws' := [(hM, .inr (1, [.int (nI 0), .int (nI 0), .int (nI 0), .null]))]) [4] rfl
  have hhM : s.heap.size ≤ hM := hD.2 4 _ rfl
  have hMX : ∀ a, fz_AX h h1 h2 h3 a → a ≠ hM := fun a z y => by
      rcases z with z | z | z | z
      · exact absurd (hD.1 0 4 _ _ rfl rfl (z.symm.trans y)) (by decide)
      · exact absurd (hD.1 1 4 _ _ rfl rfl (z.symm.trans y)) (by decide)
      · exact absurd (hD.1 2 4 _ _ rfl rfl (z.symm.trans y)) (by decide)
      · exact absurd (hD.1 3 4 _ _ rfl rfl (z.symm.trans y)) (by decide)
  refine lv_dup hx hb dL_law_11 rfl ?_
  have hFr : ∀ q, fz_AI hM H.size q → s.heap.size ≤ q := fun q z => by
      rcases z with z | z
      · rw [z]; exact hhM
      · exact Nat.le_trans hS.1 z
  have hK0 : va_K (dC, dI) vwCl [] s := hK
  refine va_callv (va_runI (As := []) (rest := [.ref hM]) ⟨hx, hb, hml, hown, hts⟩ (mX1_init l (D := (dC, dI)) (h := hM) (sz := H.size)) (cwI 0 hts (lw_meth q135) rfl rfl rfl (hts _ q19) (hts _ q133) (hts _ q134) rfl (by decide +kernel) ⟨Nat.le_of_ble_eq_true rfl, Nat.le_of_ble_eq_true rfl⟩) ⟨fun a U g mk q => by obtain ⟨q0, q1, qP, qK⟩ := q; exact ⟨q0, q1, qP, va_K.moved (u := U) (U := U.calling g mk a) (Vm.Alike.refl U.vm) qK⟩, fun U hU hW => ⟨rfl, by rw [hU], by rw [hU]; exact hPM, va_K.moved hW.alike hK0⟩⟩ rfl rfl hl.1 rfl (lv_room (Nat.le_of_ble_eq_true rfl)) dL_law_12 ⟨Nat.le_of_ble_eq_true rfl, Nat.le_of_ble_eq_true rfl⟩) hS (fun q _ z => hFr q z) hFr (fun u t H1 locs ht hvm _ hB hz1 hk1 hS1 => ?_)
  obtain ⟨hd, dd, f, hneM, hn4, hPM1, hKM⟩ := hB
  rw [ht] at hPM1
  have hKM := va_K.moved hvm.symm hKM
  have hAM : ∀ a, fz_AM hM hd a → s.heap.size ≤ a := fun a z => by
      have z2 := hS.1
      rcases z with z | z <;> omega
  have hlt : ∀ a, fz_AX h h1 h2 h3 a → a < H.size := fun a z => by
      rcases z with z | z | z | z
      · rw [z]; exact (hPX 0 _ rfl).lt
      · rw [z]; exact (hPX 1 _ rfl).lt
      · rw [z]; exact (hPX 2 _ rfl).lt
      · rw [z]; exact (hPX 3 _ rfl).lt
  have hsep : ∀ a, fz_AX h h1 h2 h3 a → ¬ fz_AM hM hd a := fun a z y => by
      have z2 := hlt a z
      rcases y with y | y
      · exact hMX a z y
      · omega
  have hPX := fz_keepX hPX (fun a z z2 y => by
      rcases y with y | y
      · exact hMX a z y
      · omega) hk1
  have hS := hS1
  generalize H1 = H at hPX hPM1 hS ⊢
  refine lv_astore_n (lv' := [(2, .ref hM), (1, .ref h), (0, .ref b)]) hx hb dL_law_15 rfl hl (by decide) rfl (fun ls hl => ?_)
  refine lv_iconst (v := nI 0) hx hb dL_law_16 (by decide) ?_
  refine lv_istore_n (lv' := [(3, .int (nI 0)), (2, .ref hM), (1, .ref h), (0, .ref b)]) hx hb dL_law_17 rfl hl (by decide) rfl (fun ls hl => ?_)
  refine W.widen (k := 6) (n := 275) (Nat.le_of_ble_eq_true rfl) (Nat.le_of_ble_eq_true rfl) ?_
  exact law_loop hL hx hb hml hown hts hXs hbl hne hneM hAX hAM hsep hKX hKM hr hlocks _ _ ls ⟨64, 2, 6, f1, f2, f3, f, Or.inl ⟨rfl, rfl, rfl⟩, hT, hPX, hPM1, hS, hl⟩
end
section
set_option maxHeartbeats 4000000 in
theorem lw_walk (l : Launch) (b : Addr) (xs : List Int32) : MetFree l x (headSpec (Jvm.Cond.code x code maxLocals ret :: tables_1) room_1) (lw_P b xs) (fun _ _ _ _ _ => True) lw_Q := by
  refine MetFree.of_bodyS (code := code) (maxLocals := maxLocals) (ret := ret) (by decide) ?_ ?_
  · intro args s m h hn
    obtain ⟨meth, c, h1, h2, h3, h4, h5, h6, -, -⟩ := Cond.code_spec hn (atoms_spec (ws := Jvm.Cond.code x code maxLocals ret :: tables_1) h _ List.mem_cons_self)
    exact ⟨meth, c, h1, h2, h3, h4, h5, h6⟩
  · intro p e s m args below meth c s₁ B hml0 hP _
    obtain ⟨rfl, hx, hbd, hgv⟩ := hP
    obtain ⟨scr, harrAt, hlist, hof, hsmall⟩ := hx
    obtain ⟨hcb, hkn, -, -⟩ := State.arrayAt?_spec harrAt
    have hown : s.vm.findClass R_law = some m.cls := findClass_of_methodNamed B.named
    have hts0 : ∀ c ∈ (Jvm.Cond.code x code maxLocals ret :: tables_1), c.before #[Value.ref b] s = true := atoms_spec (ws := Jvm.Cond.code x code maxLocals ret :: tables_1) B.pre
    have hts : ∀ w ∈ lw_tbl, w.before #[Value.ref b] s = true := k2_hts_sels lw_privs (fun w hw => hts0 w (List.mem_cons_of_mem _ hw)) lw_privs_ok
    have hml : c.maxLocals = 4 := B.maxLocals_eq (hts0 _ List.mem_cons_self)
    have X₀ : Stand p l e room_1 s m #[Value.ref b] below meth c s₁ [] 0 0 := Stand.of_body B
    have hh0 : s₁.heap = s.heap := by rw [B.state]; rfl
    have hsz : scr.slots.size = xs.length := by rw [← Array.length_toList, hlist, List.length_map]
    have hval : ∀ j : Nat, j < xs.length → scr.slots[j]? = some (.int (xs.getD j 0)) := fun j hj => by
      rw [← Array.getElem?_toList, hlist]
      simp [hj]
    have hbl : b < s.heap.size := (Array.getElem?_eq_some_iff.mp hcb).1
    have hX : va_X b xs.length (fun j => xs.getD j 0) s s.heap := ⟨scr, hcb, hof, hkn, hsz, hval⟩
    have K : W p l e room_1 s m #[Value.ref b] below meth c s₁.heap [] 0 0 (lw_Z below #[Value.ref b] s) (entryFrame m ([Value.ref b] : List Value).toArray 4) := by
      rw [hh0]
      exact whole_start l hbd ⟨B.exec, B.bytes, B.returns, hml, hown, hts, hX, hbl, B.notSynchronized, hgv⟩
    obtain ⟨t, a1, o, b1, b2, b3⟩ := K s₁ rfl X₀
    exact ⟨t, o, a1, b1, b2, b3⟩
theorem lw_pre_spec {args : Array Value} {s : State} (h : (Jvm.Cond.and given_1 narrow_1).before args s = true) (hr : rest_1_c.before args s = true) : ∃ (b : Addr) (xs : List Int32), lw_P b xs args s := by
  have hs := flat_of_before _ h
  have hq := flat_of_before _ hr
  have hc : (Cond.count 1).before args s = true := hs _ (by decide +kernel)
  have harr : (Cond.arrayOf (.arg 0) .int).before args s = true := hs _ (by decide +kernel)
  have hle : (Cond.le (.length (.arg 0)) (.int 192)).before args s = true := hs _ (by decide +kernel)
  have hlen : (Cond.isInt (.length (.arg 0))).before args s = true := hq _ (by decide +kernel)
  have hall : (Cond.all (.arg 0) (.isInt (.elem (.arg 0) (.index 0)))).before args s = true := hq _ (by decide +kernel)
  obtain ⟨b, xs, hb, hx⟩ := State.ints_of_pre rfl harr hlen hall
  have hsm : xs.length < 2 ^ 31 := hx.choose_spec.2.2.2
  have hev : (Term.length (.arg 0)).eval args s none [] s = some (.int xs.length.toInt32) := hx.length_eval hb
  have hv := Cond.le_ints hev (show (Term.int 192).eval args s none [] s = some (.int 192) from rfl)
  have hd : xs.length.toInt32 ≤ 192 := by
    simpa [Cond.before, Cond.holds, hv] using hle
  have hN : xs.length ≤ 192 := (Int32.ofNat_le_ofNat hsm (by decide)).mp (show Int32.ofNat xs.length ≤ Int32.ofNat 192 from hd)
  exact ⟨b, xs, Cond.one_arg hc (show args[0]? = some (.ref b) from hb), hx, hN, h⟩
theorem lw_comes (l : Launch) : Comes l x (Jvm.Cond.code x code maxLocals ret :: tables_1) room_1 (fun tb e args s => Calls_1 tb e args s ∧ rest_1 tb e args s ∧ Pre_1 tb e args s)
    (fun _ _ args s o t => lw_Q args s o t) := by
  intro p e ha hc hk s m args below hf hfit hheap happ hpre
  obtain ⟨b, xs, hP⟩ := lw_pre_spec hpre.2.2 hpre.2.1
  obtain ⟨k, o, h1, h2, h3, hQ⟩ := lw_walk l b xs p e ha hc hk s m args below hf ((Spec.applies_iff_loose hf).mp happ).1 hP trivial
  exact ⟨k, o, h1, h2, h3, hQ⟩
theorem lw_frame {s t : State} {o : Outcome} {args : Array Value} (h : Framed s o t [] 600000 7290000) :
    Framed s o t (fieldLocs frame_1_writes args s ++ arrayLocs frame_1_arrays args s ++ staticLocs frame_1_statics s) 600000 7290000 := h
theorem lw_limb (L : Cond) (hL : ∀ (args : Array Value) (s t : State), L.after args s (.returned (some (.int 1))) t = true) :
    ArmFor flags0 classFile x code maxLocals ret World_1 tables_1 room_1 Calls_1 rest_1 Pre_1
      (fun tb e a s o t => postC L tb e a s o t ∧ Framed s o t (fieldLocs frame_1_writes a s ++ arrayLocs frame_1_arrays a s ++ staticLocs frame_1_statics s) 600000 7290000) := by
  intro l _ _ _ p e ha hc hk s m args below hf hfit hheap happ hpre
  obtain ⟨k, o, h1, h2, h3, rfl, hF⟩ := lw_comes l p e ha hc hk s m args below hf hfit hheap happ hpre
  exact ⟨k, _, h1, h2, h3, hL args s _, lw_frame hF⟩
theorem i_vc : Claimed_1_1 ∧ Claimed_1_2 := ⟨lw_limb limb_1_1 (fun args s t => by simp [limb_1_1, Cond.after, Cond.holds, Cond.value]), lw_limb limb_1_2 (fun args s t => Cond.after_iff.mpr (by
  first | (rw [show limb_1_2 = Cond.eq .result (.int 1) from rfl, Cond.eq_ints (x := 1) (y := 1) rfl rfl]; simp; done) | (simp [limb_1_2, Cond.value, Term.eval]; done)))⟩
end
